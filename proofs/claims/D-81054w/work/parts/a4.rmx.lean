/-! Trees that run, in the model's tables. -/
/-- the u-th use of a class whose first one is n0, in the model -/
abbrev muN (b n0 u : Nat) : Int32 := nI (1800 * b + (n0 + u))
/-- an E hangs at v, in slot b -/
def RMx (σ : Sg) (b n0 : Nat) : RT → Int32 → Prop
  | .leaf, v => v = -2
  | .inner _ c _ x y, v => ∃ q, v = nI (b * 1700 + q) ∧ q < 1700 ∧
    (c.op = 0 → RMx σ b n0 x v ∧ RMx σ b n0 y (σ.I 2180 0 (b * 1700 + q))) ∧
    (c.op = 1 → (σ.I 2170 0 (b * 1700 + q) = 0 ∧ σ.I 2181 0 (b * 1700 + q) = c.va) ∨ (σ.I 2170 0 (b * 1700 + q) = 1 ∧ c.va = 0) ∨ ((σ.I 2170 0 (b * 1700 + q) = 3 ∨ σ.I 2170 0 (b * 1700 + q) = 5) ∧ σ.I 2182 0 (b * 1700 + q) = -10 ∧ σ.I 2181 0 (b * 1700 + q) = c.va)) ∧
    (c.op = 2 → σ.I 2170 0 (b * 1700 + q) = 3 ∧ σ.I 2182 0 (b * 1700 + q) = nI c.pl ∧ c.pl < 1000) ∧
    (c.op = 3 → σ.I 2170 0 (b * 1700 + q) = 2) ∧
    (c.op = 4 → (σ.I 2170 0 (b * 1700 + q) = 3 ∨ σ.I 2170 0 (b * 1700 + q) = 5) ∧ σ.I 2182 0 (b * 1700 + q) = -11 ∧ σ.I 2187 0 (b * 1700 + q) = muN b n0 c.u1) ∧
    (c.op = 5 → σ.I 2170 0 (b * 1700 + q) = 3 ∧ σ.I 2182 0 (b * 1700 + q) = -12 ∧ σ.I 2187 0 (b * 1700 + q) = muN b n0 c.u1) ∧
    (c.op = 6 → σ.I 2170 0 (b * 1700 + q) = 12 ∧ σ.I 2187 0 (b * 1700 + q) = muN b n0 c.u1 ∧ RMx σ b n0 x (σ.I 2177 0 (b * 1700 + q))) ∧
    (c.op = 7 → σ.I 2170 0 (b * 1700 + q) = 11 ∧ RMx σ b n0 x (σ.I 2177 0 (b * 1700 + q))) ∧
    (c.op = 8 → σ.I 2170 0 (b * 1700 + q) = 14 ∧ σ.I 2187 0 (b * 1700 + q) = muN b n0 c.u1 ∧ RMx σ b n0 x (σ.I 2177 0 (b * 1700 + q))) ∧
    (c.op = 9 → σ.I 2170 0 (b * 1700 + q) = 10 ∧ σ.I 2187 0 (b * 1700 + q) = muN b n0 c.u1 ∧ σ.L 2175 0 (b * 1700 + q) = tM c.ty ∧ RMx σ b n0 x (σ.I 2177 0 (b * 1700 + q))) ∧
    (c.op = 10 → σ.I 2170 0 (b * 1700 + q) = nI (mNk c.wh) ∧ (12 ≤ c.wh ∧ c.wh ≤ 16) ∧ RMx σ b n0 x (σ.I 2177 0 (b * 1700 + q)) ∧ RMx σ b n0 y (σ.I 2178 0 (b * 1700 + q))) ∧
    (c.op = 11 → (σ.I 2170 0 (b * 1700 + q) = 4 ∨ σ.I 2170 0 (b * 1700 + q) = 6) ∧ σ.I 2187 0 (b * 1700 + q) = muN b n0 c.u1 ∧ RMx σ b n0 y (σ.I 2178 0 (b * 1700 + q))) ∧
    (c.op = 12 → σ.I 2170 0 (b * 1700 + q) = 4 ∧ σ.I 2187 0 (b * 1700 + q) = muN b n0 c.u1 ∧ RMx σ b n0 y (σ.I 2178 0 (b * 1700 + q))) ∧
    (c.op = 13 → (σ.I 2170 0 (b * 1700 + q) = 7 ∨ σ.I 2170 0 (b * 1700 + q) = 8) ∧ σ.I 2187 0 (b * 1700 + q) = muN b n0 c.u1 ∧ RMx σ b n0 y (σ.I 2178 0 (b * 1700 + q))) ∧
    (c.op = 14 → σ.I 2170 0 (b * 1700 + q) = 13 ∧ σ.I 2187 0 (b * 1700 + q) = muN b n0 c.u1 ∧ RMx σ b n0 x (σ.I 2177 0 (b * 1700 + q)) ∧ RMx σ b n0 y (σ.I 2178 0 (b * 1700 + q))) ∧
    (c.op = 15 → σ.I 2170 0 (b * 1700 + q) = 9 ∧ σ.I 2187 0 (b * 1700 + q) = muN b n0 c.u1 ∧ σ.I 2188 0 (b * 1700 + q) = muN b n0 c.u2 ∧ σ.L 2175 0 (b * 1700 + q) = tM c.ty ∧ RMx σ b n0 y (σ.I 2178 0 (b * 1700 + q)))
/-- an S hangs at v -/
def RMs (σ : Sg) (b n0 : Nat) : RT → Int32 → Prop
  | .leaf, v => v = -2
  | .inner _ c _ x y, v => ∃ q, v = nI (b * 1700 + q) ∧ q < 1700 ∧
    (c.op = 0 → RMs σ b n0 x v ∧ RMs σ b n0 y (σ.I 2180 0 (b * 1700 + q))) ∧
    (c.op = 41 → RMs σ b n0 x (σ.I 2178 0 (b * 1700 + q)) ∧ RMs σ b n0 y (σ.I 2179 0 (b * 1700 + q))) ∧
    (c.op = 30 → σ.I 2170 0 (b * 1700 + q) = 20 ∧ RMs σ b n0 x (σ.I 2177 0 (b * 1700 + q))) ∧
    (c.op = 31 → σ.I 2170 0 (b * 1700 + q) = 21 ∧ σ.I 2182 0 (b * 1700 + q) = nI c.pl ∧ RMx σ b n0 x (σ.I 2177 0 (b * 1700 + q))) ∧
    (c.op = 32 → σ.I 2170 0 (b * 1700 + q) = 22 ∧ RMx σ b n0 x (σ.I 2177 0 (b * 1700 + q)) ∧ RMs σ b n0 y v) ∧
    (c.op = 33 → σ.I 2170 0 (b * 1700 + q) = 23 ∧ RMx σ b n0 x (σ.I 2177 0 (b * 1700 + q)) ∧ RMs σ b n0 y v) ∧
    (c.op = 34 → σ.I 2170 0 (b * 1700 + q) = 24 ∧ RMx σ b n0 x (σ.I 2177 0 (b * 1700 + q))) ∧
    (c.op = 35 → σ.I 2170 0 (b * 1700 + q) = 25 ∧ RMx σ b n0 x (σ.I 2177 0 (b * 1700 + q))) ∧
    (c.op = 36 → σ.I 2170 0 (b * 1700 + q) = 26 ∧ σ.I 2182 0 (b * 1700 + q) = nI c.pl ∧ σ.I 2187 0 (b * 1700 + q) = muN b n0 c.u1 ∧ σ.L 2175 0 (b * 1700 + q) = tM c.ty ∧ RMs σ b n0 x (σ.I 2177 0 (b * 1700 + q)) ∧ RMs σ b n0 y (σ.I 2178 0 (b * 1700 + q))) ∧
    (c.op = 37 → σ.I 2170 0 (b * 1700 + q) = 27 ∧ RMx σ b n0 x (σ.I 2177 0 (b * 1700 + q))) ∧
    (c.op = 38 → σ.I 2170 0 (b * 1700 + q) = 28 ∧ (c.wh = 0 → σ.I 2187 0 (b * 1700 + q) = -2 ∧ σ.I 2177 0 (b * 1700 + q) = -2) ∧ (¬ c.wh = 0 → σ.I 2187 0 (b * 1700 + q) = muN b n0 c.u1 ∧ RMx σ b n0 x (σ.I 2177 0 (b * 1700 + q)))) ∧
    (c.op = 39 → σ.I 2170 0 (b * 1700 + q) = 29 ∧ RMx σ b n0 x (σ.I 2177 0 (b * 1700 + q))) ∧
    (40 ≤ c.op ∧ ¬ c.op = 41 → σ.I 2170 0 (b * 1700 + q) = 30 ∧ RMx σ b n0 y (σ.I 2178 0 (b * 1700 + q)) ∧ ∃ r, σ.I 2177 0 (b * 1700 + q) = nI (b * 1700 + r) ∧ r < 1700 ∧
      (c.op = 40 → σ.I 2170 0 (b * 1700 + r) = 3 ∧ σ.I 2182 0 (b * 1700 + r) = nI c.pl ∧ c.pl < 1000) ∧
      (c.op = 42 → ¬ σ.I 2170 0 (b * 1700 + r) = 12 ∧ (σ.I 2182 0 (b * 1700 + r) = -11 ∨ σ.I 2182 0 (b * 1700 + r) = -10) ∧ σ.I 2187 0 (b * 1700 + q) = muN b n0 c.u1) ∧
      (c.op = 43 → ¬ σ.I 2170 0 (b * 1700 + r) = 12 ∧ σ.I 2182 0 (b * 1700 + r) = -12 ∧ σ.I 2187 0 (b * 1700 + q) = muN b n0 c.u1) ∧
      (c.op = 44 → σ.I 2170 0 (b * 1700 + r) = 12 ∧ σ.I 2182 0 (b * 1700 + r) = -12 ∧ σ.I 2187 0 (b * 1700 + q) = muN b n0 c.u1 ∧ RMx σ b n0 x (σ.I 2177 0 (b * 1700 + r))))
/-- the nodes of slot b are the same -/
def NdSm (b : Nat) (σ s : Sg) : Prop := ∀ q, q < 1700 → (∀ c, 2169 < c → c ≤ 2188 → s.I c 0 (b * 1700 + q) = σ.I c 0 (b * 1700 + q)) ∧ s.L 2175 0 (b * 1700 + q) = σ.L 2175 0 (b * 1700 + q)
theorem RMx.mv {σ s : Sg} {b n0 : Nat} (h : NdSm b σ s) : ∀ (x : RT) (v : Int32), RMx σ b n0 x v → RMx s b n0 x v := sorry
theorem RMs.mv {σ s : Sg} {b n0 : Nat} (h : NdSm b σ s) : ∀ (x : RT) (v : Int32), RMs σ b n0 x v → RMs s b n0 x v := sorry
