/-! What the grammar's trees are like: shape, levels, the tokens that they take. -/
/-- modes: 0 an E, 1 arguments, 2 an S, 3 a row of S, 4 a pair of S, 5 an E or nothing, 6 an S or nothing; its level; the tokens from a on, below e -/
def wt : Tr → Nat → Nat → Nat → Nat → Prop
  | .leaf, m, _, a, e => (m = 1 ∨ m = 3 ∨ m = 5 ∨ m = 6) ∧ a ≤ e
  | .inner _ b _ x y, m, w, a, e => w ≤ 12 ∧
    ((m = 1 ∧ b.1 = 0 ∧ ∃ i, wt x 0 w a i ∧ wt y 1 w (i + 1) e) ∨ (m = 3 ∧ b.1 = 0 ∧ ∃ i, wt x 2 w a i ∧ wt y 3 w i e) ∨ (m = 4 ∧ b.1 = 41 ∧ ∃ i j, i ≤ j ∧ wt x 2 w a i ∧ wt y 6 w j e) ∨
     ((m = 0 ∨ m = 5) ∧ b.2.1 = a ∧ a < e ∧ (1 ≤ b.1 ∧ b.1 ≤ 20) ∧ (b.1 = 6 → a + 3 ≤ e) ∧ (b.1 = 11 → wt x 0 (w + 1) (a + 3) e) ∧ (b.1 = 20 → ∃ i, wt x 0 (w + 1) (a + 1) i ∧ i + 1 ≤ e) ∧ (12 ≤ b.1 ∧ b.1 ≤ 16 → ∃ i, wt x 0 w a i ∧ wt y 0 w (i + 1) e) ∧ (b.1 = 17 ∨ b.1 = 19 → ∃ i, wt x 0 w a i ∧ i + 2 ≤ e) ∧ (b.1 = 18 → ∃ i, wt x 0 w a i ∧ wt y 1 (w + 1) (i + 3) e) ∧ (b.1 = 5 → wt y 1 (w + 1) (a + 2) e) ∧ (b.1 = 7 ∨ b.1 = 9 → wt y 1 (w + 1) (a + 4) e) ∧ (b.1 = 8 → wt y 1 (w + 1) (a + 6) e) ∧ (b.1 = 10 → wt y 1 (w + 1) (a + 3) e)) ∨
     ((m = 2 ∨ m = 6) ∧ b.2.1 = a ∧ a < e ∧ (30 ≤ b.1 ∧ b.1 ≤ 40) ∧ (b.1 = 30 → ∃ i, wt x 3 (w + 1) (a + 1) i ∧ i + 1 ≤ e) ∧ (b.1 = 31 → ∃ i, wt x 0 (w + 1) (a + 4) i ∧ i + 1 ≤ e) ∧ (b.1 = 32 ∨ b.1 = 33 → ∃ i, wt x 0 (w + 1) (a + 2) i ∧ wt y 4 (w + 1) (i + 1) e) ∧ (b.1 = 34 → ∃ i, wt x 5 (w + 1) (a + 1) i ∧ i + 1 ≤ e) ∧ (b.1 = 35 ∨ b.1 = 37 → ∃ i, wt x 0 (w + 1) (a + 1) i ∧ i + 1 ≤ e) ∧ (b.1 = 36 → ∃ i, wt x 2 (w + 1) (a + 1) i ∧ wt y 2 (w + 1) (i + 5) e) ∧ (b.1 = 38 → ∃ i, wt x 1 (w + 1) (a + 2) i ∧ i + 1 ≤ e) ∧ (b.1 = 39 → ∃ i, wt x 0 (w + 1) a i ∧ i + 1 ≤ e) ∧ (b.1 = 40 → ∃ i j, wt x 0 (w + 1) a i ∧ wt y 0 (w + 1) (i + 1) j ∧ j + 1 ≤ e)))
/-- more tokens behind -/
theorem wt_e {x : Tr} : ∀ {m w a e e' : Nat}, wt x m w a e → e ≤ e' → wt x m w a e' := sorry
/-- the parts of an E -/
def wtX (w a e k : Nat) (x y : Tr) : Prop := (k = 6 → a + 3 ≤ e) ∧ (k = 11 → wt x 0 (w + 1) (a + 3) e) ∧ (k = 20 → ∃ i, wt x 0 (w + 1) (a + 1) i ∧ i + 1 ≤ e) ∧ (12 ≤ k ∧ k ≤ 16 → ∃ i, wt x 0 w a i ∧ wt y 0 w (i + 1) e) ∧ (k = 17 ∨ k = 19 → ∃ i, wt x 0 w a i ∧ i + 2 ≤ e) ∧ (k = 18 → ∃ i, wt x 0 w a i ∧ wt y 1 (w + 1) (i + 3) e) ∧ (k = 5 → wt y 1 (w + 1) (a + 2) e) ∧ (k = 7 ∨ k = 9 → wt y 1 (w + 1) (a + 4) e) ∧ (k = 8 → wt y 1 (w + 1) (a + 6) e) ∧ (k = 10 → wt y 1 (w + 1) (a + 3) e)
/-- the parts of an S -/
def wtY (w a e k : Nat) (x y : Tr) : Prop := (k = 30 → ∃ i, wt x 3 (w + 1) (a + 1) i ∧ i + 1 ≤ e) ∧ (k = 31 → ∃ i, wt x 0 (w + 1) (a + 4) i ∧ i + 1 ≤ e) ∧ (k = 32 ∨ k = 33 → ∃ i, wt x 0 (w + 1) (a + 2) i ∧ wt y 4 (w + 1) (i + 1) e) ∧ (k = 34 → ∃ i, wt x 5 (w + 1) (a + 1) i ∧ i + 1 ≤ e) ∧ (k = 35 ∨ k = 37 → ∃ i, wt x 0 (w + 1) (a + 1) i ∧ i + 1 ≤ e) ∧ (k = 36 → ∃ i, wt x 2 (w + 1) (a + 1) i ∧ wt y 2 (w + 1) (i + 5) e) ∧ (k = 38 → ∃ i, wt x 1 (w + 1) (a + 2) i ∧ i + 1 ≤ e) ∧ (k = 39 → ∃ i, wt x 0 (w + 1) a i ∧ i + 1 ≤ e) ∧ (k = 40 → ∃ i j, wt x 0 (w + 1) a i ∧ wt y 0 (w + 1) (i + 1) j ∧ j + 1 ≤ e)
theorem wt_E {k at_ a1 a2 nm cn w e : Nat} {x y : Tr} (hw : w ≤ 12) (hk : 1 ≤ k ∧ k ≤ 20) (he : at_ < e) (h : wtX w at_ e k x y) : wt (nd (lb k at_ a1 a2 nm cn) x y) 0 w at_ e := sorry
theorem wt_S {k at_ a1 a2 nm cn w e : Nat} {x y : Tr} (hw : w ≤ 12) (hk : 30 ≤ k ∧ k ≤ 40) (he : at_ < e) (h : wtY w at_ e k x y) : wt (nd (lb k at_ a1 a2 nm cn) x y) 2 w at_ e := sorry
theorem wt_w {x : Tr} {m w a e : Nat} (h : wt x m w a e) (hm : m = 0 ∨ m = 2 ∨ m = 4) : w ≤ 12 := sorry
theorem wt_cE {x y : Tr} {w a i e : Nat} (hx : wt x 0 w a i) (hy : wt y 1 w (i + 1) e) : wt (cns x y) 1 w a e := sorry
theorem wt_cS {x y : Tr} {w a i e : Nat} (hx : wt x 2 w a i) (hy : wt y 3 w i e) : wt (cns x y) 3 w a e := sorry
theorem wt_p {x y : Tr} {w a i j e : Nat} (hij : i ≤ j) (hx : wt x 2 w a i) (hy : wt y 6 w j e) : wt (prs x y) 4 w a e := sorry
/-- an E: its first token, what it is made of -/
theorem wt_x {sz : Nat} {b : Lb} {u : Unit} {x y : Tr} {w a e : Nat} (h : wt (Std.DTreeMap.Internal.Impl.inner sz b u x y) 0 w a e) : w ≤ 12 ∧ b.2.1 = a ∧ a < e ∧ (1 ≤ b.1 ∧ b.1 ≤ 20) ∧ wtX w a e b.1 x y := sorry
theorem wt_s {sz : Nat} {b : Lb} {u : Unit} {x y : Tr} {w a e : Nat} (h : wt (Std.DTreeMap.Internal.Impl.inner sz b u x y) 2 w a e) : w ≤ 12 ∧ b.2.1 = a ∧ a < e ∧ (30 ≤ b.1 ∧ b.1 ≤ 40) ∧ wtY w a e b.1 x y := sorry
theorem wt_5 {x : Tr} {w a e : Nat} (h : wt x 0 w a e) : wt x 5 w a e := sorry
theorem wt_6 {x : Tr} {w a e : Nat} (h : wt x 2 w a e) : wt x 6 w a e := sorry
theorem wt_t {x : Tr} {m w a e : Nat} (h : wt x m w a e) (hm : m = 0 ∨ m = 2) : trT x = a ∧ a < e ∧ isT x = true := sorry
