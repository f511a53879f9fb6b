/-! THE MODEL's MACHINE DOES EVERY S AS exS SAYS (the maker above is not called in it). -/
/-- an S is done -/
def SpQ (l : Launch) (G : Gl) (D : Nat) (τ σ : Sg) (C : CalF) (S : StaF) (ff : Env → MSt → Rz Unit) (a fr nL tt ft k b n0 : Nat) (self : Int32) (st : Bool) (Γ : Nat → Int64) (nl : Nat) (mt : Int64) (x : RT) : Prop := ∀ (d : Nat) (Ls : List Nat) (M : MSt) (e : Env) (s : Sg) (nv : Int32), D + 6 + 2 * hgS x ≤ d → scS nL Ls x → wtS τ k Γ st nl mt x → EvC τ M k Γ st nl e → MInv τ M → RMs σ b n0 x nv → MQst τ σ M a 0 (fr + nL) tt ft s → EnQ s fr (fr + nL) Ls e st self → CT l G yX11_exec (ws_ yX11_exec cX11_exec 7 none) d [.ref (G.adr 11 0), .int nv, .int (nI (cM k)), .int self, .int (nI fr)] s (oQs τ σ (exS τ C S k ff x (M, e)) a fr (fr + nL) tt ft Ls (letS x) st self s)
/-- a row of S's is done -/
def SpQw (l : Launch) (G : Gl) (D : Nat) (τ σ : Sg) (C : CalF) (S : StaF) (ff : Env → MSt → Rz Unit) (a fr nL tt ft k b n0 : Nat) (self : Int32) (st : Bool) (Γ : Nat → Int64) (nl : Nat) (mt : Int64) (x : RT) : Prop := ∃ N, ∀ (d : Nat) (Ls : List Nat) (M : MSt) (e : Env) (s g : Sg) (nv x1 : Int32) (Q : Outcome → Sg → Prop), D + 6 + 2 * hgS x ≤ d → scS nL Ls x → wtS τ k Γ st nl mt x → EvC τ M k Γ st nl e → MInv τ M → RMs σ b n0 x nv → MQst τ σ M a 0 (fr + nL) tt ft s → EnQ s fr (fr + nL) Ls e st self → Kp fr tt ft g s → (∀ t, ZQ τ σ (exS τ C S k ff x (M, e)) a fr (fr + nL) tt ft Ls st self g t → Q (.returned none) t) → wq_X11_exec_76 l G d 0 x1 (nI (cM k)) self (nI fr) Q (N + 1) nv s
section XAL
variable {l : Launch} {G : Gl} {D : Nat} {τ σ : Sg} {P : Pg} {C : CalF} {S : StaF} {ff : Env → MSt → Rz Unit} {a fr nL tt ft k b n0 : Nat} {st : Bool} {self : Int32} {Γ : Nat → Int64} {nl : Nat} {mt : Int64}
theorem dp_1 {D d h h1 : Nat} (H : D + 6 + 2 * h ≤ d) (e : h = 1 + h1) : D + 6 + 2 * h1 ≤ d - 1 ∧ D + 6 + 2 * h1 ≤ d - 1 - 1 := sorry
theorem dp_2 {D d h h1 h2 : Nat} (H : D + 6 + 2 * h ≤ d) (e : h = 1 + max h1 h2) : D + 6 + 2 * h1 ≤ d - 1 ∧ D + 6 + 2 * h2 ≤ d - 1 - 1 := sorry
theorem dp_0 {D d h h1 h2 : Nat} (H : D + 6 + 2 * h ≤ d) (e : h = max h1 h2) : D + 6 + 2 * h1 ≤ d ∧ D + 6 + 2 * h2 ≤ d := sorry
theorem dp_3 {D d h : Nat} (H : D + 6 + 2 * h ≤ d) : (3 ≤ d ∧ 1 ≤ d) ∧ D + 2 ≤ d - 1 ∧ D + 3 ≤ d - 1 ∧ D + 2 ≤ d - 1 - 1 := sorry
theorem op_nn {x y : Nat} (h : x = y) {z : Nat} (hz : ¬ y = z) : ¬ x = z := sorry
theorem letS_n {sz : Nat} {lb : RLb} {u : Unit} {x y : RT} (h : ¬ lb.op = 31) : letS (.inner sz lb u x y) = [] := sorry
theorem letS_31 {sz : Nat} {lb : RLb} {u : Unit} {x y : RT} (h : lb.op = 31) : letS (.inner sz lb u x y) = [lb.sl] := sorry
theorem hg_0 {sz : Nat} {lb : RLb} {u : Unit} {x y : RT} (h : lb.op = 0 ∨ lb.op = 41) : hgS (.inner sz lb u x y) = max (hgS x) (hgS y) := sorry
theorem hg_30 {sz : Nat} {lb : RLb} {u : Unit} {x y : RT} (h : lb.op = 30) : hgS (.inner sz lb u x y) = 1 + hgS x := sorry
theorem hg_32 {sz : Nat} {lb : RLb} {u : Unit} {x y : RT} (h : lb.op = 32 ∨ lb.op = 33) : hgS (.inner sz lb u x y) = 1 + hgS y := sorry
theorem hg_36 {sz : Nat} {lb : RLb} {u : Unit} {x y : RT} (h : lb.op = 36) : hgS (.inner sz lb u x y) = 1 + max (hgS x) (hgS y) := sorry
/-- an S hangs at a node -/
theorem rs_n {sz : Nat} {lb : RLb} {u : Unit} {x y : RT} {nv : Int32} (hb : b < 17) (h : RMs σ b n0 (.inner sz lb u x y) nv) : ∃ q, nv = nI (b * 1700 + q) ∧ b * 1700 + q < 30600 := sorry
theorem sn_op {x : RT} (h : 30 ≤ rOp x) : rLf x = false := sorry
/-- where the two of an if hang -/
theorem rs_41 (hb : b < 17) {sz : Nat} {lb : RLb} {u : Unit} {x y : RT} {q : Nat} (hq : b * 1700 + q < 30600) (h41 : lb.op = 41) (h : RMs σ b n0 (.inner sz lb u x y) (nI (b * 1700 + q))) : RMs σ b n0 x (σ.I 2178 0 (b * 1700 + q)) ∧ RMs σ b n0 y (σ.I 2179 0 (b * 1700 + q)) := sorry
/-- where the first of a row and the others hang -/
theorem rs_0 (hb : b < 17) {sz : Nat} {lb : RLb} {u : Unit} {x y : RT} {q : Nat} (hq : b * 1700 + q < 30600) (h0 : lb.op = 0) (h : RMs σ b n0 (.inner sz lb u x y) (nI (b * 1700 + q))) : RMs σ b n0 x (nI (b * 1700 + q)) ∧ RMs σ b n0 y (σ.I 2180 0 (b * 1700 + q)) := sorry
theorem op_15 {n : Nat} (h1 : 30 ≤ n ∧ ¬ n = 41) (h : n = 0 ∨ (30 ≤ n ∧ n ≤ 44)) : n = 30 ∨ n = 31 ∨ n = 32 ∨ n = 33 ∨ n = 34 ∨ n = 35 ∨ n = 36 ∨ n = 37 ∨ n = 38 ∨ n = 39 ∨ n = 40 ∨ n = 42 ∨ n = 43 ∨ n = 44 := sorry
theorem op_40 {n : Nat} (h : n = 40 ∨ n = 42 ∨ n = 43 ∨ n = 44) : 40 ≤ n ∧ ¬ n = 41 := sorry
theorem nI_30 {n : Nat} (h : n < 30600) : (nI n).toNatClampNeg = n := sorry
theorem rs_no {x : RT} {nv : Int32} (hb : b < 17) (h : RMs σ b n0 x nv) (hl : rLf x = false) : ¬ nv = -2 := sorry
theorem ex_all (K : SkN l G D τ σ P C S a fr nL tt ft k b n0) (hff : st = false → ∀ e s, EvC τ s k Γ st nl e → MInv τ s → RzOk τ s (ff e s) (fun _ _ => True)) (x : RT) : (30 ≤ rOp x ∧ ¬ rOp x = 41 → SpQ l G D τ σ C S ff a fr nL tt ft k b n0 self st Γ nl mt x) ∧ (rLf x = true ∨ rOp x = 0 → SpQw l G D τ σ C S ff a fr nL tt ft k b n0 self st Γ nl mt x) ∧ (rOp x = 41 → ∃ sz lb u yt ye, x = .inner sz lb u yt ye ∧ lb.op = 41 ∧ (30 ≤ rOp yt ∧ ¬ rOp yt = 41 → SpQ l G D τ σ C S ff a fr nL tt ft k b n0 self st Γ nl mt yt) ∧ (30 ≤ rOp ye ∧ ¬ rOp ye = 41 → SpQ l G D τ σ C S ff a fr nL tt ft k b n0 self st Γ nl mt ye)) := sorry
end XAL
