/-! THE MODEL's MACHINE RECKONS EVERY E AS evX SAYS: two parts, calls, all. -/
section EVB
variable {l : Launch} {G : Gl} {d : Nat} {τ σ g : Sg} {P : Pg} {C : CalF} {S : StaF} {a cb bt ft k b n0 : Nat} {x1 self : Int32} {fr : Nat} {Q : Outcome → Sg → Prop} {Ls : List Nat} {e : Env} {st : Bool} {Γ : Nat → Int64} {nl : Nat}
theorem rck_op2 {w : Nat} (h : 12 ≤ w ∧ w ≤ 16) (x y : Int32) : rck w x y = op2 w x y := sorry
theorem mNk_two {w : Nat} (h : 12 ≤ w ∧ w ≤ 16) : 15 ≤ mNk w ∧ mNk w ≤ 19 := sorry
/-- of two -/
theorem sp_two (K : EvK l G d τ σ P C S a k) (ha : a ≤ 24) (hb : b < 17) {sz : Nat} {lb : RLb} {u : Unit} {x y : RT} (q10 : lb.op = 10) (ix : SpX l G d τ σ g C S a cb bt ft k b n0 x1 self fr Q Ls e st Γ nl x) (iy : SpX l G d τ σ g C S a cb bt ft k b n0 x1 self fr Q Ls e st Γ nl y) : SpX l G d τ σ g C S a cb bt ft k b n0 x1 self fr Q Ls e st Γ nl (.inner sz lb u x y) := sorry
theorem ag_len : ∀ (y : RT), wtE τ k Γ st nl y → isRo y → (rTyL y).length ≤ rAg y := sorry
theorem stL_len {s0 v : Int32} {A B : List Int32} (h : stLb s0 v A = B) : A.length ≤ B.length ∧ (s0 = 3 → A.length < B.length) := sorry
theorem cl_at {A0 vs : List Int32} {w : Sg} (h : ClR cb w (A0 ++ vs)) (i : Nat) (v : Int32) (e : vs[i]? = some v) : w.I 2254 0 (cb + A0.length + i) = v := sorry
/-- calls without an object of their own -/
theorem sp_cl0 (K : EvK l G d τ σ P C S a k) (ha : a ≤ 24) (hb : b < 17) (hkb : kB τ k = b) (hn0 : (τ.I 1119 k 0).toNatClampNeg = n0) (hE : EnQ g fr cb Ls e st self) (hft : ft ≤ 320 * a) {sz : Nat} {lb : RLb} {u : Unit} {x y : RT} (hop : 11 ≤ lb.op ∧ lb.op ≤ 13) (iy : SpRw l G d τ σ g C S a cb bt ft k b n0 x1 self fr Q Ls e st Γ nl y) : SpX l G d τ σ g C S a cb bt ft k b n0 x1 self fr Q Ls e st Γ nl (.inner sz lb u x y) := sorry
end EVB
