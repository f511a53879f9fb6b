/-! Members of a build that is made: types, bodies. -/
/-- more of a member: types that are not void, constants are int -/
def MbX (τ : Sg) (m : Nat) : Prop := (τ.I 1200 m 0 = 0 → ¬ τ.L 1207 m 0 = 0) ∧ (τ.B 1212 m 0 = true → τ.L 1207 m 0 = 1) ∧ (∀ i, i < nPa τ m → ¬ τ.L 1209 m i = 0) ∧ (¬ τ.I 1200 m 0 = 0 → ¬ τ.I 1200 m 0 = 1 → τ.L 1207 m 0 = 0)
def CsQ (τ τ' : Sg) : Prop := Fl pK2 τ τ' ∧ ∀ m, τ'.B 1212 m 0 = true → τ.B 1212 m 0 = true ∨ τ.L 1207 m 0 = 1
theorem CsQ.refl {τ : Sg} : CsQ τ τ := sorry
theorem CsQ.trans {a b c : Sg} (h : CsQ a b) (k : CsQ b c) : CsQ a c := sorry
theorem csS_Q {τ : Sg} {k m : Nat} {x : Tr} : CsQ τ (csS τ m (csV τ k m x)) := sorry
theorem csF_Q {k : Nat} {tx : Nat → Tr} : ∀ (n j : Nat) (τ : Sg), CsQ τ (csF k tx n j τ) := sorry
theorem csA_Q {b : Nat} {tr : Nat → Nat → Tr} : ∀ (n i : Nat) (τ : Sg), CsQ τ (csA b tr n i τ) := sorry
theorem tyT_n0 {B : Nat → Nat} {n t : Nat} (h : tyS (yTok B n t).1) : ¬ lN (tyT (yTok B n) t) = 0 := sorry
section OWN
variable {τ0 τ1 τ2 : Sg} {B : Nat → Nat} {n L r b i j : Nat} {cs : List CRc}
theorem own_x0 (hR : RdT τ0 B n L b cs) (hi : i < cs.length) (hj : j < nMe τ0 (12 * b + i)) : MbX τ0 (33 * (12 * b + i) + j) := sorry
theorem MbX.mv {τ s : Sg} {m : Nat} (h : MbX τ m) (e0 : s.I 1200 m 0 = τ.I 1200 m 0) (e1 : s.L 1207 m 0 = τ.L 1207 m 0) (e2 : s.B 1212 m 0 = true → τ.B 1212 m 0 = true ∨ τ.L 1207 m 0 = 1) (e3 : nPa s m = nPa τ m) (e4 : ∀ i, s.L 1209 m i = τ.L 1209 m i) : MbX s m := sorry
theorem Ph2.t3x (h : Ph2 τ0 τ1 τ2 B n L r b cs) {m : Nat} (hx : MbX τ2 m) : MbX (t3 τ2 b cs) m := sorry
/-- all members of the build -/
theorem Ph2.ownx (h : Ph2 τ0 τ1 τ2 B n L r b cs) (hi : i < cs.length) (hj : j < nMe τ2 (12 * b + i)) : MbX τ2 (33 * (12 * b + i) + j) := sorry
theorem Ph2.body (h : Ph2 τ0 τ1 τ2 B n L r b cs) (hi : i < cs.length) (hj : j < nMe τ2 (12 * b + i)) (hb : τ2.B 1206 (33 * (12 * b + i) + j) 0 = false) (h1 : τ2.I 1200 (33 * (12 * b + i) + j) 0 = 1) (h5 : τ2.B 1205 (33 * (12 * b + i) + j) 0 = false) : isLf (trB cs i j) = false := sorry
end OWN
