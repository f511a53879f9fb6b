/-! Behind the constants. -/
def CsP (τ τ' : Sg) : Prop := Fl pK2 τ τ' ∧ ∀ m, τ'.B 1212 m 0 = true → τ.B 1212 m 0 = true ∨ (τ.I 1200 m 0 = 0 ∧ τ.B 1203 m 0 = true)
theorem CsP.refl {τ : Sg} : CsP τ τ := sorry
theorem CsP.trans {a b c : Sg} (h : CsP a b) (k : CsP b c) : CsP a c := sorry
theorem csS_P {τ : Sg} {k m : Nat} {x : Tr} : CsP τ (csS τ m (csV τ k m x)) := sorry
theorem csF_P {k : Nat} {tx : Nat → Tr} : ∀ (n j : Nat) (τ : Sg), CsP τ (csF k tx n j τ) := sorry
theorem csA_P {b : Nat} {tr : Nat → Nat → Tr} : ∀ (n i : Nat) (τ : Sg), CsP τ (csA b tr n i τ) := sorry
theorem CsP.sye {τ τ' : Sg} (h : CsP τ τ') : stP sy τ' = stP sy τ := sorry
section CS
variable {τ τ' : Sg} {c : Nat}
theorem CsP.kgm (h : CsP τ τ') {m : Nat} (k : KGm τ m) : KGm τ' m := sorry
theorem CsP.kgd (h : CsP τ τ') (k : KGd τ c) : KGd τ' c := sorry
end CS
/-! what a bridge calls -/
theorem lstB_o {P : Nat → Bool} : ∀ (n j : Nat) (o : Option Nat), (∃ x, o = some x) ∨ (∃ i, j ≤ i ∧ i < j + n ∧ P i = true) → ∃ y, lstB P n j o = some y := sorry
theorem lstB_t {P : Nat → Bool} : ∀ (n j : Nat) (o : Option Nat) (y : Nat), lstB P n j o = some y → o = some y ∨ (j ≤ y ∧ y < j + n ∧ P y = true) := sorry
theorem brT_ok {τ : Sg} {k m j : Nat} (hU : UqM τ k) (hj : j < nMe τ k) (ha : mAlk τ (33 * k + j) m = true) (hb : τ.B 1206 (33 * k + j) 0 = false) : brT τ k m = some j := sorry
theorem NBf.alk {τ s : Sg} {k q m : Nat} {t : Int64} (h : NBf τ s k q m t) (hm : MEq τ s m) (hs : τ.I 1200 m 0 = 1) : mAlk s m q = true := sorry
