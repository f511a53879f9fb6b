/-! Judging, the model: constants of all classes. -/
/-- all static columns but constants -/
def sy (c : Nat) : Bool := rg 1099 1211 c || rg 1213 1303 c
theorem sy_iff {c : Nat} (h : sy c = true) : (1099 < c ∧ c ≤ 1211) ∨ (1213 < c ∧ c ≤ 1303) := sorry
theorem stP_k2 {τ s : Sg} (hF : Fl pK2 τ s) : stP sy s = stP sy τ := sorry
theorem MWd_sy {τ τ' s : Sg} {w : Nat} {U : List Nat} (he : stP sy τ' = stP sy τ) (h : MWd τ s w U) : MWd τ' s w U := sorry
theorem MK2_sy {τ τ' s : Sg} {c : Nat} (he : stP sy τ' = stP sy τ) (h : MK2 τ s c) : MK2 τ' s c := sorry
theorem KPk_sy {τ τ' : Sg} {c : Nat} (he : stP sy τ' = stP sy τ) (h : KPk τ c) : KPk τ' c := sorry
theorem OfK_sy {τ τ' : Sg} {c : Nat} (he : stP sy τ' = stP sy τ) (h : OfK τ c) : OfK τ' c := sorry
theorem wKs_sy {τ τ' : Sg} {w : Nat} (he : stP sy τ' = stP sy τ) : wKs τ' w = wKs τ w := sorry
theorem nMe_sy {τ τ' : Sg} {c : Nat} (he : stP sy τ' = stP sy τ) : nMe τ' c = nMe τ c := sorry
theorem sy_I {τ τ' : Sg} {c i j : Nat} (he : stP sy τ' = stP sy τ) (hc : sy c = true) : τ'.I c i j = τ.I c i j := sorry
theorem sy_B {τ τ' : Sg} {c i j : Nat} (he : stP sy τ' = stP sy τ) (hc : sy c = true) : τ'.B c i j = τ.B c i j := sorry
theorem MM_cs {τ τ' u u' : Sg} {m q : Nat} {p : Nat → Nat → Bool} (h : MM τ u m q) (he : stP sy τ' = stP sy τ) (hF : FJ p u u') (hp : ∀ x, 2141 < x → x ≤ 2163 → ¬ (2155 < x ∧ x ≤ 2159) → p x q = false) (hp2 : ∀ i, i < 4 → p 2156 (4 * q + i) = false) (h64 : u'.B 2164 0 q = τ'.B 1212 m 0) (h65 : u'.I 2165 0 q = τ'.I 1213 m 0) : MM τ' u' m q := sorry
/-- one member's constant is laid -/
def pC1 (q x y : Nat) : Bool := pFd x y || decide ((x = 2164 ∨ x = 2165) ∧ y = q)
theorem pC1_iff {q x y : Nat} : pC1 q x y = true ↔ pFd x y = true ∨ ((x = 2164 ∨ x = 2165) ∧ y = q) := sorry
theorem pC1_no {q x y : Nat} (h : x ≤ 2192 ∨ (2198 < x ∧ x ≤ 2206) ∨ 2208 < x) (h2 : ¬ ((x = 2164 ∨ x = 2165) ∧ y = q)) : pC1 q x y = false := sorry
theorem csS_12 {τ : Sg} {m : Nat} {o : Option Int32} (hB : τ.B 1212 m 0 = false) (hI : τ.I 1213 m 0 = 0) : (csS τ m o).B 1212 m 0 = o.isSome ∧ (csS τ m o).I 1213 m 0 = o.getD 0 := sorry
theorem csS_o {τ : Sg} {m m' : Nat} {o : Option Int32} (h : ¬ m' = m) : (csS τ m o).B 1212 m' 0 = τ.B 1212 m' 0 ∧ (csS τ m o).I 1213 m' 0 = τ.I 1213 m' 0 := sorry
theorem JgU_cs {τ u u' : Sg} {k c j : Nat} {o : Option Int32} (h : JgU τ u k) (hc : c ∈ wKs τ 1) (hj : j < nMe τ c) (hF : FJ (pC1 (mM (33 * c + j))) u u') (hB : τ.B 1212 (33 * c + j) 0 = false) (hI : τ.I 1213 (33 * c + j) 0 = 0) (h64 : u'.B 2164 0 (mM (33 * c + j)) = o.isSome) (h65 : u'.I 2165 0 (mM (33 * c + j)) = o.getD 0) : JgU (csS τ (33 * c + j) o) u' k := sorry
