/-! Judging, the model: the given makers of all classes. -/
/-- the columns of members that are not told, of the classes of b -/
def pMq (τ : Sg) (b nk x j : Nat) : Bool := decide ((x = 2141 ∧ 12 * b ≤ j ∧ j < 12 * b + nk) ∨ (2141 < x ∧ x ≤ 2168 ∧ ¬ (2155 < x ∧ x ≤ 2159) ∧ 12 * b ≤ j / 34 ∧ j / 34 < 12 * b + nk ∧ nMe τ (j / 34) ≤ j % 34) ∨ (x = 2156 ∧ 12 * b ≤ j / 4 / 34 ∧ j / 4 / 34 < 12 * b + nk ∧ nMe τ (j / 4 / 34) ≤ j / 4 % 34))
theorem pMq_iff {τ : Sg} {b nk x j : Nat} : pMq τ b nk x j = true ↔ (x = 2141 ∧ 12 * b ≤ j ∧ j < 12 * b + nk) ∨ (2141 < x ∧ x ≤ 2168 ∧ ¬ (2155 < x ∧ x ≤ 2159) ∧ 12 * b ≤ j / 34 ∧ j / 34 < 12 * b + nk ∧ nMe τ (j / 34) ≤ j % 34) ∨ (x = 2156 ∧ 12 * b ≤ j / 4 / 34 ∧ j / 4 / 34 < 12 * b + nk ∧ nMe τ (j / 4 / 34) ≤ j / 4 % 34) := sorry
theorem pMq_no {τ : Sg} {b nk x j : Nat} (h : ¬ x = 2141 ∧ ¬ (2141 < x ∧ x ≤ 2168)) : pMq τ b nk x j = false := sorry
theorem pMq_t {τ : Sg} {b nk c x j : Nat} (hj : j < nMe τ c) (h33 : nMe τ c ≤ 33) (hx : 2141 < x) (hx3 : ¬ (2155 < x ∧ x ≤ 2159)) : pMq τ b nk x (34 * c + j) = false := sorry
theorem pNq_pMq {τ : Sg} {b nk c : Nat} (hc : 12 * b ≤ c ∧ c < 12 * b + nk) (h20 : nMe τ c ≤ 20) : ∀ x j, pNq c (34 * c + nMe τ c) x j = true → pMq τ b nk x j = true := sorry
theorem MKk.fj {τ s u : Sg} {c : Nat} {p : Nat → Nat → Bool} (h : MKk τ s c) (hF : FJ p s u) (h41 : p 2141 (cM c) = false) (h25 : p 2125 (cM c) = false) (hp : needM τ c = true → ∀ x, 2141 < x → x ≤ 2168 → ¬ (2155 < x ∧ x ≤ 2159) → p x (34 * cM c + nMe τ c) = false) : MKk τ u c := sorry
