/-! PURE: the bridges of a class do not hang on makers and bridges that came. -/
theorem jUps_in {τ : Sg} {n : Nat} {k : Nat} : ∀ y, y ∈ jUps τ 1 n (wPar τ 1 k) → y ∈ wKs τ 1 := sorry
theorem abC_in {τ : Sg} {k m : Nat} {xs : List Nat} (h : ∀ c, c ∈ xs → c < 194) : ∀ o, o ∈ xs.flatMap (abC τ k m) → ∃ c i, c < 194 ∧ i < nMe τ c ∧ o = 33 * c + i := sorry
section EX
variable {τ σ : Sg} {k : Nat}
theorem ExM_brN (h : ExM τ σ) (hk : k < 194) (hW : WOK τ 1) (hof : ∀ c, c ∈ k :: wKs τ 1 → OfK τ c) {j : Nat} (hj : j < nMe τ k) {Bs : BrL} : brN σ k (33 * k + j) Bs = brN τ k (33 * k + j) Bs := sorry
theorem brA_skip {e : Nat} : ∀ (n j : Nat) (Bs : BrL), (∀ i, j ≤ i → i < j + n → ¬ σ.I 1200 (33 * k + i) 0 = 1) → brA σ k n j Bs = .ok Bs := sorry
/-- the bridges of class k: those of the state before makers and bridges -/
theorem ExM_brA (h : ExM τ σ) (hk : k < 194) (hW : WOK τ 1) (hof : ∀ c, c ∈ k :: wKs τ 1 → OfK τ c) {e : Nat} (hex : ∀ i, nMe τ k ≤ i → i < nMe τ k + e → ¬ σ.I 1200 (33 * k + i) 0 = 1) : ∀ (n j : Nat) (Bs : BrL), j + n = nMe τ k → brA σ k (n + e) j Bs = brA τ k n j Bs := sorry
end EX
