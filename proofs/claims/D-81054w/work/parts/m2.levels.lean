/-! THE MODEL's MACHINE: all levels. -/
/-- all that is known of the model's tables -/
def KnT (τ σ : Sg) (P : Pg) : Prop := (MLk τ σ ∧ MFB τ ∧ OvU τ σ 0 ∧ WMa τ P) ∧ (∀ k, k ∈ wKs τ 0 → ¬ τ.I 1101 k 0 = 26 → ∀ u, u < nUk τ k → ∃ v, MUx τ σ (uAt τ k u) (muA τ k u) k v) ∧ FdQ τ ∧ MbQ τ σ P ∧ (∀ k, k ∈ wKs τ 0 → ¬ τ.I 1101 k 0 = 26 → kB τ k < 17 ∧ StX τ σ P k (kB τ k) (τ.I 1119 k 0).toNatClampNeg) ∧ UqO τ ∧ UsQ τ σ
section LVL
variable {l : Launch} {G : Gl} {d : Nat} {τ σ s t : Sg} {P : Pg} {M : MSt} {k b : Nat}
theorem FQm.nd (hF : FQm σ s) : NdSm b σ s := sorry
theorem MmQ.q {j : Nat} (h : MmQ τ σ P k j) (hF : FQm σ s) (hq : 34 * cM k + j < 7343) (hj : ∀ i, i < nMe τ k → 34 * cM k + i < 7343) : MmQ τ s P k j := sorry
theorem StX.q {n0 : Nat} (h : StX τ σ P k b n0) (hF : FQm σ s) : StX τ s P k b n0 := sorry
/-- it stays so while it runs -/
theorem KnT.q (h : KnT τ σ P) (hF : FQm σ s) : KnT τ s P := sorry
theorem KnT.w (h : KnT τ σ P) (hb : (σ.I 2271 0 1).toNatClampNeg < 2 ^ 30) : WQ τ σ P := sorry
/-- THE MODEL's CALLS AND STARTS, all levels -/
theorem mq_all (hG : GOK G) : ∀ (n : Nat), n ≤ 24 → ∀ (σ : Sg), KnT τ σ P → (σ.I 2271 0 1).toNatClampNeg < 2 ^ 30 → ∀ d, 280 + 51 * n ≤ d → CalM l G d τ σ (mcF τ P n).1 (24 - n) ∧ StM l G d τ σ (mcF τ P n).2 (24 - n) := sorry
end LVL
