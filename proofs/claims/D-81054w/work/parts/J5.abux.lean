/-! What is known of classes, over the formal snapshot. -/
theorem MK1_sx {τ σ s : Sg} {c : Nat} (he : stP sx σ = stP sx τ) (h : MK1 τ s c) : MK1 σ s c := sorry
theorem KPk_sx {τ σ : Sg} {c : Nat} (he : stP sx σ = stP sx τ) (h : KPk τ c) : KPk σ c := sorry
section XS
variable {τ s : Sg} {b nk : Nat} {Bf : Nat → BrL} {c : Nat}
theorem UqM_xS (hS : Shp τ) (hc : c < 194) (h20 : ∀ c, 12 * b ≤ c ∧ c < 12 * b + nk → nMe τ c ≤ 20) (hB : BfK τ b nk Bf) (h : UqM τ c) : UqM (xS τ b nk Bf) c := sorry
/-- a class of another build -/
theorem MKm_xO (hc : c < 194) (hn : ¬ (12 * b ≤ c ∧ c < 12 * b + nk)) (hS : Shp τ) (hE : ExM τ (xS τ b nk Bf)) (h : MKm τ s c) : MKm (xS τ b nk Bf) s c := sorry
/-- access and type of the members -/
theorem xS_at (hS : Shp τ) (hc : c < 194) (h20 : ∀ c, 12 * b ≤ c ∧ c < 12 * b + nk → nMe τ c ≤ 20) (hB : BfK τ b nk Bf) (h2 : ∀ c p, p ∈ Bf c → ¬ p.2 = 2) (ha : ∀ j, j < nMe τ c → ∃ a, a < 4 ∧ τ.I 1202 (33 * c + j) 0 = nI a) (ht : ∀ j, j < nMe τ c → ¬ τ.L 1207 (33 * c + j) 0 = 2) : ∀ j, j < nMe (xS τ b nk Bf) c → (∃ a, a < 4 ∧ (xS τ b nk Bf).I 1202 (33 * c + j) 0 = nI a) ∧ ¬ (xS τ b nk Bf).L 1207 (33 * c + j) 0 = 2 := sorry
end XS
