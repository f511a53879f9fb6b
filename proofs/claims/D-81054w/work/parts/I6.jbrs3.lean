/-! Judging, LinkHouse: the loop of given makers and bridges, all classes. -/
theorem wHr_sx {σ : Sg} {w a b : Nat} : wHr (stP sx σ) w a b ↔ wHr σ w a b := sorry
theorem ExM.hr {τ σ : Sg} {a b : Nat} (h : ExM τ σ) : wHr σ 1 a b ↔ wHr τ 1 a b := sorry
theorem ExM.ks {τ σ : Sg} (h : ExM τ σ) : wKs σ 1 = wKs τ 1 := sorry
theorem LBv.of {τ s : Sg} {b i c : Nat} (h : LBv τ s b i) (hS : Shp τ) (hi : i ≤ 12) (hm : ∀ k, k < i → nMe τ (12 * b + k) ≤ 20) (hE : ExM τ s) (hc : c < 194) (ho : OfK τ c) : OfK s c := sorry
section SPX
variable {l : Launch} {G : Gl} {d : Nat} {β : Type}
theorem ja_233 (hG : GOK G) {τ0 τ : Sg} {b n r nk : Nat} {B : Nat → Nat} {r1 : Option Nat} {K0 : β → Outcome → Sg → Prop} {Q : Outcome → Sg → Prop} {rest : Unit → PR β} (hd : 71 ≤ d) (hS0 : Shp τ) (hW0 : WOK τ 1) (hm20 : ∀ k, k < nk → nMe τ (12 * b + k) ≤ 20) (h18 : ∀ k, k < nk → τ.I 1118 (12 * b + k) 0 = 0) (hne : ∀ k, k < nk → ¬ wHr τ 1 (12 * b + k) (12 * b + k)) (hof : ∀ k, k < nk → ∀ c, c ∈ (12 * b + k) :: wKs τ 1 → OfK τ c) (hUq : ∀ k, k < nk → UqM τ (12 * b + k)) (hbr : ∀ k j, k < nk → j < nMe τ (12 * b + k) → τ.B 1206 (33 * (12 * b + k) + j) 0 = false) (hT : ∀ k, k < nk → TkB (τ.I 1124 (12 * b + k) 0) r) (hN : ∀ s, JL τ0 s b B n r nk → LBv τ s b nk → oJ G b (yTok B n) τ0 (rest ()) K0 = Q → ∃ m, wq_X6_all_273 l G d 0 r1 Q m 0 s) : ∀ (m i : Nat) (σ1 : Sg), i + m = nk → JL τ0 σ1 b B n r nk → LBv τ σ1 b i → oJ G b (yTok B n) τ0 (bnd (jFor (jBr τ b) m i) rest) K0 = Q → wq_X6_all_233 l G d 0 r1 Q (m + 1) (nI i) σ1 := sorry
end SPX
