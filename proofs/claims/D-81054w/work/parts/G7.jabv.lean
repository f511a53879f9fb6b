/-! Judging: what stands above the methods of all classes, LinkHouse. -/
theorem OfK_e {σ s : Sg} {c : Nat} (h : stat s = stat σ) (q : OfK σ c) : OfK s c := sorry
theorem wKs_e {σ s : Sg} {w : Nat} (h : stat s = stat σ) : wKs s w = wKs σ w := sorry
theorem nMe_e {σ s : Sg} {c : Nat} (h : stat s = stat σ) : nMe s c = nMe σ c := sorry
theorem I1117_e {σ s : Sg} {c : Nat} (h : stat s = stat σ) : s.I 1117 c 0 = σ.I 1117 c 0 := sorry
theorem I1214_e {σ s : Sg} {c : Nat} (h : stat s = stat σ) : s.I 1214 c 0 = σ.I 1214 c 0 := sorry
/-- the methods of class kk against what stands above them -/
noncomputable def jAs (τ : Sg) (b kk : Nat) : PR Unit := jFor (fun j => jAv τ (12 * b + kk) (33 * (12 * b + kk) + j)) (nMe τ (12 * b + kk)) 0
theorem pW_pJ {b : Nat} : ∀ c i, pW c i = true → pJ b c i = true := sorry
section SPX
variable {l : Launch} {G : Gl} {d : Nat} {β : Type}
theorem ja_169 (hG : GOK G) {τ0 τ : Sg} {b n r nk : Nat} {B : Nat → Nat} {r1 : Option Nat} {K0 : β → Outcome → Sg → Prop} {Q : Outcome → Sg → Prop} {rest : Unit → PR β} (hd : 70 ≤ d) (hS0 : Shp τ) (hT : ∀ k j, k < nk → j < nMe τ (12 * b + k) → TkB (τ.I 1214 (33 * (12 * b + k) + j) 0) r) (hof : ∀ k, k < nk → ∀ c, c ∈ (12 * b + k) :: wKs τ 1 → OfK τ c) (hN : ∀ s, JL τ0 s b B n r nk → stat s = stat τ → oJ G b (yTok B n) τ0 (rest ()) K0 = Q → ∃ m, wq_X6_all_233 l G d 0 r1 Q m 0 s) : ∀ (m i : Nat) (σ1 : Sg), i + m = nk → JL τ0 σ1 b B n r nk → stat σ1 = stat τ → oJ G b (yTok B n) τ0 (bnd (jFor (jAs τ b) m i) rest) K0 = Q → wq_X6_all_169 l G d 0 r1 Q (m + 1) (nI i) σ1 := sorry
end SPX
