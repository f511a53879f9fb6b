/-! Judging, the model: the loop of given makers. -/
section SPX
variable {l : Launch} {G : Gl} {d : Nat}
/-- the given makers are laid, class by class; then the bridges -/
theorem mk_2 (hG : GOK G) {τ σ : Sg} {b nk : Nat} {Q : Outcome → Sg → Prop} (hd : 2 ≤ d) (hS : Shp τ) (hb : b < 16) (hnk : nk ≤ 12) (h19 : σ.I 2119 0 0 = nI b) (h23 : σ.I 2123 0 b = nI nk) (h20 : ∀ k, k < nk → nMe τ (12 * b + k) ≤ 20) (hK1 : ∀ k, k < nk → MK1 τ σ (12 * b + k)) (hso : ∀ k j, k < nk → j < nMe τ (12 * b + k) → σ.I 2142 0 (34 * (12 * b + k) + j) = τ.I 1200 (33 * (12 * b + k) + j) 0) (hN : ∀ u, FJ (pMq τ b nk) σ u → (∀ k, k < nk → MKk τ u (12 * b + k)) → ∃ n, wq_X11_makersAndBridges_184 l G d 0 Q n 0 u) : ∀ (m i : Nat) (u : Sg), i + m = nk → FJ (pMq τ b nk) σ u → (∀ k, k < i → MKk τ u (12 * b + k)) → (∀ k, i ≤ k → k < nk → u.I 2141 0 (12 * b + k) = nI (nMe τ (12 * b + k))) → wq_X11_makersAndBridges_2 l G d 0 Q (m + 1) (nI i) u := sorry
end SPX
