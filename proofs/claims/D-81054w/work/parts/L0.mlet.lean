/-! The model, while judging (not linking): nest, isLetMember. -/
section SPX
variable {l : Launch} {G : Gl} {d : Nat} {τ σ : Sg}
theorem wNst_w {w k : Nat} (hk : k ∈ wKs τ w) : wNst τ w k ∈ wKs τ w := sorry
/-- the model's nest, while judging -/
theorem sj_X11_nest (hG : GOK G) {w k : Nat} (hd : 5 ≤ d) (hU : MWd τ σ w (wKs τ w)) (hK2 : ∀ c, c ∈ wKs τ w → MK2 τ σ c) (hk : k ∈ wKs τ w) (hl : σ.B 2192 0 0 = false) {x : Int32} (hx : x = nI (cM k)) : CT l G yX11_nest (ws_ yX11_nest cX11_nest 3 (some .int)) d [.ref (G.adr 11 0), .int x] σ (rI (nI (cM (wNst τ w k))) (fun s => s = σ)) := sorry
theorem sj_X11_nestsAreOne (hG : GOK G) {w a c : Nat} (hd : 6 ≤ d) (hU : MWd τ σ w (wKs τ w)) (hK2 : ∀ c, c ∈ wKs τ w → MK2 τ σ c) (ha : a ∈ wKs τ w) (hc : c ∈ wKs τ w) (hl : σ.B 2192 0 0 = false) {x y : Int32} (hx : x = nI (cM a)) (hy : y = nI (cM c)) : CT l G yX11_nestsAreOne (ws_ yX11_nestsAreOne cX11_nestsAreOne 4 (some .boolean)) d [.ref (G.adr 11 0), .int x, .int y] σ (rZ (decide (wNst τ w a = wNst τ w c)) (fun s => s = σ)) := sorry
/-- the model's isLetMember, while judging -/
theorem sj_X11_isLetMember (hG : GOK G) {w a c m m' n : Nat} (hd : 7 ≤ d) (hU : MWd τ σ w (wKs τ w)) (hK2 : ∀ c, c ∈ wKs τ w → MK2 τ σ c) (ha : a ∈ wKs τ w) (hc : c ∈ wKs τ w) (hn : n ∈ wKs τ w) (hm : MM τ σ m m') (hmc : m' / 34 = cM c) (hac : ∃ v, v < 4 ∧ τ.I 1202 m 0 = nI v) (hmk : τ.I 1200 m 0 = 2 → τ.B 1203 m 0 = false) (hl : σ.B 2192 0 0 = false) (hs : SIv σ) {x y z : Int32} (hx : x = nI m') (hy : y = nI (cM n)) (hz : z = nI (cM a)) : CT l G yX11_isLetMember (ws_ yX11_isLetMember cX11_isLetMember 6 (some .boolean)) d [.ref (G.adr 11 0), .int x, .int y, .int z] σ (rZ (mLts τ w a c m n (wNst τ w a) (wNst τ w c)) (fun s => ∃ ρ', s = mix pN σ ρ' ∧ SIv ρ')) := sorry
end SPX
