/-! Judging, the model: all bridges of a class. -/
theorem AbU.bm {τ σ s : Sg} {k T n : Nat} {U : List Nat} (h : AbU τ σ U) (hF : FJ (pBm (cM k) T n) σ s) (hk : k < cnt 1) (hT : T + n ≤ 34) (hS : Shp τ) (hUk : ∀ c, c ∈ U → ¬ c = k) : AbU τ s U := sorry
theorem AbL_in2 {τ : Sg} {k m : Nat} (hW : WOK τ 1) (hn : ¬ wHr τ 1 k k) : ∀ o, o ∈ AbL τ k m → ∃ c i, c ∈ wKs τ 1 ∧ ¬ c = k ∧ i < nMe τ c ∧ o = 33 * c + i ∧ mAlk τ (33 * c + i) m = true := sorry
section SPX
variable {l : Launch} {G : Gl} {d : Nat}
theorem sp_X11_bridges (hG : GOK G) {τ σ : Sg} {k T : Nat} {U : List Nat} {Tk' : Nat → Tk} (hd : 7 ≤ d) (hK : BK τ k T) (hne : ¬ wHr τ 1 k k) (hW : MWd τ σ 1 (k :: wKs τ 1)) (hA : AbU τ σ U) (hkU : ∀ c, c ∈ wKs τ 1 → ¬ c = k → c ∈ U) (hUk : ∀ c, c ∈ U → ¬ c = k) (hKp : KPk τ k) (hm : ∀ j, j < T → MM τ σ (33 * k + j) (34 * cM k + j)) (h41 : σ.I 2141 0 (cM k) = nI T) (hs : SIv σ) (hq : FLq σ Tk' (.ok ())) (hat : σ.I 2125 0 (cM k) = nI (Tk' (tkN (τ.I 1124 k 0))).2.2.1) {x : Int32} (hx : x = nI (cM k)) : CT l G yX11_bridges (ws_ yX11_bridges cX11_bridges 9 none) d [.ref (G.adr 11 0), .int x] σ (rV (fun u => FJ (pBm (cM k) T 12) σ u ∧ SIv u ∧ FLq u Tk' (brAm τ k T 0 []) ∧ ∀ Bs, brAm τ k T 0 [] = .ok Bs → BM τ σ u k T Bs)) := sorry
end SPX
