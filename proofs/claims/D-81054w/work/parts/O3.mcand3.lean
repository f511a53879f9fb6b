/-! Judging, the model: candidates of one class, the walk. -/
theorem cM_iff {a c : Nat} (ha : a < 194) (hc : c < 194) : nI (cM a) = nI (cM c) ↔ a = c := sorry
section SPX
variable {l : Launch} {G : Gl} {d : Nat}
theorem sp_X11_candidatesIn (hG : GOK G) {τ σ : Sg} {k x kk : Nat} {nm : Int64} {sr : Int32} {ts : List Int64} {v : Int32} {A : List Nat} (hd : 9 ≤ d) (hU : JgU τ σ k) (h09 : σ.I 2209 0 0 = nI (cM k)) (hP : PmA τ) (hs : SIv σ) (hx : x ∈ wKs τ 1) (hkk : kk ∈ wKs τ 1) (hA : MAr σ ts v) (hC0 : CdL τ σ A ts.length) (hl : (jCdAs τ sr k x nm ts kk (nMe τ kk) 0 A).length ≤ 432) (hsr : (nm = 0 → sr = 2) ∧ (¬ nm = 0 → sr = 1)) {x1 x2 : Int32} (e1 : x1 = nI (cM kk)) (e2 : x2 = nI (cM x)) : CT l G yX11_candidatesIn (ws_ yX11_candidatesIn cX11_candidatesIn 11 none) d [.ref (G.adr 11 0), .int x1, .int x2, .long nm, .int v] σ (rV (fun s => FJ pMd σ s ∧ SIv s ∧ CdL τ s (jCdAs τ sr k x nm ts kk (nMe τ kk) 0 A) ts.length)) := sorry
end SPX
