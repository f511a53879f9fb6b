/-! Judging, the model: the nearest of candidates. -/
/-- the candidates, in the model -/
def CdM (τ σ : Sg) (A : List Nat) (np : Nat) : Prop := σ.I 2216 0 0 = nI A.length ∧ ∀ j, j < A.length → σ.I 2215 0 j = nI (mM (A.getD j 0)) ∧ MSg τ σ (A.getD j 0) (mM (A.getD j 0)) ∧ PmN τ (A.getD j 0) ∧ nPa τ (A.getD j 0) = np
section SPX
variable {l : Launch} {G : Gl} {d : Nat}
theorem sp_X11_best (hG : GOK G) {τ σ : Sg} {A : List Nat} {np : Nat} (hd : 6 ≤ d) (hU : MWd τ σ 1 (wKs τ 1)) (hs : SIv σ) (hA : CdM τ σ A np) (hl : A.length ≤ 432) : CT l G yX11_best (ws_ yX11_best cX11_best 5 (some .int)) d [.ref (G.adr 11 0)] σ (rI (oN ((jBst τ A).map mM)) (fun s => ∃ ρ, s = mix pN σ ρ ∧ SIv ρ)) := sorry
end SPX
