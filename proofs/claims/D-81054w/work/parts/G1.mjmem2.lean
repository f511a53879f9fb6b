/-! Judging, the model: the members of all classes. -/
section SPX
variable {l : Launch} {G : Gl} {d : Nat}
theorem sp_X11_membersOf (hG : GOK G) {τ σ : Sg} {b nk : Nat} {U : List Nat} {B : Nat → Nat} {n : Nat} {fS fT : Nat → Nat} (hd : 6 ≤ d) (hM : MJ τ σ b U) (hnk : nk ≤ 12) (h23 : σ.I 2123 0 b = nI nk) (hcU : ∀ k, k < nk → 12 * b + k ∈ U) (hmm : ∀ k, k < nk → σ.I 2141 0 (12 * b + k) = nI (nMe τ (12 * b + k)) ∧ nMe τ (12 * b + k) ≤ 20 ∧ (τ.B 1104 (12 * b + k) 0 = true → τ.B 1105 (12 * b + k) 0 = false) ∧ ∀ j, j < nMe τ (12 * b + k) → MM0 τ σ (yTok B n) (12 * b + k) (33 * (12 * b + k) + j) (34 * (12 * b + k) + j) (fS (33 * (12 * b + k) + j)) (fT (33 * (12 * b + k) + j))) (hq : FLq σ (yTok B n) (.ok ())) : CT l G yX11_membersOf (ws_ yX11_membersOf cX11_membersOf 8 none) d [.ref (G.adr 11 0)] σ (rV (fun u => FJ pFt σ u ∧ FLq u (yTok B n) (jFor (jMs τ b (yTok B n)) nk 0))) := sorry
end SPX
