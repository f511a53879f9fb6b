/-! Judging, the model: the methods of all classes against what stands above them. -/
theorem AbL_in {τ : Sg} {k m : Nat} (hW : WOK τ 1) (hn : ¬ wHr τ 1 k k) : ∀ o, o ∈ AbL τ k m → ∃ c i, c ∈ k :: wKs τ 1 ∧ i < nMe τ c ∧ o = 33 * c + i := sorry
/-- the columns of a fault, marks and rows -/
def pAg (c j : Nat) : Bool := pFt c j || pFa c j
theorem pAg_no {c j : Nat} (h : c ≤ 2119 ∨ (2121 < c ∧ c ≤ 2192) ∨ (2196 < c ∧ c ≤ 2202) ∨ 2205 < c) : pAg c j = false := sorry
theorem pFt_pAg : ∀ c j, pFt c j = true → pAg c j = true := sorry
theorem stJ_ag {σ s : Sg} (h : FJ pAg σ s) : stJ s = stJ σ := sorry
theorem MJ.ag {τ σ s : Sg} {b : Nat} {U : List Nat} (h : MJ τ σ b U) (hF : FJ pAg σ s) : MJ τ s b U := sorry
theorem AbU.e {τ σ s : Sg} {U : List Nat} (h : AbU τ σ U) (e : stJ s = stJ σ) : AbU τ s U := sorry
theorem pFa_pAg (c i j : Nat) (h : pAg c j = false) : pFa c i = false := sorry
theorem pN_pAg (c i j : Nat) (h : pAg c j = false) : pN c i = false := sorry
section SPX
variable {l : Launch} {G : Gl} {d : Nat}
theorem sp_X11_againstAbove (hG : GOK G) {τ σ : Sg} {b nk : Nat} {U : List Nat} {T : Nat → Tk} (hd : 7 ≤ d) (hM : MJ τ σ b U) (hA : AbU τ σ U) (hnk : nk ≤ 12) (h23 : σ.I 2123 0 b = nI nk) (hcU : ∀ k, k < nk → 12 * b + k ∈ U) (hne : ∀ k, k < nk → ¬ wHr τ 1 (12 * b + k) (12 * b + k)) (hP : ∀ k j, k < nk → j < nMe τ (12 * b + k) → τ.I 1200 (33 * (12 * b + k) + j) 0 = 1 → σ.I 2152 0 (34 * (12 * b + k) + j) = nI (T (tkN (τ.I 1214 (33 * (12 * b + k) + j) 0))).2.2.1) (hs : SIv σ) (hq : FLq σ T (.ok ())) : CT l G yX11_againstAbove (ws_ yX11_againstAbove cX11_againstAbove 6 none) d [.ref (G.adr 11 0)] σ (rV (fun u => FJ pAg σ u ∧ SIv u ∧ FLq u T (jFor (jAs τ b) nk 0))) := sorry
end SPX
