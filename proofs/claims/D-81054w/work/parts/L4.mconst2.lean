/-! Judging, the model: constants of all classes, the loops. -/
def pCm (b x y : Nat) : Bool := pFd x y || decide ((x = 2164 ∨ x = 2165) ∧ 408 * b ≤ y ∧ y < 408 * b + 408)
theorem pCm_iff {b x y : Nat} : pCm b x y = true ↔ pFd x y = true ∨ ((x = 2164 ∨ x = 2165) ∧ 408 * b ≤ y ∧ y < 408 * b + 408) := sorry
theorem pCm_no {b x y : Nat} (h : x ≤ 2163 ∨ (2165 < x ∧ x ≤ 2192) ∨ (2198 < x ∧ x ≤ 2206) ∨ 2208 < x) : pCm b x y = false := sorry
theorem pFd_pCm {b : Nat} : ∀ x y, pFd x y = true → pCm b x y = true := sorry
theorem pFd_pC1 {q : Nat} : ∀ x y, pFd x y = true → pC1 q x y = true := sorry
/-- the trees of the fields of class k, in the model -/
def TrM (τ σ : Sg) (T : Nat → Tk) (L b k : Nat) (tx : Nat → Tr) : Prop := ∀ j, j < nMe τ k → τ.I 1200 (33 * k + j) 0 = 0 → ∃ lo hi, hi ≤ 1700 ∧ MTr σ b T (tx j) lo hi (σ.I 2160 0 (34 * k + j)) ∧ (tx j = nl ∨ ∃ a e, wt (tx j) 0 1 a e) ∧ nmT T L (tx j) ∧ ht (tx j) ≤ 702
/-- no constants yet, from member j of class 12 * b + i on -/
def Cs0 (τ : Sg) (b nk i j : Nat) : Prop := ∀ i' j', i' < nk → j' < nMe τ (12 * b + i') → (i < i' ∨ (i' = i ∧ j ≤ j')) → τ.B 1212 (33 * (12 * b + i') + j') 0 = false ∧ τ.I 1213 (33 * (12 * b + i') + j') 0 = 0
section SPX
variable {l : Launch} {G : Gl} {d : Nat}
theorem sp_X11_constants (hG : GOK G) {τ σ : Sg} {b nk L n0 : Nat} {B0 : Nat → Nat} {tr : Nat → Nat → Tr} (hd : 720 ≤ d) (hb : b < 16) (hnk : nk ≤ 12) (h19 : σ.I 2119 0 0 = nI b) (h23 : σ.I 2123 0 b = nI nk) (hU : ∀ i, i < nk → JgU τ σ (12 * b + i)) (hT : ∀ i, i < nk → TrM τ σ (yTok B0 n0) L b (12 * b + i) (tr i)) (hz : Cs0 τ b nk 0 0) (hI : SIv σ) : CT l G yX11_constants (ws_ yX11_constants cX11_constants 7 none) d [.ref (G.adr 11 0)] σ (rV (fun u => FJ (pCm b) σ u ∧ SIv u ∧ ∀ i, i < nk → JgU (csA b tr nk 0 τ) u (12 * b + i))) := sorry
end SPX
