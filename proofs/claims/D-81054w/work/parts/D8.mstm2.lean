/-! The model reads an S: the whole group. -/
section SPX
variable {l : Launch} {G : Gl}
theorem mx_st (hG : GOK G) (hZ : SOK G) {B : Nat → Nat} {n d : Nat} {σ : Sg} {s w e t : Nat} {R : Nat → PR (Tr × Nat)} (h : PS σ s B n w e (.ok t)) (he : e ≤ t) (hw : w ≤ 12) (hd : 11 ≤ d) (hW : ¬ w = 12 → cBt (yTok B n t).1 = true → CT l G yX11_statementWithin (ws_ yX11_statementWithin cX11_statementWithin 4 (some .int)) (d - 1) [.ref (G.adr 11 0)] (sI σ 2189 0 0 (nI (w + 1))) (oEm (sI σ 2189 0 0 (nI (w + 1))) s B n (w + 1) e (.ok t) (R (w + 1)) 1 false)) : CT l G yX11_statement (ws_ yX11_statement cX11_statement 2 (some .int)) d [.ref (G.adr 11 0)] σ (oEm σ s B n w e (.ok t) (bnd (pPk (yTok B n) t) fun x => bnd (pEn (cBt x) t w) fun w1 => R w1) 0 false) := sorry
theorem mx_wb (hG : GOK G) (hZ : SOK G) {B : Nat → Nat} {n g d : Nat} {σ : Sg} {s w e t : Nat} (hb : MSb l G B n g) (h : PS σ s B n w e (.ok t)) (he : e ≤ t) (hw : w ≤ 12) (q1 : (yTok B n t).1 = 123) (hf : 12 * (700 - t) + 8 ≤ g) (hd : 10 * (13 - w) + 36 ≤ d) : CT l G yX11_statementWithin (ws_ yX11_statementWithin cX11_statementWithin 4 (some .int)) d [.ref (G.adr 11 0)] σ (oEm σ s B n w e (.ok t) (bnd (pTa t) fun t1 => bnd (pp (yTok B n) g 22 t1 w nl) fun a => .ok (nd (lb 30 t 0 0 0 0) a.1 nl, a.2)) 1 false) := sorry
theorem mx_21 (hG : GOK G) (hZ : SOK G) {B : Nat → Nat} {n g : Nat} (hb : MSb l G B n g) : MS21 l G B n (g + 1) := sorry
theorem mx_20 (hG : GOK G) (hZ : SOK G) {B : Nat → Nat} {n g : Nat} (h20 : MS20 l G B n g) (h21 : MS21 l G B n g) (hb : MSb l G B n (g - 1)) : MS20 l G B n (g + 1) := sorry
/-- the whole group -/
theorem mx_stm (hG : GOK G) (hZ : SOK G) {B : Nat → Nat} {n : Nat} : ∀ f, MS20 l G B n f ∧ MS21 l G B n f := sorry
end SPX
