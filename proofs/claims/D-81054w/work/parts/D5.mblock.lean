/-! The model reads a block. -/
/-- the columns of reading, and where a row hangs -/
def pEh (s e1 c0 X c j : Nat) : Bool := pE s e1 c j || (Nat.beq c c0 && Nat.beq j X)
theorem pEh_no {s e1 c0 X c j : Nat} (h1 : pE s e1 c j = false) (h2 : ¬ (c = c0 ∧ j = X)) : pEh s e1 c0 X c j = false := sorry
theorem pE_pEh {s e1 c0 X : Nat} : ∀ c j, pE s e1 c j = true → pEh s e1 c0 X c j = true := sorry
theorem pG_pEh {s e1 c0 X : Nat} : ∀ c j, pG c j = true → pEh s e1 c0 X c j = true := sorry
theorem pEh_h {s e1 c0 X : Nat} : pEh s e1 c0 X c0 X = true := sorry
theorem pEh_pE {s e0 e1 c0 X : Nat} (h : e0 ≤ e1) (hc : 2169 < c0 ∧ c0 ≤ 2188) (h2 : s * 1700 + e0 ≤ X) (h3 : X < s * 1700 + 1700) : ∀ c j, pEh s e1 c0 X c j = true → pE s e0 c j = true := sorry
/-- what the rest of a row leaves, hanging at column c0 of X -/
def oRh (st : Sg) (s : Nat) (B : Nat → Nat) (n w e1 c0 X t : Nat) (R : PR (Tr × Nat)) (u : Sg) : Prop := ∃ e2, FJ (pEh s e1 c0 X) st u ∧ PS u s B n w e2 (bnd R (fun a => .ok a.2)) ∧ e1 ≤ e2 ∧ (∀ c, R = .ok c → isP c.1 = false ∧ MTr u s (yTok B n) c.1 e1 e2 (u.I c0 0 X) ∧ t ≤ c.2 ∧ e2 + t ≤ e1 + c.2) ∧ (∀ z, R = .error z → e2 ≤ cap w)
section SPX
variable {l : Launch} {G : Gl}
def MS20 (l : Launch) (G : Gl) (B : Nat → Nat) (n f : Nat) : Prop := ∀ (d : Nat) (σ : Sg) (s w e t : Nat), PS σ s B n w e (.ok t) → e ≤ t → w ≤ 12 → 12 * (701 - t) + 7 ≤ f → 10 * (13 - w) + 30 ≤ d → CT l G yX11_statement (ws_ yX11_statement cX11_statement 2 (some .int)) d [.ref (G.adr 11 0)] σ (oEm σ s B n w e (.ok t) (pp (yTok B n) f 20 t w nl) 0 false)
def MSb (l : Launch) (G : Gl) (B : Nat → Nat) (n f : Nat) : Prop := ∀ (d : Nat) (σ : Sg) (s w e t : Nat), PS σ s B n w e (.ok t) → e ≤ t → w ≤ 12 → (yTok B n t).1 = 123 → 12 * (700 - t) + 8 ≤ f → 10 * (13 - w) + 32 ≤ d → CT l G yX11_block (ws_ yX11_block cX11_block 5 (some .int)) d [.ref (G.adr 11 0), .int (nI (yTok B n t).2.2.1)] σ (oEm σ s B n w e (.ok t) (bnd (pTa t) fun t1 => bnd (pp (yTok B n) f 22 t1 w nl) fun a => .ok (nd (lb 30 t 0 0 0 0) a.1 nl, a.2)) 1 false)
set_option maxHeartbeats 1000000 in
theorem mx_b (hG : GOK G) (hZ : SOK G) {B : Nat → Nat} {n : Nat} (f : Nat) (h20 : ∀ f', f' < f → MS20 l G B n f') : MSb l G B n f := sorry
end SPX
