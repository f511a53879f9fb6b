/-! The model reads an E: what a unit begins with. -/
/-- the node's columns are as b says -/
def NdF (fI : Nat → Int32) (fL : Nat → Int64) (T : Nat → Tk) (b : Lb) : Prop := fI 2170 = nI (mNk b.1) ∧ fI 2171 = nI (T b.2.1).2.2.1 ∧ (nmk b.1 = true → fL 2174 = lN b.2.2.2.2.1 ∧ fI 2172 = nI (T b.2.2.1).2.2.1) ∧ (clk b.1 = true → fL 2175 = lN (b.2.2.2.2.2.1 + 2305843009213693952) ∧ fI 2173 = nI (T (if b.1 = 8 then b.2.1 else b.2.2.2.1)).2.2.1) ∧ (b.1 = 8 → fI 2179 = nI (T b.2.2.2.1).2.2.1) ∧ (b.1 = 31 → fL 2176 = tM (lN b.2.2.2.2.2.1) ∧ fI 2173 = nI (T b.2.2.2.1).2.2.1) ∧ (b.1 = 1 → fI 2181 = nI b.2.2.2.2.2.1) ∧ fI 2182 = -2 ∧ fI 2185 = 0 ∧ fI 2187 = -2 ∧ fI 2188 = -2
theorem NdF.to {σ : Sg} {X : Nat} {fI : Nat → Int32} {fL : Nat → Int64} {T : Nat → Tk} {b : Lb} (h : NdF fI fL T b) (hB : NB σ X fI fL) : NdC σ T b X := sorry
/-- the node is done -/
theorem NU.fin {σ u : Sg} {s n w e k e2 t0 kk : Nat} {B : Nat → Nat} {r : PR Nat} {R : PR (Tr × Nat)} {fI : Nat → Int32} {fL : Nat → Int64} (hU : NU σ u s B n w e k e2 r fI fL) (hr : r = bnd R (fun a => .ok a.2)) (hnx : fI 2180 = -2) (hok : ∀ c, R = .ok c → ∃ b x y, c.1 = nd b x y ∧ (¬ b.1 = 0 ∧ ¬ b.1 = 41 ∧ b.1 < 100) ∧ NdF fI fL (yTok B n) b ∧ isP x = false ∧ (isP y = true → b.1 = 32 ∨ b.1 = 33) ∧ (MTr u s (yTok B n) x e k (fI 2177) ∨ MTr u s (yTok B n) x (k + 1) e2 (fI 2177)) ∧ (isP y = false → MTr u s (yTok B n) y (k + 1) e2 (fI 2178)) ∧ (isP y = true → MTr u s (yTok B n) y (k + 1) e2 (nI (s * 1700 + k))) ∧ t0 ≤ c.2 ∧ e2 + t0 ≤ e + c.2) (herr : ∀ z, R = .error z → e2 ≤ cap w + kk) : oEv σ s B n w e (.ok t0) R kk false (nI (s * 1700 + k)) u := sorry
/-- the token at hand is looked at -/
theorem PS.pk {σ : Sg} {s n w e : Nat} {B : Nat → Nat} {r : PR Nat} (h : PS σ s B n w e r) : PS σ s B n w e (bnd r fun t => bnd (pPk (yTok B n) t) fun _ => .ok t) := sorry
theorem NU.pk {σ st : Sg} {s n w e k e1 : Nat} {B : Nat → Nat} {r : PR Nat} {fI : Nat → Int32} {fL : Nat → Int64} (h : NU σ st s B n w e k e1 r fI fL) : NU σ st s B n w e k e1 (bnd r fun t => bnd (pPk (yTok B n) t) fun _ => .ok t) fI fL := sorry
section SPX
variable {l : Launch} {G : Gl}
theorem arg40 {T : Nat → Tk} {f t w : Nat} {α : Type} {k : Tr × Nat → PR α} : (bnd (pPk T t) fun y => if y = 40 then bnd (pp T (f + 1) 5 t w nl) k else .error (2, t)) = bnd (pp T (f + 1) 5 t w nl) k := sorry
def ME6 (l : Launch) (G : Gl) (B : Nat → Nat) (n f : Nat) : Prop := ∀ (d : Nat) (σ : Sg) (s w e t : Nat), PS σ s B n w e (.ok t) → e ≤ t → w ≤ 12 → (yTok B n t).1 = 2 → 12 * (700 - t) + 2 ≤ f → 10 * (13 - w) + 22 ≤ d → CT l G yX11_ofClass (ws_ yX11_ofClass cX11_ofClass 7 (some .int)) d [.ref (G.adr 11 0), .int (nI (yTok B n t).2.2.1)] σ (oEm σ s B n w e (.ok t) (bnd (pTa t) fun t1 => pp (yTok B n) f 6 t1 w nl) 1 false)
def ME8 (l : Launch) (G : Gl) (B : Nat → Nat) (n f : Nat) : Prop := ∀ (d : Nat) (σ : Sg) (s w e t : Nat), PS σ s B n w e (.ok t) → e ≤ t → w ≤ 12 → (yTok B n t).1 = 40 → 12 * (700 - t) + 7 ≤ f → 10 * (13 - w) + 22 ≤ d → CT l G yX11_inBrackets (ws_ yX11_inBrackets cX11_inBrackets 4 (some .int)) d [.ref (G.adr 11 0), .int (nI (yTok B n t).2.2.1)] σ (oEm σ s B n w e (.ok t) (bnd (pTa t) fun t1 => pp (yTok B n) f 8 t1 w nl) 1 false)
set_option maxHeartbeats 1000000 in
theorem mx_6 (hG : GOK G) (hZ : SOK G) {B : Nat → Nat} {n : Nat} (f : Nat) (h5 : ∀ f', f' < f → ME5 l G B n f') : ME6 l G B n f := sorry
end SPX
