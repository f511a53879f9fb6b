/-! The model reads an S: a block alone, try. -/
section NW
variable {σ st u : Sg} {s n w e k e1 t0 : Nat} {B : Nat → Nat} {r r' : PR Nat} {fI : Nat → Int32} {fL : Nat → Int64}
theorem NW.ok (h : NW σ st s B n w e k e1 t0 r fI fL) : ∀ t, r = .ok t → e1 ≤ t ∧ t0 + 1 ≤ t := sorry
theorem MTr.vI {x : Tr} {lo hi c : Nat} {v v' : Int32} (hs : s < 16) (h : MTr u s (yTok B n) x lo hi v) (hP : isP x = false) (hk : k < lo) : MTr (sI u c 0 (s * 1700 + k) v') s (yTok B n) x lo hi v := sorry
theorem MTr.vL {x : Tr} {lo hi c : Nat} {v : Int32} {v' : Int64} (hs : s < 16) (h : MTr u s (yTok B n) x lo hi v) (hP : isP x = false) (hk : k < lo) : MTr (sL u c 0 (s * 1700 + k) v') s (yTok B n) x lo hi v := sorry
theorem MTr.pg {x : Tr} {lo hi : Nat} {v : Int32} (hs : s < 16) (h : MTr st s (yTok B n) x lo hi v) (hP : isP x = false) (hF : FJ pG st u) : MTr u s (yTok B n) x lo hi v := sorry
theorem MTr.pe {x : Tr} {lo hi hi' e2 : Nat} {v : Int32} (hs : s < 16) (h : MTr st s (yTok B n) x lo hi v) (hP : isP x = false) (hF : FJ (pE s e2) st u) (h2 : hi ≤ e2) (h3 : hi ≤ hi') : MTr u s (yTok B n) x lo hi' v := sorry
end NW
section SPX
variable {l : Launch} {G : Gl}
def MS21 (l : Launch) (G : Gl) (B : Nat → Nat) (n f : Nat) : Prop := ∀ (d : Nat) (σ : Sg) (s w e t : Nat), PS σ s B n w e (.ok t) → e ≤ t → w ≤ 12 → (yTok B n t).1 = 123 → 12 * (701 - t) + 6 ≤ f → 10 * (13 - w) + 30 ≤ d → CT l G yX11_statement (ws_ yX11_statement cX11_statement 2 (some .int)) d [.ref (G.adr 11 0)] σ (oEm σ s B n w e (.ok t) (pp (yTok B n) f 21 t w nl) 0 false)
theorem dm_X11_blockOnly (hG : GOK G) (hZ : SOK G) {d : Nat} (hd : 11 ≤ d) {σ : Sg} {s n w e : Nat} {B : Nat → Nat} {z : Nat × Nat} (h : PS σ s B n w e (.error z)) : CT l G yX11_blockOnly (ws_ yX11_blockOnly cX11_blockOnly 1 (some .int)) d [.ref (G.adr 11 0)] σ (oDm σ s B n w e z) := sorry
theorem mx_o (hG : GOK G) (hZ : SOK G) {B : Nat → Nat} {n f : Nat} (h21 : MS21 l G B n f) {d : Nat} {σ : Sg} {s w e t : Nat} (h : PS σ s B n w e (.ok t)) (he : e ≤ t) (hw : w ≤ 12) (hf : 12 * (701 - t) + 6 ≤ f) (hd : 10 * (13 - w) + 31 ≤ d) : CT l G yX11_blockOnly (ws_ yX11_blockOnly cX11_blockOnly 1 (some .int)) d [.ref (G.adr 11 0)] σ (oEm σ s B n w e (.ok t) (pp (yTok B n) f 21 t w nl) 0 false) := sorry
set_option maxHeartbeats 1000000 in
theorem mx_try (hG : GOK G) (hZ : SOK G) {B : Nat → Nat} {n f : Nat} (h21 : MS21 l G B n f) {d : Nat} {σ u0 : Sg} {s w e t : Nat} (hF : FJ pG σ u0) (h : PS u0 s B n w e (pTa t)) (he : e ≤ t) (ht7 : t ≤ 700) (lt0 : LvT (yTok B n) t) (htk : (yTok B n t).1 = 223) (hw : w ≤ 12) (hf : 12 * (701 - t) + 6 ≤ f) (hd : 10 * (13 - w) + 33 ≤ d) {Q : Outcome → Sg → Prop} (hQ : oEm σ s B n w e (.ok t) (bnd (pTa t) fun t1 => bnd (pp (yTok B n) f 21 t1 w nl) fun a => bnd (pWa (yTok B n) 224 a.2) fun t2 => bnd (pWa (yTok B n) 40 t2) fun t3 => bnd (pWa (yTok B n) 2 t3) fun t4 => bnd (pWa (yTok B n) 1 t4) fun t5 => bnd (pWa (yTok B n) 41 t5) fun t6 => bnd (pp (yTok B n) f 21 t6 w nl) fun c => .ok (nd (lb 36 t t4 t3 (yTok B n t4).2.1 (yTok B n t3).2.1) a.1 c.1, c.2)) 1 false = Q) : CT l G yX11_tryOf (ws_ yX11_tryOf cX11_tryOf 4 (some .int)) d [.ref (G.adr 11 0), .int (nI (yTok B n t).2.2.1)] u0 Q := sorry
end SPX
