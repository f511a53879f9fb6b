/-! The model reads an S: what stands within. -/
/-- an S, one within: it is known that one begins at t -/
def pSw (T : Nat → Tk) (f t w : Nat) : PR (Tr × Nat) := if (T t).1 = 123 then (bnd (pTa t) fun t1 => bnd (pp T (f - 1) 22 t1 w nl) fun a => .ok (nd (lb 30 t 0 0 0 0) a.1 nl, a.2))
  else if (T t).1 = 217 then (bnd (pTa t) fun t1 => bnd (pTy T t1) fun t2 => bnd (pWa T 1 t2) fun t3 => bnd (pWa T 61 t3) fun t4 => bnd (pp T f 0 t4 w nl) fun a => bnd (pWa T 59 a.2) fun t5 => .ok (nd (lb 31 t t2 t1 (T t2).2.1 (tyT T t1)) a.1 nl, t5))
  else if (T t).1 = 218 then (bnd (pTa t) fun t1 => bnd (pWa T 40 t1) fun t2 => bnd (pp T f 0 t2 w nl) fun a => bnd (pWa T 41 a.2) fun t3 => bnd (pp T f 20 t3 w nl) fun c => bnd (pHa T 219 c.2) fun y => if y.1 = true then (bnd (pp T f 20 y.2 w nl) fun e => .ok (nd (lb 32 t 0 0 0 0) a.1 (prs c.1 e.1), e.2)) else .ok (nd (lb 32 t 0 0 0 0) a.1 (prs c.1 nl), c.2))
  else if (T t).1 = 220 then (bnd (pTa t) fun t1 => bnd (pWa T 40 t1) fun t2 => bnd (pp T f 0 t2 w nl) fun a => bnd (pWa T 41 a.2) fun t3 => bnd (pp T f 20 t3 w nl) fun c => .ok (nd (lb 33 t 0 0 0 0) a.1 (prs c.1 nl), c.2))
  else if (T t).1 = 221 then (bnd (pTa t) fun t1 => bnd (pPk T t1) fun y => if y = 59 then (bnd (pWa T 59 t1) fun t2 => .ok (nd (lb 34 t 0 0 0 0) nl nl, t2)) else bnd (pp T f 0 t1 w nl) fun a => bnd (pWa T 59 a.2) fun t2 => .ok (nd (lb 34 t 0 0 0 0) a.1 nl, t2))
  else if (T t).1 = 222 ∨ (T t).1 = 225 then (bnd (pTa t) fun t1 => bnd (pp T f 0 t1 w nl) fun a => bnd (pWa T 59 a.2) fun t2 => .ok (nd (lb (if (T t).1 = 222 then 35 else 37) t 0 0 0 0) a.1 nl, t2))
  else if (T t).1 = 223 then (bnd (pTa t) fun t1 => bnd (pp T f 21 t1 w nl) fun a => bnd (pWa T 224 a.2) fun t2 => bnd (pWa T 40 t2) fun t3 => bnd (pWa T 2 t3) fun t4 => bnd (pWa T 1 t4) fun t5 => bnd (pWa T 41 t5) fun t6 => bnd (pp T f 21 t6 w nl) fun c => .ok (nd (lb 36 t t4 t3 (T t4).2.1 (T t3).2.1) a.1 c.1, c.2))
  else if (T t).1 = 228 ∧ t < 700 ∧ (T (t + 1)).1 = 40 then (bnd (pp T f 5 (t + 1) w nl) fun a => bnd (pWa T 59 a.2) fun t2 => .ok (nd (lb 38 t 0 0 0 0) a.1 nl, t2))
  else bnd (pp T f 0 t w nl) fun a => bnd (pHa T 61 a.2) fun y => if y.1 = true then (bnd (pp T f 0 y.2 w nl) fun c => bnd (pWa T 59 c.2) fun t2 => .ok (nd (lb 40 t 0 0 0 0) a.1 c.1, t2)) else bnd (pWa T 59 a.2) fun t2 => .ok (nd (lb 39 t 0 0 0 0) a.1 nl, t2)
theorem Fw_ht {T : Nat → Tk} {q : Nat} : Fw (pHt T q) := sorry
theorem NW.re {σ st : Sg} {s n w e k e1 t0 : Nat} {B : Nat → Nat} {r : PR Nat} {fI : Nat → Int32} {fL : Nat → Int64} {f : Nat → PR Nat} (h : NW σ st s B n w e k e1 t0 r fI fL) (hf : Fw f) (hp : PS st s B n w e1 (bnd r f)) : NW σ st s B n w e k e1 t0 (bnd r f) fI fL := sorry
section SPX
variable {l : Launch} {G : Gl}
def MSw (l : Launch) (G : Gl) (B : Nat → Nat) (n f : Nat) : Prop := ∀ (d : Nat) (σ : Sg) (s w e t : Nat), PS σ s B n w e (.ok t) → e ≤ t → w ≤ 12 → cBt (yTok B n t).1 = true → 12 * (701 - t) + 6 ≤ f → 10 * (13 - w) + 36 ≤ d → CT l G yX11_statementWithin (ws_ yX11_statementWithin cX11_statementWithin 4 (some .int)) d [.ref (G.adr 11 0)] σ (oEm σ s B n w e (.ok t) (pSw (yTok B n) f t w) 1 false)
set_option maxHeartbeats 4000000 in
theorem mx_w (hG : GOK G) (hZ : SOK G) {B : Nat → Nat} {n : Nat} (f : Nat) (h20 : MS20 l G B n f) (h21 : MS21 l G B n f) (hb : MSb l G B n (f - 1)) : MSw l G B n f := sorry
end SPX
