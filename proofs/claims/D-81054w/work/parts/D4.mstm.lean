/-! The model reads an S: tools, types. -/
/-- a node is being filled, with bounds: it began at token t0 -/
def NW (σ st : Sg) (s : Nat) (B : Nat → Nat) (n w e k e1 t0 : Nat) (r : PR Nat) (fI : Nat → Int32) (fL : Nat → Int64) : Prop := NU σ st s B n w e k e1 r fI fL ∧ e ≤ t0 ∧ (∀ t, r = .ok t → t0 + 1 ≤ t ∧ e1 + t0 ≤ e + t) ∧ (∀ z, r = .error z → e1 ≤ cap w + 1)
section NW
variable {σ st u : Sg} {s n w e k e1 t0 : Nat} {B : Nat → Nat} {r r' : PR Nat} {fI : Nat → Int32} {fL : Nat → Int64}
/-- a step that does not go back -/
def Fw (f : Nat → PR Nat) : Prop := ∀ t t', f t = .ok t' → t ≤ t'
theorem NW.go {f : Nat → PR Nat} (h : NW σ st s B n w e k e1 t0 r fI fL) (hf : Fw f) (ho : oSt st s B n w e1 (bnd r f) u) : NW σ u s B n w e k e1 t0 (bnd r f) fI fL := sorry
theorem NW.vI {c0 : Nat} {v : Int32} (h : NW σ st s B n w e k e1 t0 r fI fL) (hc : 2169 < c0 ∧ c0 ≤ 2188) : NW σ (sI st c0 0 (s * 1700 + k) v) s B n w e k e1 t0 r (fun c => if c = c0 then v else fI c) fL := sorry
theorem NW.vL {c0 : Nat} {v : Int64} (h : NW σ st s B n w e k e1 t0 r fI fL) (hc : 2169 < c0 ∧ c0 ≤ 2188) : NW σ (sL st c0 0 (s * 1700 + k) v) s B n w e k e1 t0 r fI (fun c => if c = c0 then v else fL c) := sorry
/-- what is known of a tree that was read -/
def Sb (u : Sg) (s : Nat) (B : Nat → Nat) (n e1 e2 : Nat) (rr : PR (Tr × Nat)) (row : Bool) (v : Int32) : Prop := ∀ a, rr = .ok a → isP a.1 = false ∧ MTr u s (yTok B n) a.1 e1 e2 v ∧ (row = false → isT a.1 = true ∧ ∀ j, v = nI (s * 1700 + j) → j < 1700 → u.I 2180 0 (s * 1700 + j) = -2)
theorem NW.sub {rr : PR (Tr × Nat)} {row : Bool} {v : Int32} (h : NW σ st s B n w e k e1 t0 r fI fL) (hE : oEv st s B n w e1 r rr 0 row v u) : ∃ e2, e1 ≤ e2 ∧ Sb u s B n e1 e2 rr row v ∧ FJ (pE s e1) st u ∧ NW σ u s B n w e k e2 t0 (bnd rr (fun a => .ok a.2)) fI fL ∧ (∀ z, r = .error z → Fld u (.error z)) ∧ NV s e2 v := sorry
theorem NW.in (h : NW σ st s B n w e k e1 t0 r fI fL) : vp_in (nI (s * 1700 + k)) 30600 ∧ (nI (s * 1700 + k)).toNatClampNeg = s * 1700 + k := sorry
theorem NW.fin {R : PR (Tr × Nat)} (hU : NW σ u s B n w e k e1 t0 r fI fL) (hr : r = bnd R (fun a => .ok a.2)) (hnx : fI 2180 = -2) (hok : ∀ c, R = .ok c → ∃ b x y, c.1 = nd b x y ∧ (¬ b.1 = 0 ∧ ¬ b.1 = 41 ∧ b.1 < 100) ∧ NdF fI fL (yTok B n) b ∧ isP x = false ∧ (isP y = true → b.1 = 32 ∨ b.1 = 33) ∧ (MTr u s (yTok B n) x e k (fI 2177) ∨ MTr u s (yTok B n) x (k + 1) e1 (fI 2177)) ∧ (isP y = false → MTr u s (yTok B n) y (k + 1) e1 (fI 2178)) ∧ (isP y = true → MTr u s (yTok B n) y (k + 1) e1 (nI (s * 1700 + k)))) : oEv σ s B n w e (.ok t0) R 1 false (nI (s * 1700 + k)) u := sorry
/-- a new node, its word being taken -/
theorem NW.mk {kd pl : Int32} (hF : FJ (pE s e) σ st) (h : PS st s B n w e (pTa t0)) (he : e ≤ t0) (h7 : t0 ≤ 700) : NW σ (mkM st s e kd pl) s B n w e e (e + 1) t0 (pTa t0) (f0N kd pl) (fun _ => 0) := sorry
end NW
theorem Fw_ta : Fw pTa := sorry
theorem Fw_wa {T : Nat → Tk} {q : Nat} : Fw (pWa T q) := sorry
theorem Fw_wn {T : Nat → Tk} {q : Nat} : Fw (pWn T false q) := sorry
theorem Fw_ty {T : Nat → Tk} : Fw (pTy T) := sorry
section SPX
variable {l : Launch} {G : Gl} {d : Nat} {σ : Sg} {s n w e : Nat} {B : Nat → Nat} {r : PR Nat}
theorem tM_ty {t t' : Nat} (hB : BOK B n) (h : pTy (yTok B n) t = .ok t') : tM (lN (tyT (yTok B n) t)) = if (yTok B n t).1 = 216 then 2 else lN ((yTok B n t).2.1 + 2305843009213693952) := sorry
theorem sp_X11_typeToken (hG : GOK G) (hZ : SOK G) (hd : 9 ≤ d) (h : PS σ s B n w e r) : CT l G yX11_typeToken (ws_ yX11_typeToken cX11_typeToken 2 (some .long)) d [.ref (G.adr 11 0)] σ (fun o st => ∃ v, o = .returned (some (.long v)) ∧ oSt σ s B n w e (bnd r (pTy (yTok B n))) st ∧ ∀ t t', r = .ok t → pTy (yTok B n) t = .ok t' → v = tM (lN (tyT (yTok B n) t))) := sorry
end SPX
