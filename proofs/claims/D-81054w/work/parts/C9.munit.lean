/-! The model reads an E: units. -/
/-- a node is being filled: it is node k of slot s -/
def NU (σ st : Sg) (s : Nat) (B : Nat → Nat) (n w e k e1 : Nat) (r : PR Nat) (fI : Nat → Int32) (fL : Nat → Int64) : Prop := FJ (pE s e) σ st ∧ PS st s B n w e1 r ∧ NB st (s * 1700 + k) fI fL ∧ e ≤ k ∧ k < e1 ∧ e1 < 1690
section NU
variable {σ st u : Sg} {s n w e k e1 : Nat} {B : Nat → Nat} {r r' : PR Nat} {fI : Nat → Int32} {fL : Nat → Int64}
theorem NU.mk {kd pl : Int32} (hF : FJ (pE s e) σ st) (h : PS st s B n w e1 r) (he : e ≤ e1) (h1 : e1 < 1680) : NU σ (mkM st s e1 kd pl) s B n w e e1 (e1 + 1) r (f0N kd pl) (fun _ => 0) := sorry
theorem NU.go (h : NU σ st s B n w e k e1 r fI fL) (ho : oSt st s B n w e1 r' u) : NU σ u s B n w e k e1 r' fI fL := sorry
theorem pEone {c0 X c j : Nat} (h : ¬ (c = c0 ∧ j = X)) : (Nat.beq c c0 && Nat.beq j X) = false := sorry
theorem one_I {σ : Sg} {c X : Nat} {v : Int32} : FJ (fun c' j => Nat.beq c' c && Nat.beq j X) σ (sI σ c 0 X v) := sorry
theorem one_L {σ : Sg} {c X : Nat} {v : Int64} : FJ (fun c' j => Nat.beq c' c && Nat.beq j X) σ (sL σ c 0 X v) := sorry
theorem NU.vI {c0 : Nat} {v : Int32} (h : NU σ st s B n w e k e1 r fI fL) (hc : 2169 < c0 ∧ c0 ≤ 2188) : NU σ (sI st c0 0 (s * 1700 + k) v) s B n w e k e1 r (fun c => if c = c0 then v else fI c) fL := sorry
theorem NU.vL {c0 : Nat} {v : Int64} (h : NU σ st s B n w e k e1 r fI fL) (hc : 2169 < c0 ∧ c0 ≤ 2188) : NU σ (sL st c0 0 (s * 1700 + k) v) s B n w e k e1 r fI (fun c => if c = c0 then v else fL c) := sorry
/-- a tree is read behind it -/
theorem NU.sub {rr : PR (Tr × Nat)} {kk : Nat} {row : Bool} {v : Int32} (h : NU σ st s B n w e k e1 r fI fL) (hb : ∀ t, r = .ok t → e1 ≤ t + 5) (hkk : kk ≤ 10) (hE : oEv st s B n w e1 r rr kk row v u) : ∃ e2, e1 ≤ e2 ∧ (∀ t, r = .ok t → (∀ a, rr = .ok a → t ≤ a.2 ∧ e2 + t ≤ e1 + a.2) ∧ (∀ z, rr = .error z → e2 ≤ cap w + kk)) ∧ (∀ z, r = .error z → e2 = e1 ∧ Fld u (.error z)) ∧ NV s e2 v ∧ (∀ a, rr = .ok a → isP a.1 = false ∧ MTr u s (yTok B n) a.1 e1 e2 v ∧ (row = false → isT a.1 = true ∧ ∀ j, v = nI (s * 1700 + j) → j < 1700 → u.I 2180 0 (s * 1700 + j) = -2)) ∧ FJ (pE s e1) st u ∧ NU σ u s B n w e k e2 (bnd rr (fun a => .ok a.2)) fI fL := sorry
theorem NU.in (h : NU σ st s B n w e k e1 r fI fL) : vp_in (nI (s * 1700 + k)) 30600 ∧ (nI (s * 1700 + k)).toNatClampNeg = s * 1700 + k := sorry
end NU
/-- the tables' name and place of a token that was read -/
theorem PS.nm {σ : Sg} {s n w e t : Nat} {B : Nat → Nat} {r : PR Nat} (h : PS σ s B n w e r) (ht : t ≤ 700) (hl : LvT (yTok B n) t) : TkM σ s (yTok B n) t := sorry
section SPX
variable {l : Launch} {G : Gl}
theorem pWn1 {T : Nat → Tk} {q t z : Nat} (h : pWn T false q t = .ok z) : z = t + 1 ∧ ¬ t = 700 ∧ (T t).1 = q ∧ ¬ (T t).1 = 999 := sorry
set_option maxHeartbeats 1000000 in
theorem mx_3 (hG : GOK G) (hZ : SOK G) {B : Nat → Nat} {n : Nat} (f : Nat) (h4 : ∀ f', f' < f → ME4 l G B n f') (h5 : ∀ f', f' < f → ME5 l G B n f') : ME3 l G B n f := sorry
end SPX
