/-! The model reads a class: tools, and the end of its head. -/
/-- the columns of reading class c -/
def pKv (s e c col i : Nat) : Bool := pE s e col i || decide ((col = 2123 ∧ i = s) ∨ (2123 < col ∧ col ≤ 2141 ∧ (¬ (2130 ≤ col ∧ col ≤ 2131) ∧ ¬ (2135 ≤ col ∧ col ≤ 2136) ∧ ¬ (2138 ≤ col ∧ col ≤ 2139)) ∧ i = c) ∨ ((2130 ≤ col ∧ col ≤ 2131) ∧ 4 * c ≤ i ∧ i < 4 * c + 4) ∨ (((2135 ≤ col ∧ col ≤ 2136) ∨ (2138 ≤ col ∧ col ≤ 2139)) ∧ 8 * c ≤ i ∧ i < 8 * c + 8) ∨ (2141 < col ∧ col ≤ 2168 ∧ ¬ (2155 < col ∧ col ≤ 2159) ∧ c * 34 ≤ i ∧ i < c * 34 + 34) ∨ (2155 < col ∧ col ≤ 2159 ∧ 4 * (c * 34) ≤ i ∧ i < 4 * (c * 34 + 34)))
theorem pKv_iff {s e c col i : Nat} : pKv s e c col i = true ↔ pE s e col i = true ∨ ((col = 2123 ∧ i = s) ∨ (2123 < col ∧ col ≤ 2141 ∧ (¬ (2130 ≤ col ∧ col ≤ 2131) ∧ ¬ (2135 ≤ col ∧ col ≤ 2136) ∧ ¬ (2138 ≤ col ∧ col ≤ 2139)) ∧ i = c) ∨ ((2130 ≤ col ∧ col ≤ 2131) ∧ 4 * c ≤ i ∧ i < 4 * c + 4) ∨ (((2135 ≤ col ∧ col ≤ 2136) ∨ (2138 ≤ col ∧ col ≤ 2139)) ∧ 8 * c ≤ i ∧ i < 8 * c + 8) ∨ (2141 < col ∧ col ≤ 2168 ∧ ¬ (2155 < col ∧ col ≤ 2159) ∧ c * 34 ≤ i ∧ i < c * 34 + 34) ∨ (2155 < col ∧ col ≤ 2159 ∧ 4 * (c * 34) ≤ i ∧ i < 4 * (c * 34 + 34))) := sorry
theorem pKv_no {s e c col i : Nat} (h1 : pE s e col i = false) (h : ¬ ((col = 2123 ∧ i = s) ∨ (2123 < col ∧ col ≤ 2141 ∧ (¬ (2130 ≤ col ∧ col ≤ 2131) ∧ ¬ (2135 ≤ col ∧ col ≤ 2136) ∧ ¬ (2138 ≤ col ∧ col ≤ 2139)) ∧ i = c) ∨ ((2130 ≤ col ∧ col ≤ 2131) ∧ 4 * c ≤ i ∧ i < 4 * c + 4) ∨ (((2135 ≤ col ∧ col ≤ 2136) ∨ (2138 ≤ col ∧ col ≤ 2139)) ∧ 8 * c ≤ i ∧ i < 8 * c + 8) ∨ (2141 < col ∧ col ≤ 2168 ∧ ¬ (2155 < col ∧ col ≤ 2159) ∧ c * 34 ≤ i ∧ i < c * 34 + 34) ∨ (2155 < col ∧ col ≤ 2159 ∧ 4 * (c * 34) ≤ i ∧ i < 4 * (c * 34 + 34)))) : pKv s e c col i = false := sorry
theorem pE_pKv {s e c : Nat} : ∀ col i, pE s e col i = true → pKv s e c col i = true := sorry
theorem pG_pKv {s e c : Nat} : ∀ col i, pG col i = true → pKv s e c col i = true := sorry
theorem pRk_pKv {s e c : Nat} : ∀ col i, pRk s e c 0 col i = true → pKv s e c col i = true := sorry
/-- the columns of class c, one value each -/
def KQm (st : Sg) (c : Nat) (gI : Nat → Int32) (gB : Nat → Bool) (gL : Nat → Int64) : Prop := ∀ col, 2123 < col → col < 2141 → ¬ (2130 ≤ col ∧ col ≤ 2131) → ¬ (2135 ≤ col ∧ col ≤ 2136) → ¬ (2138 ≤ col ∧ col ≤ 2139) → st.I col 0 c = gI col ∧ st.B col 0 c = gB col ∧ st.L col 0 c = gL col
/-- while class c is read: its head -/
def KZ (σ st : Sg) (s : Nat) (B : Nat → Nat) (n e c : Nat) (kx : Int32) (r : PR Nat) (gI : Nat → Int32) (gB : Nat → Bool) (gL : Nat → Int64) : Prop := FJ (pKv s e c) σ st ∧ PS st s B n 0 e r ∧ KQm st c gI gB gL ∧ (∀ t, r = .ok t → e ≤ t) ∧ e ≤ 900 ∧ c < 216 ∧ st.I 2123 0 s = kx ∧ st.I 2141 0 c = 0
section KZ
variable {σ st u : Sg} {s n e c : Nat} {B : Nat → Nat} {kx : Int32} {r r' : PR Nat} {gI : Nat → Int32} {gB : Nat → Bool} {gL : Nat → Int64}
theorem KQm.fj {p : Nat → Nat → Bool} (h : KQm st c gI gB gL) (hF : FJ p st u) (hp : ∀ col, 2123 < col → col < 2141 → ¬ (2130 ≤ col ∧ col ≤ 2131) → ¬ (2135 ≤ col ∧ col ≤ 2136) → ¬ (2138 ≤ col ∧ col ≤ 2139) → p col c = false) : KQm u c gI gB gL := sorry
theorem KZ.fg (h : KZ σ st s B n e c kx r gI gB gL) (hF : FJ pG st u) (hp : PS u s B n 0 e r') (hr : ∀ t, r' = .ok t → e ≤ t) : KZ σ u s B n e c kx r' gI gB gL := sorry
theorem KZ.go {f : Nat → PR Nat} (h : KZ σ st s B n e c kx r gI gB gL) (hf : Fw f) (hF : FJ pG st u) (hp : PS u s B n 0 e (bnd r f)) : KZ σ u s B n e c kx (bnd r f) gI gB gL := sorry
theorem KZ.vI {c0 : Nat} {v : Int32} (h : KZ σ st s B n e c kx r gI gB gL) (hc : 2123 < c0 ∧ c0 < 2141 ∧ ¬ (2130 ≤ c0 ∧ c0 ≤ 2131) ∧ ¬ (2135 ≤ c0 ∧ c0 ≤ 2136) ∧ ¬ (2138 ≤ c0 ∧ c0 ≤ 2139)) : KZ σ (sI st c0 0 c v) s B n e c kx r (fun x => if x = c0 then v else gI x) gB gL := sorry
theorem KZ.vB {c0 : Nat} {v : Bool} (h : KZ σ st s B n e c kx r gI gB gL) (hc : 2123 < c0 ∧ c0 < 2141 ∧ ¬ (2130 ≤ c0 ∧ c0 ≤ 2131) ∧ ¬ (2135 ≤ c0 ∧ c0 ≤ 2136) ∧ ¬ (2138 ≤ c0 ∧ c0 ≤ 2139)) : KZ σ (sB st c0 0 c v) s B n e c kx r gI (fun x => if x = c0 then v else gB x) gL := sorry
theorem KZ.vL {c0 : Nat} {v : Int64} (h : KZ σ st s B n e c kx r gI gB gL) (hc : 2123 < c0 ∧ c0 < 2141 ∧ ¬ (2130 ≤ c0 ∧ c0 ≤ 2131) ∧ ¬ (2135 ≤ c0 ∧ c0 ≤ 2136) ∧ ¬ (2138 ≤ c0 ∧ c0 ≤ 2139)) : KZ σ (sL st c0 0 c v) s B n e c kx r gI gB (fun x => if x = c0 then v else gL x) := sorry
theorem KZ.ls {fa1 fa2 lo hi : Nat} (h : KZ σ st s B n e c kx r gI gB gL) (hF : FJ (pLs fa1 fa2 lo hi) st u) (hc : (fa1 = 2130 ∧ fa2 = 2131 ∧ 4 * c ≤ lo ∧ hi ≤ 4 * c + 4) ∨ (fa1 = 2135 ∧ fa2 = 2136 ∧ 8 * c ≤ lo ∧ hi ≤ 8 * c + 8) ∨ (fa1 = 2138 ∧ fa2 = 2139 ∧ 8 * c ≤ lo ∧ hi ≤ 8 * c + 8)) (hp : PS u s B n 0 e r') (hr : ∀ t, r' = .ok t → e ≤ t) : KZ σ u s B n e c kx r' gI gB gL := sorry
theorem KZ.in (h : KZ σ st s B n e c kx r gI gB gL) : vp_in (nI c) 216 ∧ (nI c).toNatClampNeg = c := sorry
end KZ
def KHa (gI : Nat → Int32) (gB : Nat → Bool) (gL : Nat → Int64) (T : Nat → Tk) (t1 : Nat) (o : Bool) (so : Nat) : Prop := gL 2124 = lN ((T t1).2.1 + 2305843009213693952) ∧ gI 2125 = nI (T t1).2.2.1 ∧ gB 2126 = o ∧ gI 2127 = nI so ∧ so < 4
def KHn (gI : Nat → Int32) (gL : Nat → Int64) (T : Nat → Tk) (cn ca x : Nat) : Prop := gL cn = (if x = 0 then 0 else lN ((T (x - 1)).2.1 + 2305843009213693952)) ∧ (0 < x → gI ca = nI (T (x - 1)).2.2.1)
def KHr (st : Sg) (T : Nat → Tk) (x : Int32) (fa1 fa2 fr most : Nat) (ts : List Nat) : Prop := x = nI ts.length ∧ ts.length ≤ most ∧ RQ st T fa1 fa2 fr ts
theorem KHr.fj {st u : Sg} {T : Nat → Tk} {x : Int32} {fa1 fa2 fr most : Nat} {ts : List Nat} {p : Nat → Nat → Bool} (h : KHr st T x fa1 fa2 fr most ts) (hF : FJ p st u) (hp1 : ∀ k, k < most → p fa1 (fr + k) = false) (hp2 : ∀ k, k < most → p fa2 (fr + k) = false) : KHr u T x fa1 fa2 fr most ts := sorry
/-- class c is as it was read -/
def KRq (u : Sg) (s : Nat) (T : Nat → Tk) (c : Nat) (cr : CRc) (e e2 : Nat) : Prop := KHa (fun x => u.I x 0 c) (fun x => u.B x 0 c) (fun x => u.L x 0 c) T cr.1 cr.2.1 cr.2.2.1 ∧ KHn (fun x => u.I x 0 c) (fun x => u.L x 0 c) T 2128 2129 cr.2.2.2.1 ∧ KHr u T (u.I 2132 0 c) 2130 2131 (4 * c) 4 cr.2.2.2.2.1 ∧ KHn (fun x => u.I x 0 c) (fun x => u.L x 0 c) T 2133 2134 cr.2.2.2.2.2.1 ∧ KHr u T (u.I 2137 0 c) 2135 2136 (8 * c) 8 cr.2.2.2.2.2.2.1 ∧ KHr u T (u.I 2140 0 c) 2138 2139 (8 * c) 8 cr.2.2.2.2.2.2.2.2.1 ∧ u.I 2141 0 c = nI cr.2.2.2.2.2.2.2.2.2.length ∧ cr.2.2.2.2.2.2.2.2.2.length ≤ 20 ∧ MsQ u s T (cr.2.2.1 == 3) c 0 cr.2.2.2.2.2.2.2.2.2 e e2
/-- what reading a class leaves -/
def oKl (σ : Sg) (s : Nat) (B : Nat → Nat) (n e c k : Nat) (R : PR (CRc × Nat)) (o : Outcome) (u : Sg) : Prop := o = .returned none ∧ ∃ e2, FJ (pKv s e c) σ u ∧ PS u s B n 0 e2 (bnd R fun a => .ok a.2) ∧ e ≤ e2 ∧ e2 ≤ 900 ∧ (∀ a, R = .ok a → e2 ≤ a.2 ∧ u.I 2123 0 s = nI (k + 1) ∧ k < 12 ∧ KRq u s (yTok B n) c a.1 e e2) ∧ Fld u (bnd R fun a => .ok a.2)
def selL (rr : PR (List Nat × Nat)) : List Nat := match rr with
  | .ok a => a.1
  | .error _ => []
theorem bnd_selL {β : Type} {rr : PR (List Nat × Nat)} {K : List Nat × Nat → PR β} : bnd rr K = bnd (bnd rr fun a => .ok a.2) (fun t => K (selL rr, t)) := sorry
/-- the facts of a head, up to the faces' row; rows as pairs -/
def KFs (st : Sg) (c : Nat) (T : Nat → Tk) (gI : Nat → Int32) (gB : Nat → Bool) (gL : Nat → Int64) (t1 : Nat) (o : Bool) (so pa : Nat) : Prop := KHa gI gB gL T t1 o so ∧ KHn gI gL T 2128 2129 pa
section SPX
variable {l : Launch} {G : Gl}
theorem wn_fac {σ u : Sg} {s n w e p : Nat} {B : Nat → Nat} {r r' : PR Nat} (hr : PS σ s B n w e r) (kp : ∀ t, r = .ok t → p = t) (k1 : PS u s B n w e r') : ∀ t', bnd r (pWn (yTok B n) false 2) = .ok t' → u.L 2114 0 (s * 702 + p) = lN ((yTok B n p).2.1 + 2305843009213693952) ∧ u.I 2112 0 (s * 702 + p) = nI (yTok B n p).2.2.1 := sorry
/-- the end of a class's head, and its members -/
theorem mk_398 (hG : GOK G) (hZ : SOK G) {B : Nat → Nat} {n f d : Nat} {σ st : Sg} {s e c k t1 so pa ho : Nat} {o cl : Bool} {fs ws os : List Nat} {r : PR Nat} {gI : Nat → Int32} {gB : Nat → Bool} {gL : Nat → Int64} {v : Int32} {Q : Outcome → Sg → Prop} (hd : 167 ≤ d) (hf : 12 * 701 + 7 ≤ f) (hk : k < 12) (h : KZ σ st s B n e c (nI (k + 1)) r gI gB gL) (hfac : ∀ t, r = .ok t → KHa gI gB gL (yTok B n) t1 o so ∧ KHn gI gL (yTok B n) 2128 2129 pa ∧ KHr st (yTok B n) (gI 2132) 2130 2131 (4 * c) 4 fs ∧ KHn gI gL (yTok B n) 2133 2134 ho ∧ KHr st (yTok B n) (gI 2137) 2135 2136 (8 * c) 8 ws ∧ KHr st (yTok B n) v 2138 2139 (8 * c) 8 os) (hQ : oKl σ s B n e c k (bnd r fun t => bnd (pWa (yTok B n) 123 t) fun t5 => bnd (pMs (yTok B n) f 22 0 t5) fun ms => .ok ((t1, o, so, pa, fs, ho, ws, cl, os, ms.1), ms.2)) = Q) : wq_X11_klass_398 l G d 0 Q (nI c) 0 (nI c) v st := sorry
end SPX
