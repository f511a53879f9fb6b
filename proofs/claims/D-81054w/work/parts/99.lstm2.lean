/-! LinkHouse reads an S: the whole. -/
/-- while a node m is filled: Ts are the trees that hang on it -/
def SU (σ s : Sg) (b : Nat) (B : Nat → Nat) (n t0 t w m m' r : Nat) (k a x1 x2 x3 : Int32) (Ts : List (Tr × Nat × Nat × Int32)) : Prop := Fl (pT b) σ s ∧ Pn s ∧ LT s b B n t w m' r ∧ (∀ j, j < m → NdS σ s j) ∧ (m < m' ∧ m' + t0 ≤ m + t ∧ m < 1410) ∧ (s.I 1509 0 m = k ∧ s.I 1510 0 m = a ∧ s.I 1511 0 m = x1 ∧ s.I 1512 0 m = x2 ∧ s.I 1513 0 m = x3 ∧ s.I 1514 0 m = -2) ∧ ∀ q, q ∈ Ts → m + 1 ≤ q.2.1 ∧ q.2.2.1 ≤ m' ∧ isP q.1 = false ∧ LTr s (yTok B n) t q.1 q.2.1 q.2.2.1 q.2.2.2
section SU
variable {σ s : Sg} {b n t0 t w m m' r : Nat} {B : Nat → Nat} {k a x1 x2 x3 : Int32} {Ts : List (Tr × Nat × Nat × Int32)}
theorem SU.mk (hF : Fl (pT b) σ s) (hP : Pn s) (hL : LT s b B n t w m r) (hS : ∀ j, j < m → NdS σ s j) (ht : t0 < t) (hm : m ≤ t) : SU σ (mkN s m k a) b B n t0 t w m (m + 1) r k a (-2) (-2) (-2) [] := sorry
theorem SU.to {u : Sg} {t' w' r' : Nat} (h : SU σ s b B n t0 t w m m' r k a x1 x2 x3 Ts) (hF : Fl (pT b) s u) (hP : Pn u) (hL : LT u b B n t' w' m' r') (ht : t ≤ t') (hS : ∀ j, NdS s u j) : SU σ u b B n t0 t' w' m m' r' k a x1 x2 x3 Ts := sorry
theorem SU.fl {u : Sg} {t' r' : Nat} (h : SU σ s b B n t0 t w m m' r k a x1 x2 x3 Ts) (hF : Fl (pU b) s u) (hL : LT u b B n t' w m' r') (ht : t ≤ t') : SU σ u b B n t0 t' w m m' r' k a x1 x2 x3 Ts := sorry
theorem SU.col {c : Nat} {v y1 y2 y3 : Int32} (h : SU σ s b B n t0 t w m m' r k a x1 x2 x3 Ts) (hc : 1508 < c ∧ c ≤ 1514) (hp : pT b c 0 = true) (e : (sI s c 0 m v).I 1509 0 m = k ∧ (sI s c 0 m v).I 1510 0 m = a ∧ (sI s c 0 m v).I 1511 0 m = y1 ∧ (sI s c 0 m v).I 1512 0 m = y2 ∧ (sI s c 0 m v).I 1513 0 m = y3 ∧ (sI s c 0 m v).I 1514 0 m = -2) : SU σ (sI s c 0 m v) b B n t0 t w m m' r k a y1 y2 y3 Ts := sorry
theorem SU.c1 {v : Int32} (h : SU σ s b B n t0 t w m m' r k a x1 x2 x3 Ts) : SU σ (sI s 1511 0 m v) b B n t0 t w m m' r k a v x2 x3 Ts := sorry
theorem SU.c2 {v : Int32} (h : SU σ s b B n t0 t w m m' r k a x1 x2 x3 Ts) : SU σ (sI s 1512 0 m v) b B n t0 t w m m' r k a x1 v x3 Ts := sorry
theorem SU.c3 {v : Int32} (h : SU σ s b B n t0 t w m m' r k a x1 x2 x3 Ts) : SU σ (sI s 1513 0 m v) b B n t0 t w m m' r k a x1 x2 v Ts := sorry
theorem SU.lp {z : Sg} {q : Bool} {x : Tr × Nat} {v : Int32} (h : SU σ s b B n t0 t w m m' r k a x1 x2 x3 Ts) (hP : LPv b B n s t w m' m' q x v z) (ht : t ≤ x.2) : ∃ m2 r2, SU σ z b B n t0 x.2 w m m2 r2 k a x1 x2 x3 ((x.1, m', m2, v) :: Ts) := sorry
theorem SU.tr (h : SU σ s b B n t0 t w m m' r k a x1 x2 x3 Ts) {q : Tr × Nat × Nat × Int32} (hq : q ∈ Ts) : LTr s (yTok B n) t q.1 (m + 1) m' q.2.2.2 := sorry
/-- the node is done -/
theorem SU.fin {x : Tr} (h : SU σ s b B n t0 t (w + 1) m m' r k a x1 x2 x3 Ts) (hT : LTr s (yTok B n) t x m m' (nI m)) (hi : isT x = true) : StE b B n σ t0 w m (x, t) (nI m) s := sorry
end SU
section SPX
variable {l : Launch} {G : Gl}
theorem sp_X5_type (hG : GOK G) {d : Nat} {σ : Sg} (hd : 6 ≤ d) {b n t w m r : Nat} {B : Nat → Nat} (h : LT σ b B n t w m r) : CT l G yX5_type (ws_ yX5_type cX5_type 1 (some .int)) d [.ref (G.adr 5 0)] σ (oP G b (yTok B n) σ (pTy (yTok B n) t) (fun t' o s => ∃ v, o = .returned (some (.int v)) ∧ v = nI t ∧ Fl (pU b) σ s ∧ LT s b B n t' w m t')) := sorry
end SPX
