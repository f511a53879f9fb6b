/-! LinkHouse reads an E: tools, pair, isNext. -/
/-- node j is the same -/
def NdS (σ s : Sg) (j : Nat) : Prop := (s.I 1509 0 j = σ.I 1509 0 j ∧ s.I 1510 0 j = σ.I 1510 0 j ∧ s.I 1511 0 j = σ.I 1511 0 j ∧ s.I 1512 0 j = σ.I 1512 0 j ∧ s.I 1513 0 j = σ.I 1513 0 j) ∧ s.I 1514 0 j = σ.I 1514 0 j
theorem NdS.refl {σ : Sg} {j : Nat} : NdS σ σ j := sorry
theorem NdS.trans {a b c : Sg} {j : Nat} (h : NdS a b j) (k : NdS b c j) : NdS a c j := sorry
theorem NdS.fl {b : Nat} {σ s : Sg} {j : Nat} (h : Fl (pU b) σ s) : NdS σ s j := sorry
theorem NdS.w {σ : Sg} {j : Nat} {v : Int32} : NdS σ (sI σ 1508 0 0 v) j := sorry
theorem NdS.mk {σ : Sg} {j m : Nat} {x y : Int32} (h : j ≠ m) : NdS σ (mkN σ m x y) j := sorry
theorem NdS.col {σ : Sg} {j i c : Nat} {v : Int32} (h : j ≠ i) (hc : 1508 < c ∧ c ≤ 1514) : NdS σ (sI σ c 0 i v) j := sorry
theorem Fl.mk {b m : Nat} {σ s : Sg} {x y : Int32} (h : Fl (pT b) σ s) : Fl (pT b) σ (mkN s m x y) := sorry
theorem Pn.mk {m : Nat} {σ : Sg} {x y : Int32} (h : Pn σ) : Pn (mkN σ m x y) := sorry
theorem Pn.c {c i j : Nat} {σ : Sg} {v : Int32} (h : Pn σ) (hc : c < 1516) : Pn (sI σ c i j v) := sorry
/-- what reading a tree leaves: v is where it hangs -/
def LPv (b : Nat) (B : Nat → Nat) (n : Nat) (σ : Sg) (t w m m0 : Nat) (q : Bool) (x : Tr × Nat) (v : Int32) (s : Sg) : Prop := Fl (pT b) σ s ∧ Pn s ∧ (∃ m' r, LT s b B n x.2 w m' r ∧ m ≤ m' ∧ m' + t ≤ m + x.2 ∧ LTr s (yTok B n) x.2 x.1 m0 m' v) ∧ isP x.1 = false ∧ (q = true → isT x.1 = true ∧ ∀ j, v = nI j → j < 1410 → s.I 1514 0 j = -2) ∧ ∀ j, j < m0 → NdS σ s j
/-- the state in which an E's inside is read: at token t, or behind it with it pending -/
def LQ (σ : Sg) (b : Nat) (B : Nat → Nat) (n t w m : Nat) : Prop := (∃ r, LT σ b B n t w m r ∧ Pn σ) ∨ (∃ r, LT σ b B n (t + 1) w m r ∧ ¬ t = 700 ∧ (((yTok B n t).1 = 228 ∧ σ.I 1516 0 0 = nI t ∧ σ.I 1517 0 0 = -2) ∨ ((yTok B n t).1 = 2 ∧ σ.I 1516 0 0 = -2 ∧ σ.I 1517 0 0 = nI t)))
theorem LTr.root {σ : Sg} {T : Nat → Tk} {L lo hi : Nat} {x : Tr} {v : Int32} (h : LTr σ T L x lo hi v) (hT : isT x = true) : ∃ n, v = nI n ∧ lo ≤ n ∧ n < hi ∧ n < 1410 ∧ σ.I 1510 0 n = nI (trT x) ∧ trT x < L := sorry
/-- all of a tree's nodes are the same -/
theorem LTr.same {σ s : Sg} {T : Nat → Tk} {L L' lo hi lo' hi' : Nat} {x : Tr} {v : Int32} (hL : L ≤ L') (h1 : lo' ≤ lo) (h2 : hi ≤ hi') (hP : isP x = false) (hs : ∀ j, lo ≤ j → j < hi → NdS σ s j) (h : LTr σ T L x lo hi v) : LTr s T L' x lo' hi' v := sorry
theorem LTr.node {s : Sg} {T : Nat → Tk} {L k at_ a1 a2 nm cn lo hi n : Nat} {x y : Tr} (hk : ¬ k = 0 ∧ ¬ k = 41 ∧ k < 100) (hr : lo ≤ n ∧ n < hi ∧ n < 1410) (px : isP x = false) (py : isP y = true → k = 32 ∨ k = 33) (c1 : s.I 1509 0 n = nI k) (c2 : s.I 1510 0 n = nI at_) (hN : NmOK T L (lb k at_ a1 a2 nm cn))
    (f1 : 11 ≤ k → LTr s T L x lo n (s.I 1511 0 n) ∨ LTr s T L x (n + 1) hi (s.I 1511 0 n)) (f2 : k = 8 → s.I 1511 0 n = nI a2) (f3 : tw1 k = true → s.I 1512 0 n = nI a1) (f4 : tw2 k = true → s.I 1512 0 n = nI a2) (f5 : twy k = true → LTr s T L y lo n (s.I 1512 0 n) ∨ LTr s T L y (n + 1) hi (s.I 1512 0 n)) (f6 : thy k = true → LTr s T L y (n + 1) hi (s.I 1513 0 n)) (f7 : th2 k = true → s.I 1513 0 n = nI a2) (f8 : (k = 32 ∨ k = 33) → LTr s T L y (n + 1) hi (nI n)) : LTr s T L (nd (lb k at_ a1 a2 nm cn) x y) lo hi (nI n) := sorry
theorem isT_nd {k at_ a1 a2 nm cn : Nat} {x y : Tr} (h : ¬ k = 0 ∧ ¬ k = 41) : isT (nd (lb k at_ a1 a2 nm cn) x y) = true := sorry
section SPX
variable {l : Launch} {G : Gl} {d : Nat} {σ : Sg}
/-- two trees become one -/
theorem sp_X5_pair (hG : GOK G) (hd : 2 ≤ d) {b n t w m r m0 m1 L k : Nat} {B : Nat → Nat} {x y : Tr} {v1 v2 : Int32} (h : LT σ b B n t w m r) (hP : Pn σ) (hm : m ≤ t) (hk : 12 ≤ k ∧ k ≤ 16) (hL : L ≤ t) (h1 : LTr σ (yTok B n) L x m0 m1 v1) (t1 : isT x = true) (h2 : LTr σ (yTok B n) L y m1 m v2) (t2 : isT y = true) (h01 : m0 ≤ m1) (h12 : m1 ≤ m) {kk : Int32} (hkk : kk = nI k) : CT l G yX5_pair (ws_ yX5_pair cX5_pair 5 (some .int)) d [.ref (G.adr 5 0), .int kk, .int v1, .int v2] σ (rI (nI m) (fun s => Fl (pT b) σ s ∧ Pn s ∧ LT s b B n t w (m + 1) r ∧ LTr s (yTok B n) L (nd (lb k (trT x) 0 0 0 0) x y) m0 (m + 1) (nI m) ∧ s.I 1514 0 m = -2 ∧ ∀ j, j < m → NdS σ s j)) := sorry
theorem yTa_br {B : Nat → Nat} {n s z : Nat} (h : BOK B n) (hz : z = 40 ∨ z = 41) : (yTa B n s).1 = z ↔ B s = z := sorry
theorem sp_X5_isNext (hG : GOK G) (hd : 2 ≤ d) {b n t w m r : Nat} {B : Nat → Nat} (h : LT σ b B n t w m r) {z : Nat} (hz : z = 40 ∨ z = 41) {x : Int32} (hx : x = nI z) : CT l G yX5_isNext (ws_ yX5_isNext cX5_isNext 3 (some .boolean)) d [.ref (G.adr 5 0), .int x] σ (rZ (decide ((yTok B n t).1 = z)) (fun s => s = σ)) := sorry
end SPX
