/-! THE HOUSE: broken (LinkHouse). -/
/-- what a use of a picked build breaks -/
noncomputable def bkU (s : Sg) (lib b v : Nat) : List (Nat × Nat × Int32) := if ¬ s.I 1700 (1000 * b + v) 0 = 16 ∧ ¬ s.I 1128 (uBy s (1000 * b + v)) 0 = -2 ∧ ¬ (hRs s (1000 * b + v)).1 ≤ 0 then [(lib, v, (hRs s (1000 * b + v)).1)] else []
noncomputable def bkB (s : Sg) (lib b n : Nat) : List (Nat × Nat × Int32) := (List.range n).flatMap (bkU s lib b)
noncomputable def bkL (s : Sg) (lib : Nat) : List (Nat × Nat × Int32) := if s.I 1008 0 lib = -2 then [] else bkB s lib (hSt s lib (s.I 1008 0 lib).toNatClampNeg) (hUs s (hSt s lib (s.I 1008 0 lib).toNatClampNeg))
noncomputable def bkR (s : Sg) (n : Nat) : List (Nat × Nat × Int32) := (List.range n).flatMap (bkL s)
/-- a row of threes -/
def RwT (t : Sg) (c1 c2 : Nat) (L : List (Nat × Nat × Int32)) : Prop := t.I c1 0 0 = nI L.length ∧ ∀ k x, L[k]? = some x → t.I c2 0 (3 * k) = nI x.1 ∧ t.I c2 0 (3 * k + 1) = nI x.2.1 ∧ t.I c2 0 (3 * k + 2) = x.2.2
/-- columns that LinkHouse's counting changes -/
def pBk (c i : Nat) : Bool := pM 0 c i || rg 1024 1026 c
theorem pBk_no {c i : Nat} (h : (c ≤ 1024 ∨ 1026 < c) ∧ (c ≤ 1303 ∨ 1313 < c) ∧ (c ≤ 1800 ∨ 1807 < c ∨ ¬ i = 0)) : pBk c i = false := sorry
theorem pBk_y {c i : Nat} (h : 1024 < c ∧ c ≤ 1026) : pBk c i = true := sorry
theorem pBk_m {c i : Nat} (h : pBk c i = false) : pM 0 c i = false := sorry
theorem pBk_wr : wrC pBk := sorry
theorem pBk_sc (c i : Nat) (h : sc c = true) : pBk c i = false := sorry
section BRK
variable {l : Launch} {G : Gl} {d n b v lib k : Nat} {s t u : Sg} {P : Pg} {M : MSt} {p : Nat → Nat → Bool} {L : List (Nat × Nat × Int32)}
theorem bkU_len : (bkU s lib b v).length ≤ 1 := sorry
theorem bkB_succ : bkB s lib b (n + 1) = bkB s lib b n ++ bkU s lib b n := sorry
theorem bkR_succ : bkR s (n + 1) = bkR s n ++ bkL s n := sorry
theorem bkB_len : ∀ n, (bkB s lib b n).length ≤ n := sorry
theorem bkL_len (hH : HOK s) (hl : lib < 5) : (bkL s lib).length ≤ 1000 := sorry
theorem bkR_len (hH : HOK s) : ∀ n, n ≤ 5 → (bkR s n).length ≤ 1000 * n := sorry
/-- the same in another state -/
theorem bkR_fl (hF : Fl p s t) (hp : ∀ c i, sc c = true → p c i = false) (hw : wrC p) (n : Nat) : bkR t n = bkR s n := sorry
theorem RwT.add {c1 c2 a b : Nat} {f : Int32} (h : RwT t c1 c2 L) (hc : c1 ≠ c2) : RwT (sI (sI (sI (sI t c2 0 (3 * L.length) (nI a)) c2 0 (3 * L.length + 1) (nI b)) c2 0 (3 * L.length + 2) f) c1 0 0 (nI (L.length + 1))) c1 c2 (L ++ [(a, b, f)]) := sorry
theorem RwT.fl {c1 c2 : Nat} (h : RwT s c1 c2 L) (hF : Fl p s t) (h1 : p c1 0 = false ∧ p c2 0 = false) : RwT t c1 c2 L := sorry
/-- LinkHouse while it counts -/
def LBk (s t : Sg) (L : List (Nat × Nat × Int32)) : Prop := Fl pBk s t ∧ RwT t 1026 1025 L
theorem cb_41 {K7 : Int32 → Sg → Prop} {Q : Outcome → Sg → Prop} (hG : GOK G) (hd : 140 ≤ d) (hW : WrI s P) (hl : lib < 5) (hb : b < hN s) (h0 : L.length ≤ 1000 * lib) (hK : ∀ t, LBk s t (L ++ bkB s lib b (hUs s b)) → K7 (nI lib + 1) t) : ∀ (r j : Nat) (t : Sg), j + r = hUs s b → LBk s t (L ++ bkB s lib b j) → wq_X0_countBroken_41 l G d 0 Q K7 (r + 1) (nI lib) (some b) (nI j) t := sorry
theorem cb_7 {Q : Outcome → Sg → Prop} (hG : GOK G) (hd : 140 ≤ d) (hW : WrI s P) (hQ : ∀ t, LBk s t (bkR s 5) → Q (.returned (some (.int (nI (bkR s 5).length)))) t) : ∀ (r lib : Nat) (t : Sg), lib + r = 5 → LBk s t (bkR s lib) → wq_X0_countBroken_7 l G d 0 Q (r + 1) (nI lib) t := sorry
/-- LINKHOUSE counts what breaks -/
theorem sp_X0_broken (hG : GOK G) (hd : 142 ≤ d) (hW : WrI s P) : CT l G yX0_broken (ws_ yX0_broken cX0_broken 1 (some .int)) d [.ref (G.adr 0 0)] s (rI (nI (bkR s 5).length) (fun t => LBk s t (bkR s 5))) := sorry
end BRK
