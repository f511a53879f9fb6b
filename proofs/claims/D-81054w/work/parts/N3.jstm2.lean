/-! Judging, LinkHouse: a row of S. -/
theorem jMkO_st {σ : Sg} {k : Nat} {xo : Option Nat} {ts : List Int64} : jMkO (stat σ) k xo ts = jMkO σ k xo ts := sorry
theorem jMkO_e {σ s : Sg} {k : Nat} {xo : Option Nat} {ts : List Int64} (h : stat s = stat σ) : jMkO s k xo ts = jMkO σ k xo ts := sorry
theorem ckPt_st {σ : Sg} {k : Nat} {ms : Int32} {x : Tr} : ckPt (stat σ) k ms x = ckPt σ k ms x := sorry
theorem ckTy_st {σ : Sg} {k cn t : Nat} : ckTy (stat σ) k cn t = ckTy σ k cn t := sorry
theorem ckS_st {σ : Sg} {k : Nat} {st : Bool} {ms : Int32} {mt : Int64} (x : Tr) : ∀ (f : Nat) (Lc : Lcs) (sn : Nat), ckS (stat σ) k st ms mt x f Lc sn = ckS σ k st ms mt x f Lc sn := sorry
theorem ckS_e {σ s : Sg} {k f sn : Nat} {st : Bool} {ms : Int32} {mt : Int64} {x : Tr} {Lc : Lcs} (h : stat s = stat σ) : ckS s k st ms mt x f Lc sn = ckS σ k st ms mt x f Lc sn := sorry
/-- how many locals and slots there are behind -/
theorem ckS_len {σ : Sg} {k : Nat} {st : Bool} {ms : Int32} {mt : Int64} : ∀ (x : Tr) (m w a e f : Nat) (Lc : Lcs) (sn : Nat) (p : Tr × Lcs × Nat), wt x m w a e → (m = 2 ∨ m = 3 ∨ m = 4 ∨ m = 6) → ckS σ k st ms mt x f Lc sn = .ok p → (∃ X, p.2.1 = Lc ++ X ∧ X.length + a ≤ e ∧ ∀ c, c ∈ X → c.2.2 < p.2.2) ∧ sn ≤ p.2.2 ∧ p.2.2 + a ≤ sn + e := sorry
/-- the slots of locals are taken -/
def SlB (Lc : Lcs) (sn : Nat) : Prop := ∀ c, c ∈ Lc → c.2.2 < sn
theorem ckS_sl {σ : Sg} {k m w a e f sn : Nat} {st : Bool} {ms : Int32} {mt : Int64} {x : Tr} {Lc : Lcs} {p : Tr × Lcs × Nat} (hw : wt x m w a e) (hm : m = 2 ∨ m = 3 ∨ m = 4 ∨ m = 6) (h : ckS σ k st ms mt x f Lc sn = .ok p) (hB : SlB Lc sn) (hs : sn ≤ a + 5) : SlB p.2.1 p.2.2 ∧ p.2.2 ≤ e + 5 ∧ SlB Lc p.2.2 := sorry
/-- is this the first S, the body, or neither -/
def FsC (σ : Sg) (F : Int32) (f : Nat) (v : Int32) (a : Nat) (x : Tr) : Prop := f ≤ 2 ∧ (f = 1 → v = F) ∧ (f = 2 → kdO x = 30 ∧ ∀ N, v = nI N → N < 1410 → F = σ.I 1511 0 N) ∧ (f = 0 → ∀ j, F = nI j → j < 1410 → tkA σ j < a)
def FsR (σ : Sg) (F : Int32) (f : Nat) (v : Int32) (a : Nat) : Prop := (f = 2 ∧ F = v) ∨ (f = 0 ∧ ∀ j, F = nI j → j < 1410 → tkA σ j < a)
theorem LTr_nS {σ : Sg} {T : Nat → Tk} {L lo hi w a e : Nat} {x : Tr} {v : Int32} (hw : wt x 2 w a e) (h : LTr σ T L x lo hi v) : ∃ n1, v = nI n1 ∧ n1 < 1410 ∧ lo ≤ n1 ∧ n1 < hi ∧ σ.I 1510 0 n1 = nI a ∧ a < L := sorry
section SPX
variable {l : Launch} {G : Gl} {d : Nat} {b n r k : Nat} {B : Nat → Nat} {st : Bool}
/-- an S is judged as ckS says -/
def SpS (l : Launch) (G : Gl) (d b : Nat) (B : Nat → Nat) (n r k : Nat) (st : Bool) (m : Nat) (ms : Int32) (mt : Int64) (F : Int32) (L : Nat) (x : Tr) : Prop := ∀ (σ : Sg) (Lc : Lcs) (f sn lo hi w a e : Nat) (v : Int32), JE σ b B n r k st Lc → AtS σ m ms mt F → σ.I 1614 0 0 = nI sn → Lc.length ≤ a + 4 → (SlB Lc sn ∧ sn ≤ a + 5) → e ≤ 700 → LTr σ (yTok B n) L x lo hi v → wt x 2 w a e → FsC σ F f v a x → CT l G yX6_statement (ws_ yX6_statement cX6_statement 8 none) d [.ref (G.adr 6 0), .int v] σ (oJ G b (yTok B n) σ (ckS σ k st ms mt x f Lc sn) (fun p o s => o = .returned none ∧ (FrS σ s a e lo hi ∧ LAn s a e p.1 lo hi v ∧ LcS s p.2.1 ∧ s.I 1614 0 0 = nI p.2.2)))
def SpT (l : Launch) (G : Gl) (D b : Nat) (B : Nat → Nat) (n r k : Nat) (st : Bool) (m : Nat) (ms : Int32) (mt : Int64) (F : Int32) (L : Nat) (x : Tr) : Prop := ∀ (σ σ0 : Sg) (Lc : Lcs) (f sn lo hi w a e : Nat) (v x1 x3 : Int32) (kk : Tr × Lcs × Nat → PR (Tr × Lcs × Nat)) (K0 : Tr × Lcs × Nat → Outcome → Sg → Prop) (Q : Outcome → Sg → Prop), JE σ b B n r k st Lc → AtS σ m ms mt F → σ.I 1614 0 0 = nI sn → Lc.length ≤ a + 4 → (SlB Lc sn ∧ sn ≤ a + 5) → e ≤ 700 → LTr σ (yTok B n) L x lo hi v → wt x 3 w a e → FsR σ F f v a → Fl (pJ b) σ0 σ → oJ G b (yTok B n) σ0 (bnd (ckS σ k st ms mt x f Lc sn) kk) K0 = Q → (∀ p s', ckS σ k st ms mt x f Lc sn = .ok p → oJ G b (yTok B n) σ0 (kk p) K0 = Q → FrS σ s' a e lo hi → LAn s' a e p.1 lo hi v → LcS s' p.2.1 → s'.I 1614 0 0 = nI p.2.2 → wq_X6_statement_704 l G D 0 x1 Q (sI s' 1613 0 0 x3)) → wq_X6_statement_83 l G D 0 x1 Q (rl x + 1) x3 v σ
theorem cs_T0 {m : Nat} {ms F : Int32} {mt : Int64} {L D : Nat} : SpT l G D b B n r k st m ms mt F L .leaf := sorry
theorem cs_T {m : Nat} {ms F : Int32} {mt : Int64} {L D sz : Nat} {bb : Lb} {u : Unit} {x y : Tr} (hx : bb.1 = 0 → SpS l G D b B n r k st m ms mt F L x) (hy : bb.1 = 0 → SpT l G D b B n r k st m ms mt F L y) : SpT l G D b B n r k st m ms mt F L (.inner sz bb u x y) := sorry
end SPX
