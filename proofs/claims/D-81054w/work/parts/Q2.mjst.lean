/-! Judging, the model: S's with parts that are S's. -/
theorem ckS_nX {τ : Sg} {k : Nat} {st : Bool} {ms : Int32} {mt : Int64} {x : Tr} {w a e f sn : Nat} {Lc : Lcs} {p : Tr × Lcs × Nat} (hw : wt x 2 w a e) (h : ckS τ k st ms mt x f Lc sn = .ok p) : p.2.1.length = if kdO x = 31 then Lc.length + 1 else Lc.length := sorry
theorem mxL_le : ∀ (x : Tr) {m w a e : Nat} (n : Nat), wt x m w a e → m = 2 ∨ m = 3 ∨ m = 4 ∨ m = 6 → mxL x n ≤ n + (e - a) := sorry
/-- judging keeps the shape of S's -/
theorem ckS_wt {τ : Sg} {k : Nat} {st : Bool} {ms : Int32} {mt : Int64} : ∀ (x : Tr) {m w a e f sn : Nat} {Lc : Lcs} {p : Tr × Lcs × Nat}, wt x m w a e → m = 2 ∨ m = 3 ∨ m = 4 ∨ m = 6 → ckS τ k st ms mt x f Lc sn = .ok p → wt p.1 m w a e := sorry
theorem FsB.fj {u s : Sg} {T : Nat → Tk} {qm a q' : Nat} (h : FsB u T qm a) (hF : FJ (pJs q') u s) : FsB s T qm a := sorry
theorem FsB.up {u : Sg} {B : Nat → Nat} {n qm a a' : Nat} (hB : BOK B n) (h : FsB u (yTok B n) qm a) (ha : a ≤ a') : FsB u (yTok B n) qm a' := sorry
/-- a row of S's, of the body (2), or another -/
def FsW (u : Sg) (T : Nat → Tk) (qm f a : Nat) (v : Int32) : Prop := (∃ K, K < 30600 ∧ u.I 2161 0 qm = nI K) ∧ (f = 2 ∨ f = 0) ∧ (f = 2 → fsV u qm = v) ∧ (f = 0 → FsB u T qm a)
/-- behind an S, or in it -/
theorem FsS.ch {u : Sg} {B : Nat → Nat} {n L qm f a a' X : Nat} {bb : Lb} {x : Tr} (hB : BOK B n) (hN : NEt (yTok B n) L) (hC : NdC u (yTok B n) bb X) (hX : X < 30600) (hba : bb.2.1 = a) (haL : a < L) (h : FsS u (yTok B n) qm f a (nI X) x) (hf : ¬ f = 2) (ha : a < a') : FsB u (yTok B n) qm a' := sorry
theorem LcM_back {u s : Sg} {Lc : Lcs} {qm b pa pe lo hi : Nat} (hL : LcM u Lc) (hF : FrZ u s qm b pa pe lo hi Lc.length) : LcM (sI s 2214 0 0 (nI Lc.length)) Lc := sorry
theorem FrZ_14 {s : Sg} {qm b pa pe lo hi t : Nat} {v : Int32} : FrZ s (sI s 2214 0 0 v) qm b pa pe lo hi t := sorry
theorem FrZ_82 {s : Sg} {X qm b pa pe lo hi t : Nat} {v : Int32} (h1 : b * 1700 + lo ≤ X) (h2 : X < b * 1700 + hi) (h3 : pa ≤ plA s X) (h4 : plA s X < pe) : FrZ s (sI s 2182 0 X v) qm b pa pe lo hi t := sorry
theorem SIv_14 {s : Sg} {v : Int32} (h : SIv s) : SIv (sI s 2214 0 0 v) := sorry
theorem SIv_82 {s : Sg} {X : Nat} {v : Int32} (h : SIv s) : SIv (sI s 2182 0 X v) := sorry
theorem swS {z : Int} {K : Nat} {P1 P2 P3 P4 P5 P6 P7 D : Prop} (hz : z = K) (h1 : K = 20 → P1) (h2 : K = 21 → P2) (h3 : K = 22 → P3) (h4 : K = 23 → P4) (h5 : K = 24 → P5) (h6 : K = 25 → P6) (h7 : K = 26 → P7) (hD : 26 < K ∨ K < 20 → D) : (z = 20 → P1) ∧ (z = 21 → P2) ∧ (z = 22 → P3) ∧ (z = 23 → P4) ∧ (z = 24 → P5) ∧ (z = 25 → P6) ∧ (z = 26 → P7) ∧ ((z < 20 ∨ 26 < z) → D) := sorry
section SPX
variable {l : Launch} {G : Gl} {d : Nat} {τ : Sg} {b k n L : Nat} {st : Bool} {B : Nat → Nat} {ms : Int32} {mt : Int64} {qm : Nat}
/-- an S is judged as ckS says -/
def SpSm (l : Launch) (G : Gl) (d : Nat) (τ : Sg) (b k : Nat) (st : Bool) (B : Nat → Nat) (n L : Nat) (ms : Int32) (mt : Int64) (qm : Nat) (x : Tr) : Prop := ∀ (u : Sg) (lo hi w a e P : Nat) (v : Int32) (Lc : Lcs) (sn f m0 : Nat), JS τ u b k st Lc qm ms mt → SIv u → MTg u b (NdC u (yTok B n)) x lo hi v → wt x 2 w a e → e ≤ L → hi ≤ 1700 → u.I 2120 0 0 = nI 0 → u.I 2208 0 0 = nI P → P + (hi - lo) ≤ 1703 → Lc.length + (e - a) ≤ 719 → u.I 2168 0 qm = nI m0 → Lc.length ≤ m0 → m0 ≤ 720 → FsS u (yTok B n) qm f a v x → CT l G yX11_judgeS (ws_ yX11_judgeS cX11_judgeS 4 none) d [.ref (G.adr 11 0), .int v] u (rV (fun s => RS τ u s b (yTok B n) P a e lo hi qm m0 Lc.length x (ckS τ k st ms mt x f Lc sn) v))
/-- the loop over a row of S's -/
def LpS (l : Launch) (G : Gl) (d : Nat) (τ : Sg) (b k : Nat) (st : Bool) (B : Nat → Nat) (n L : Nat) (ms : Int32) (mt : Int64) (qm : Nat) (x : Tr) : Prop := ∀ (u : Sg) (lo hi w a e P : Nat) (v x1 x2 : Int32) (Q : Outcome → Sg → Prop) (Lc : Lcs) (sn f m0 : Nat), JS τ u b k st Lc qm ms mt → SIv u → MTg u b (NdC u (yTok B n)) x lo hi v → wt x 3 w a e → e ≤ L → hi ≤ 1700 → u.I 2120 0 0 = nI 0 → u.I 2208 0 0 = nI P → P + (hi - lo) ≤ 1703 → Lc.length + (e - a) ≤ 719 → u.I 2168 0 qm = nI m0 → Lc.length ≤ m0 → m0 ≤ 720 → FsW u (yTok B n) qm f a v → (∀ s, RS τ u s b (yTok B n) P a e lo hi qm m0 Lc.length x (ckS τ k st ms mt x f Lc sn) v → wq_X11_judgeS_95 l G d 0 x1 Q x2 s) → wq_X11_judgeS_67 l G d 0 x1 Q ((tyL x).length + 1) x2 v u
/-- judgeS when a fault is laid -/
theorem js_no (hG : GOK G) {u : Sg} {v : Int32} (hd : 1 ≤ d) (h : ¬ u.I 2120 0 0 = 0) : CT l G yX11_judgeS (ws_ yX11_judgeS cX11_judgeS 4 none) d [.ref (G.adr 11 0), .int v] u (rV (fun s => s = u)) := sorry
theorem LpS_0 : LpS l G d τ b k st B n L ms mt qm .leaf := sorry
theorem LpS_c {sz : Nat} {bb : Lb} {uu : Unit} {x y : Tr} (hB : BOK B n) (hNE : NEt (yTok B n) L) (h0 : bb.1 = 0) (hX : SpSm l G d τ b k st B n L ms mt qm x) (hY : LpS l G d τ b k st B n L ms mt qm y) : LpS l G d τ b k st B n L ms mt qm (.inner sz bb uu x y) := sorry
end SPX
