/-! Judging, the model: S's without parts that are S's. -/
/-- what judging an S leaves; nl0: the locals before it -/
def RS (τ u s : Sg) (b : Nat) (T : Nat → Tk) (P a e lo hi qm m0 nl0 : Nat) (x : Tr) (r : PR (Tr × Lcs × Nat)) (v : Int32) : Prop := FrZ u s qm b (T a).2.2.1 (T e).2.2.1 lo hi nl0 ∧ SIv s ∧ (s.I 2208 0 0 = nI P ∧ PaS u s P) ∧ FLq s T r ∧ (∀ p, r = .ok p → MTg s b (NdA τ s T) p.1 lo hi v ∧ LcM s p.2.1 ∧ s.I 2168 0 qm = nI (max m0 (mxL x nl0))) ∧ ∃ t m', nl0 ≤ t ∧ t ≤ nl0 + (e - a) ∧ s.I 2214 0 0 = nI t ∧ m' ≤ 720 ∧ s.I 2168 0 qm = nI m'
/-- at an S that is to be judged -/
def CS (τ u : Sg) (b k : Nat) (st : Bool) (Lc : Lcs) (B : Nat → Nat) (n L P lo hi kk e : Nat) (bb : Lb) (qm : Nat) (ms : Int32) (mt : Int64) (m0 : Nat) : Prop := (BOK B n ∧ NEt (yTok B n) L ∧ e ≤ L ∧ b < 16) ∧ JS τ u b k st Lc qm ms mt ∧ SIv u ∧ (lo ≤ kk ∧ kk < hi ∧ hi ≤ 1700) ∧ NdC u (yTok B n) bb (b * 1700 + kk) ∧ NmOK (yTok B n) L bb ∧ bb.2.1 < e ∧ u.I 2120 0 0 = nI 0 ∧ (u.I 2208 0 0 = nI P ∧ P + (hi - lo) ≤ 1703) ∧ (Lc.length + (e - bb.2.1) ≤ 719 ∧ u.I 2168 0 qm = nI m0 ∧ Lc.length ≤ m0 ∧ m0 ≤ 720)
/-- the first S of the member at hand -/
abbrev fsV (u : Sg) (qm : Nat) : Int32 := u.I 2177 0 (u.I 2161 0 qm).toNatClampNeg
/-- it stands before token a -/
def FsB (u : Sg) (T : Nat → Tk) (qm a : Nat) : Prop := fsV u qm = -2 ∨ ∃ X p, fsV u qm = nI X ∧ X < 30600 ∧ u.I 2171 0 X = nI p ∧ p < (T a).2.2.1
/-- which S it is: the body (2), its first (1), another (0) -/
def FsS (u : Sg) (T : Nat → Tk) (qm f a : Nat) (v : Int32) (x : Tr) : Prop := (∃ K, K < 30600 ∧ u.I 2161 0 qm = nI K) ∧ f ≤ 2 ∧ (f = 2 → kdO x = 30 ∧ v = u.I 2161 0 qm) ∧ (f = 1 → fsV u qm = v) ∧ (f = 0 → FsB u T qm a)
theorem NdV_s {τ s : Sg} {b : Lb} {X : Nat} (h : b.1 = 30 ∨ (32 ≤ b.1 ∧ b.1 ≤ 35) ∨ b.1 = 37 ∨ b.1 = 39 ∨ b.1 = 40) : NdV τ s b X := sorry
/-- what may be put to: a local or a field -/
theorem ckE_pt {τ u : Sg} {b k : Nat} {st : Bool} {Lc : Lcs} {x x' : Tr} (hJ : JM τ u b k st Lc) (hk : kdO x = 4 ∨ kdO x = 6 ∨ kdO x = 17) (h : ckE τ k st Lc x = .ok x') : ∃ sz b' uu x1 y1, x' = .inner sz b' uu x1 y1 ∧ b'.1 = kdO x ∧ ((¬ b'.2.2.2.2.2.2.2.2.2 = 0 ∧ b'.2.2.2.2.2.2.2.1 = 0) ∨ (b'.2.2.2.2.2.2.2.2.2 = 0 ∧ ¬ b'.2.2.2.2.2.2.2.1 = 0)) ∧ ¬ b'.2.2.2.2.2.2.1 = 2 := sorry
theorem wt_0 {sz : Nat} {b : Lb} {u : Unit} {x y : Tr} {w a e : Nat} (h : wt (Std.DTreeMap.Internal.Impl.inner sz b u x y) 5 w a e) : wt (Std.DTreeMap.Internal.Impl.inner sz b u x y) 0 w a e := sorry
theorem MTg_rt {σ : Sg} {s lo hi : Nat} {N : Lb → Nat → Prop} {x : Tr} {v : Int32} (h : MTg σ s N x lo hi v) (hx : ¬ x = .leaf) : ∃ j, v = nI (s * 1700 + j) ∧ j < 1700 := sorry
/-- a class's name, or a field of an E, is no local -/
theorem ckE_46 {τ : Sg} {k : Nat} {st : Bool} {Lc : Lcs} {x : Tr} {sz : Nat} {b' : Lb} {uu : Unit} {x1 y1 : Tr} (h : ckE τ k st Lc x = .ok (.inner sz b' uu x1 y1)) (hk : kdO x = 6 ∨ kdO x = 17) : ¬ b'.2.2.2.2.2.2.2.1 = 0 := sorry
/-- the place of a local -/
theorem lcF_lt {nm : Int64} : ∀ (xs : Lcs) (i : Nat) (c : Nat × Int64 × Nat), lcF nm xs i = some c → c.1 < i + xs.length := sorry
theorem ckN_kd {τ : Sg} {k : Nat} {st : Bool} {Lc : Lcs} {b b' : Lb} {x y : Tr} (h : ckN τ k st Lc b x y = .ok b') : b'.1 = b.1 := sorry
theorem ckE_lc {τ : Sg} {k : Nat} {st : Bool} {Lc : Lcs} {x : Tr} {sz : Nat} {b' : Lb} {uu : Unit} {x1 y1 : Tr} (h : ckE τ k st Lc x = .ok (.inner sz b' uu x1 y1)) (hk : b'.1 = 4) (h0 : b'.2.2.2.2.2.2.2.1 = 0) : b'.2.2.2.2.2.2.2.2.1 < Lc.length := sorry
theorem nI_nn {a : Nat} (h : a < 2 ^ 31) : (0 : Int32) ≤ nI a := sorry
theorem swJ {z : Int} {K : Nat} {P1 P2 P3 P4 P5 P6 D : Prop} (hz : z = K) (h1 : K = 24 → P1) (h2 : K = 25 → P2) (h3 : K = 26 → P3) (h4 : K = 27 → P4) (h5 : K = 28 → P5) (h6 : K = 29 → P6) (hD : 29 < K ∨ K < 24 → D) : (z = 24 → P1) ∧ (z = 25 → P2) ∧ (z = 26 → P3) ∧ (z = 27 → P4) ∧ (z = 28 → P5) ∧ (z = 29 → P6) ∧ ((z < 24 ∨ 29 < z) → D) := sorry
section SPX
variable {l : Launch} {G : Gl} {d : Nat} {τ : Sg} {b k n L : Nat} {st : Bool} {Lc : Lcs} {B : Nat → Nat} {ms : Int32} {mt : Int64}
set_option maxHeartbeats 2000000 in
theorem mj_other (hG : GOK G) (hd : 20 ≤ d) {u : Sg} {P lo hi kk e sz w f sn qm m0 : Nat} {bb : Lb} {uu : Unit} {x y : Tr} (hC : CS τ u b k st Lc B n L P lo hi kk e bb qm ms mt m0) (hk : bb.1 = 34 ∨ bb.1 = 35 ∨ bb.1 = 37 ∨ bb.1 = 38 ∨ bb.1 = 39 ∨ bb.1 = 40) (hw : wt (Std.DTreeMap.Internal.Impl.inner sz bb uu x y) 2 w bb.2.1 e) (hf : FsS u (yTok B n) qm f bb.2.1 (nI (b * 1700 + kk)) (.inner sz bb uu x y)) (hMx : MTg u b (NdC u (yTok B n)) x lo kk (u.I 2177 0 (b * 1700 + kk)) ∨ MTg u b (NdC u (yTok B n)) x (kk + 1) hi (u.I 2177 0 (b * 1700 + kk))) (hMy : bb.1 = 40 → MTg u b (NdC u (yTok B n)) y (kk + 1) hi (u.I 2178 0 (b * 1700 + kk))) (hE : ¬ bb.1 = 38 → ¬ x = .leaf → SpEm l G d τ b k st Lc B n L x ∧ SpEm l G (d + 1) τ b k st Lc B n L x) (hEy : bb.1 = 40 → SpEm l G d τ b k st Lc B n L y) (hA : bb.1 = 38 → SpAm l G (d + 1) τ b k st Lc B n L x) (hpar : ms = 2 → ¬ wPar τ 1 k = none) : CT l G yX11_judgeOther (ws_ yX11_judgeOther cX11_judgeOther 4 none) (d + 1 + 1) [.ref (G.adr 11 0), .int (nI (b * 1700 + kk))] u (rV (fun s => RS τ u s b (yTok B n) P bb.2.1 e lo hi qm m0 Lc.length (.inner sz bb uu x y) (ckS τ k st ms mt (.inner sz bb uu x y) f Lc sn) (nI (b * 1700 + kk)))) := sorry
end SPX
