/-! Judging, the model: S's; what is wanted, locals. -/
/-- the columns that judging an S may change; qm: the member at hand -/
def pJs (qm c j : Nat) : Bool := decide ((2119 < c ∧ c ≤ 2121) ∨ (2192 < c ∧ c ≤ 2198) ∨ (2206 < c ∧ c ≤ 2208) ∨ (2211 < c ∧ c ≤ 2217) ∨ c = 2176 ∨ c = 2179 ∨ (2180 < c ∧ c ≤ 2186) ∨ (c = 2168 ∧ j = qm))
theorem pJs_iff {qm c j : Nat} : pJs qm c j = true ↔ ((2119 < c ∧ c ≤ 2121) ∨ (2192 < c ∧ c ≤ 2198) ∨ (2206 < c ∧ c ≤ 2208) ∨ (2211 < c ∧ c ≤ 2217) ∨ c = 2176 ∨ c = 2179 ∨ (2180 < c ∧ c ≤ 2186) ∨ (c = 2168 ∧ j = qm)) := sorry
theorem pJs_no {qm c j : Nat} (h : ¬ ((2119 < c ∧ c ≤ 2121) ∨ (2192 < c ∧ c ≤ 2198) ∨ (2206 < c ∧ c ≤ 2208) ∨ (2211 < c ∧ c ≤ 2217) ∨ c = 2176 ∨ c = 2179 ∨ (2180 < c ∧ c ≤ 2186) ∨ (c = 2168 ∧ j = qm))) : pJs qm c j = false := sorry
theorem pJd_pJs {qm : Nat} : ∀ c j, pJd c j = true → pJs qm c j = true := sorry
theorem stC_js {σ s : Sg} {qm : Nat} (h : FJ (pJs qm) σ s) : stP scC s = stP scC σ := sorry
theorem plA_js {σ s : Sg} {X qm : Nat} (h : FJ (pJs qm) σ s) : plA s X = plA σ X := sorry
/-- only nodes from lo on, below hi, at places from pa on, below pe; locals from t on -/
def FrZ (σ s : Sg) (qm b pa pe lo hi t : Nat) : Prop := FJ (pJs qm) σ s ∧ (∀ X, ¬ (b * 1700 + lo ≤ X ∧ X < b * 1700 + hi ∧ pa ≤ plA σ X ∧ plA σ X < pe) → AnM σ s X) ∧ ∀ j, j < t → s.L 2212 0 j = σ.L 2212 0 j ∧ s.L 2213 0 j = σ.L 2213 0 j
theorem FrZ.refl {σ : Sg} {qm b pa pe lo hi t : Nat} : FrZ σ σ qm b pa pe lo hi t := sorry
theorem FrZ.trans {σ s u : Sg} {qm b pa pe lo hi t : Nat} (h : FrZ σ s qm b pa pe lo hi t) (k : FrZ s u qm b pa pe lo hi t) : FrZ σ u qm b pa pe lo hi t := sorry
theorem FrZ.up {σ s : Sg} {qm b pa pe lo hi t pa' pe' lo' hi' t' : Nat} (h : FrZ σ s qm b pa pe lo hi t) (h1 : pa' ≤ pa) (h2 : pe ≤ pe') (h3 : lo' ≤ lo) (h4 : hi ≤ hi') (h5 : t' ≤ t) : FrZ σ s qm b pa' pe' lo' hi' t' := sorry
theorem FrJ.Z {σ s : Sg} {qm b pa pe lo hi t : Nat} (h : FrJ σ s b pa pe lo hi) : FrZ σ s qm b pa pe lo hi t := sorry
theorem FrZ_jm {σ s : Sg} {qm b pa pe lo hi t : Nat} (h : FJ pJm σ s) : FrZ σ s qm b pa pe lo hi t := sorry
theorem js_ptr {σ s : Sg} {qm : Nat} (hF : FJ (pJs qm) σ s) : ∀ c X, c = 2177 ∨ c = 2178 ∨ c = 2180 → s.I c 0 X = σ.I c 0 X := sorry
theorem NdT.js {σ s : Sg} {T : Nat → Tk} {b : Lb} {X qm : Nat} (h : NdT σ T b X) (hF : FJ (pJs qm) σ s) : NdT s T b X := sorry
theorem NdC.js {σ s : Sg} {T : Nat → Tk} {b : Lb} {X qm : Nat} (h : NdC σ T b X) (hF : FJ (pJs qm) σ s) (hA : AnM σ s X) : NdC s T b X := sorry
theorem NdA.js {τ σ s : Sg} {T : Nat → Tk} {b : Lb} {X qm : Nat} (h : NdA τ σ T b X) (hF : FJ (pJs qm) σ s) (hA : AnM σ s X) : NdA τ s T b X := sorry
/-- a tree that is not judged yet, when other S's were -/
theorem MTg.sc {σ s : Sg} {qm t b m w a e lo hi pa pe lo2 hi2 L n : Nat} {B : Nat → Nat} {x : Tr} {v : Int32} (hb : b < 16) (hB : BOK B n) (hN : NEt (yTok B n) L) (he : e ≤ L) (hw : wt x m w a e) (hm : m = 4 → ∀ k, v = nI (b * 1700 + k) → k < 1700 → s.I 2179 0 (b * 1700 + k) = σ.I 2179 0 (b * 1700 + k)) (h : MTg σ b (NdC σ (yTok B n)) x lo hi v) (hF : FrZ σ s qm b pa pe lo2 hi2 t) (hd : hi ≤ lo2 ∨ hi2 ≤ lo ∨ pe ≤ (yTok B n a).2.2.1 ∨ (yTok B n e).2.2.1 ≤ pa) : MTg s b (NdC s (yTok B n)) x lo hi v := sorry
/-- a tree that was judged, when other S's are -/
theorem MTg.sa {τ σ s : Sg} {qm t b m w a e lo hi pa pe lo2 hi2 L n : Nat} {B : Nat → Nat} {x : Tr} {v : Int32} (hb : b < 16) (hB : BOK B n) (hN : NEt (yTok B n) L) (he : e ≤ L) (hw : wt x m w a e) (hm : m = 4 → ∀ k, v = nI (b * 1700 + k) → k < 1700 → s.I 2179 0 (b * 1700 + k) = σ.I 2179 0 (b * 1700 + k)) (h : MTg σ b (NdA τ σ (yTok B n)) x lo hi v) (hF : FrZ σ s qm b pa pe lo2 hi2 t) (hd : hi ≤ lo2 ∨ hi2 ≤ lo ∨ pe ≤ (yTok B n a).2.2.1 ∨ (yTok B n e).2.2.1 ≤ pa) : MTg s b (NdA τ s (yTok B n)) x lo hi v := sorry
/-- most locals at a time -/
def mxL : Tr → Nat → Nat
  | .leaf, n => n
  | .inner _ b _ x y, n => if b.1 = 0 then max (mxL x n) (mxL y (if kdO x = 31 then n + 1 else n)) else if b.1 = 41 then max (mxL x n) (mxL y n) else if b.1 = 30 then mxL x n else if b.1 = 31 then n + 1 else if b.1 = 32 ∨ b.1 = 33 then mxL y n else if b.1 = 36 then max (mxL x n) (max ((if kdO x = 31 then n + 1 else n) + 1) (mxL y ((if kdO x = 31 then n + 1 else n) + 1))) else n
/-- the member at hand -/
def JS (τ u : Sg) (b k : Nat) (st : Bool) (Lc : List (Int64 × Int64 × Nat)) (qm : Nat) (ms : Int32) (mt : Int64) : Prop := JM τ u b k st Lc ∧ qm < 7344 ∧ u.I 2210 0 0 = nI qm ∧ u.I 2142 0 qm = ms ∧ (u.L 2153 0 qm = tM mt ∧ TyOK mt ∧ ¬ mt = 2)
theorem JM.js {τ u s : Sg} {b k qm : Nat} {st : Bool} {Lc Lc' : List (Int64 × Int64 × Nat)} (h : JM τ u b k st Lc) (hF : FJ (pJs qm) u s) (hL : LcM s Lc') : JM τ s b k st Lc' := sorry
theorem JS.js {τ u s : Sg} {b k qm qm' : Nat} {st : Bool} {Lc Lc' : List (Int64 × Int64 × Nat)} {ms : Int32} {mt : Int64} (h : JS τ u b k st Lc qm ms mt) (hF : FJ (pJs qm') u s) (hL : LcM s Lc') : JS τ s b k st Lc' qm ms mt := sorry
theorem JS.jd {τ u s : Sg} {b k qm : Nat} {st : Bool} {Lc : List (Int64 × Int64 × Nat)} {ms : Int32} {mt : Int64} (h : JS τ u b k st Lc qm ms mt) (hF : FJ pJd u s) : JS τ s b k st Lc qm ms mt := sorry
theorem FLq_2 {α : Type} {u s : Sg} {T : Nat → Tk} {r : PR α} (h : FLq u T r) (h1 : s.I 2120 0 0 = u.I 2120 0 0) (h2 : s.I 2121 0 0 = u.I 2121 0 0) : FLq s T r := sorry
section SPX
variable {l : Launch} {G : Gl} {d : Nat} {τ σ : Sg} {b k : Nat} {st : Bool} {Lc : List (Int64 × Int64 × Nat)} {T : Nat → Tk}
theorem sj_wanted (hG : GOK G) {r : PR Unit} {tok : Nat} {t w : Int64} {v : Int32} {l2 l4 : Int64} (hd : 6 ≤ d) (hU : JgU τ σ k) (hI : SIv σ) (hq : FLq σ T r) (hv : r = .ok () → (∃ X, v = nI X ∧ X < 30600 ∧ σ.I 2171 0 X = nI (T tok).2.2.1) ∧ l2 = tM t ∧ l4 = tM w ∧ TyOK t ∧ TyOK w ∧ ¬ w = 2) : CT l G yX11_wanted (ws_ yX11_wanted cX11_wanted 6 none) d [.ref (G.adr 11 0), .int v, .long l2, .long l4] σ (rV (fun s => FJ pJm σ s ∧ SIv s ∧ FLq s T (bnd r fun _ => ckP (wFits τ 1 t w) 13 tok))) := sorry
/-- a local's columns -/
def pLc (qm t c j : Nat) : Bool := decide ((2119 < c ∧ c ≤ 2121) ∨ ((c = 2212 ∨ c = 2213) ∧ j = t) ∨ c = 2214 ∨ (c = 2168 ∧ j = qm))
theorem pLc_iff {qm t c j : Nat} : pLc qm t c j = true ↔ ((2119 < c ∧ c ≤ 2121) ∨ ((c = 2212 ∨ c = 2213) ∧ j = t) ∨ c = 2214 ∨ (c = 2168 ∧ j = qm)) := sorry
theorem pLc_no {qm t c j : Nat} (h : ¬ ((2119 < c ∧ c ≤ 2121) ∨ ((c = 2212 ∨ c = 2213) ∧ j = t) ∨ c = 2214 ∨ (c = 2168 ∧ j = qm))) : pLc qm t c j = false := sorry
theorem FrZ_lc {σ s : Sg} {qm b pa pe lo hi t : Nat} (h : FJ (pLc qm t) σ s) : FrZ σ s qm b pa pe lo hi t := sorry
theorem sj_local (hG : GOK G) {r : PR Unit} {tok t qm m0 : Nat} {nm ty : Int64} {l2 : Int64} {x5 : Int32} (hd : 2 ≤ d) (hI : SIv σ) (hq : FLq σ T r) (h10 : σ.I 2210 0 0 = nI qm) (hqm : qm < 7344) (h14 : σ.I 2214 0 0 = nI t) (ht : t < 720) (h68 : σ.I 2168 0 qm = nI m0) (hm0 : m0 ≤ 720) (hok : r = .ok () → LcM σ Lc ∧ t = Lc.length ∧ l2 = tM ty ∧ TyOK ty ∧ ¬ ty = 2) (hx5 : x5 = nI (T tok).2.2.1) : CT l G yX11_local (ws_ yX11_local cX11_local 7 none) d [.ref (G.adr 11 0), .long nm, .long l2, .int x5] σ (rV (fun s => FJ (pLc qm t) σ s ∧ SIv s ∧ FLq s T (bnd r fun _ => ckW Lc nm tok) ∧ s.I 2214 0 0 = nI (t + 1) ∧ s.I 2168 0 qm = nI (max m0 (t + 1)) ∧ ∀ sn, r = .ok () → LcM s (Lc ++ [(nm, ty, sn)]))) := sorry
end SPX
