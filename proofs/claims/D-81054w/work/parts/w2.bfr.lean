/-! Builds stay in order while other columns change. -/
/-- the columns of builds -/
def bKc (c : Nat) : Bool := rg 1099 1127 c || (rg 1199 1222 c || (rg 1699 1704 c || (rg 2000 2013 c || (rg 2104 2106 c || (rg 2110 2116 c || (rg 2122 2188 c || rg 2217 2227 c))))))
theorem rg_o {lo hi c : Nat} (h : rg lo hi c = false) : c ≤ lo ∨ hi < c := by
  by_cases z : lo < c ∧ c ≤ hi
  · rw [rg_iff.mpr z] at h; cases h
  · omega
theorem bKc_f {c : Nat} (h : bKc c = false) : (c ≤ 1099 ∨ 1127 < c) ∧ (c ≤ 1199 ∨ 1222 < c) ∧ (c ≤ 1699 ∨ 1704 < c) ∧ (c ≤ 2000 ∨ 2013 < c) ∧ (c ≤ 2104 ∨ 2106 < c) ∧ (c ≤ 2110 ∨ 2116 < c) ∧ (c ≤ 2122 ∨ 2188 < c) ∧ (c ≤ 2217 ∨ 2227 < c) := by
  unfold bKc at h
  simp only [Bool.or_eq_false_iff] at h
  obtain ⟨h1, h2, h3, h4, h5, h6, h7, h8⟩ := h
  exact ⟨rg_o h1, rg_o h2, rg_o h3, rg_o h4, rg_o h5, rg_o h6, rg_o h7, rg_o h8⟩
theorem bKc_t {c : Nat} (h : (1099 < c ∧ c ≤ 1127) ∨ (1199 < c ∧ c ≤ 1222) ∨ (1699 < c ∧ c ≤ 1704) ∨ (2000 < c ∧ c ≤ 2013) ∨ (2104 < c ∧ c ≤ 2106) ∨ (2110 < c ∧ c ≤ 2116) ∨ (2122 < c ∧ c ≤ 2188) ∨ (2217 < c ∧ c ≤ 2227)) : bKc c = true := by
  cases e : bKc c with
  | true => rfl
  | false =>
    have := bKc_f e
    omega
theorem bsz_0 {c : Nat} (h : bKc c = false) : bsz c = 0 := by
  have := bKc_f h
  unfold bsz
  rw [if_neg (by omega), if_neg (by omega), if_neg (by omega), if_neg (by omega), if_neg (by omega), if_neg (by omega), if_neg (by omega), if_neg (by omega), if_neg (by omega), if_neg (by omega), if_neg (by omega), if_neg (by omega)]
section BFR
variable {s t σ ρ : Sg} {P P' : Pg} {b k i : Nat} {p : Nat → Nat → Bool}
theorem SmB.of (hF : Fl p s t) (hp : ∀ c i, bKc c = true → p c i = false) : SmB b s t := by
  refine ⟨⟨fun c i j h1 h2 _ _ => ?_, fun c i j h1 h2 _ _ => ?_, fun c i j h1 h2 _ _ => ?_, fun c i j h1 h2 _ _ => ?_, fun c j h1 h2 => ?_⟩, fun c j h1 h2 => ?_⟩
  · exact hF c i (hp c i (bKc_t (by omega))) j
  · exact hF c i (hp c i (bKc_t (by omega))) j
  · have q := hF c i (hp c i (bKc_t (by omega))) j
    exact ⟨q.1, q.2.2.1, q.2.2.2⟩
  · have q := hF c i (hp c i (bKc_t (by omega))) j
    exact ⟨q.1, q.2.1, q.2.2.1⟩
  · exact (hF c b (hp c b (bKc_t (by omega))) j).1
  · cases e : bKc c with
    | true =>
      have q := hF c 0 (hp c 0 e) j
      exact ⟨q.1, q.2.1, q.2.2.1⟩
    | false => rw [bsz_0 e] at h1 h2; omega
theorem LUt.fr {U : List Us} (hl : U.length ≤ 1000) (h : SmL b s t) (w : LUt s b U) : LUt t b U := by
  refine ⟨(h.bu (by omega) (by omega)).trans w.1, fun x r e => ?_⟩
  have hx := (List.getElem?_eq_some_iff.mp e).1
  obtain ⟨u1, u2, ⟨a1, a2, a3, a4⟩, a5, a6, a7, a8⟩ := w.2 x r e
  obtain ⟨h1, h2, h3, h4, h5⟩ := h
  have r3 : ∀ c, 1699 < c → c < 1705 → t.I c (1000 * b + x) 0 = s.I c (1000 * b + x) 0 ∧ t.L c (1000 * b + x) 0 = s.L c (1000 * b + x) 0 ∧ t.R c (1000 * b + x) 0 = s.R c (1000 * b + x) 0 := fun c c1 c2 => h3 c _ 0 c1 c2 (by omega) (by omega)
  have r4 : ∀ c j, 1199 < c → c < 1223 → t.I c (6402 + (1000 * b + x)) j = s.I c (6402 + (1000 * b + x)) j ∧ t.B c (6402 + (1000 * b + x)) j = s.B c (6402 + (1000 * b + x)) j ∧ t.L c (6402 + (1000 * b + x)) j = s.L c (6402 + (1000 * b + x)) j := fun c j c1 c2 => h4 c _ j c1 c2 (by omega) (by omega)
  have ep : pmL t (6402 + (1000 * b + x)) = pmL s (6402 + (1000 * b + x)) := by
    unfold pmL
    have e8 : nPa t (6402 + (1000 * b + x)) = nPa s (6402 + (1000 * b + x)) := by
      unfold nPa
      rw [(r4 1208 0 (by omega) (by omega)).1]
    rw [e8]
    exact List.map_congr_left (fun y _ => (r4 1209 y (by omega) (by omega)).2.2)
  refine ⟨u1, u2, ⟨(r3 1700 (by omega) (by omega)).1.trans a1, (r3 1701 (by omega) (by omega)).2.2.trans a2, (r3 1702 (by omega) (by omega)).2.1.trans a3, (r3 1703 (by omega) (by omega)).2.1.trans a4⟩, fun z => ep.trans (a5 z), fun z => ⟨(r4 1201 0 (by omega) (by omega)).2.2.trans (a6 z).1, (r4 1207 0 (by omega) (by omega)).2.2.trans (a6 z).2⟩, fun z => (r4 1200 0 (by omega) (by omega)).1.trans (a7 z), fun z => ⟨(r4 1201 0 (by omega) (by omega)).2.2.trans (a8 z).1, (r4 1213 0 (by omega) (by omega)).1.trans (a8 z).2⟩⟩
theorem MUt.fr {U : List Us} (hl : U.length ≤ 1000) (h : SmM b σ ρ) (w : MUt σ b U) : MUt ρ b U := by
  refine ⟨(h.mo (c := 2218) (n := 1) rfl (by omega) (by omega)).1.trans w.1, fun x r e => ?_⟩
  have hx := (List.getElem?_eq_some_iff.mp e).1
  obtain ⟨u1, a1, a2, a3, a4, a5, a6, a7, a8, a9⟩ := w.2 x r e
  have r8 : ∀ c, bsz c = 1800 → ρ.I c 0 (1800 * b + x) = σ.I c 0 (1800 * b + x) ∧ ρ.B c 0 (1800 * b + x) = σ.B c 0 (1800 * b + x) ∧ ρ.L c 0 (1800 * b + x) = σ.L c 0 (1800 * b + x) := fun c hc => h.mo hc (by omega) (by omega)
  refine ⟨u1, (r8 2219 rfl).1.trans a1, (r8 2220 rfl).1.trans a2, (r8 2221 rfl).2.2.trans a3, (r8 2222 rfl).2.2.trans a4, (r8 2223 rfl).2.2.trans a5, (r8 2224 rfl).1.trans a6, fun y q eq => ?_, (r8 2226 rfl).2.2.trans a8, (r8 2227 rfl).1.trans a9⟩
  have hy := (List.getElem?_eq_some_iff.mp eq).1
  have h4 := u1.2.2.2.2.1
  exact (h.mo (c := 2225) (n := 7200) rfl (by omega) (by omega)).2.2.trans (a7 y q eq)
theorem UrK.ev {k' : Nat} {r : Us} (h : HEv s t k k') (w : UrK s k r) : UrK t k' r := by
  unfold UrK at w ⊢
  rw [h.l 1107 0 rfl, h.b 1102 0 rfl, h.fc, h.l 1100 0 rfl]
  refine ⟨w.1, fun z => ?_, w.2.2.1, fun z => ?_⟩
  · obtain ⟨j, j1, j2⟩ := w.2.1 z
    exact ⟨j, j1, by rw [h.l 1108 j rfl]; exact j2⟩
  · obtain ⟨j, j1, j2⟩ := w.2.2.2 z
    exact ⟨j, j1, by rw [h.l 1108 j rfl]; exact j2⟩
theorem UsF.fr (hi : i < 12) (h : SmB b s t) (w : UsF s b (12 * b + i)) : UsF t b (12 * b + i) := by
  obtain ⟨U, n0, n1, ⟨⟨u1, u2, u3⟩, u4, ⟨u5, u6⟩, u7⟩, hM, hR⟩ := w
  exact ⟨U, n0, n1, ⟨⟨u1.fr u3 h.1, u2, u3⟩, u4, ⟨(h.1.i19 hi).1.trans u5, (h.1.i19 hi).2.trans u6⟩, (h.1.r26 hi).trans u7⟩, hM.fr u3 h.2, fun r hr e => (hR r hr e).ev (h.1.hev hi)⟩
theorem TxT.fr (hb : b < 16) (h : SmB b s t) (w : TxT s b) : TxT t b := by
  obtain ⟨n, n1, n2, n3, n4⟩ := w
  refine ⟨n, n1, (h.1.bu (by omega) (by omega)).trans n2, (h.2.mo (c := 2106) (n := 1) rfl (by omega) (by omega)).1.trans n3, fun k hk => ?_⟩
  rw [h.1.bu (by omega) (by omega), (h.2.mo (c := 2105) (n := 4000) rfl (by omega) (by omega)).1]
  exact n4 k hk
theorem TxR.fr (hs : Shp s) (hb : b < 16) (h : SmB b s t) (w : TxR s b) : TxR t b := by
  have ek : hKs t b = hKs s b := by unfold hKs; rw [h.1.bu (by omega) (by omega)]
  intro i hi hi2
  rw [ek] at hi
  obtain ⟨w1, w2⟩ := w i hi hi2
  have h33 := (hs.me (k := 12 * b + i) (by omega)).1
  have r := fun c j x (c1 : 1199 < c) (c2 : c < 1223) (hj2 : j < 33) => h.1.2.1 c (33 * (12 * b + i) + j) x c1 c2 (by omega) (by omega)
  refine ⟨fun a j ha hj q1 q2 q3 => ?_, fun j hj hj2 => ?_⟩
  · rw [h.1.me hi2] at ha hj
    rw [(r 1206 a 0 (by omega) (by omega) (by omega)).2.1] at q2
    rw [(r 1206 j 0 (by omega) (by omega) (by omega)).2.1] at q3
    refine w1 a j ha hj ?_ q2 q3
    unfold mAlk mPar nPa at q1 ⊢
    rw [(r 1200 a 0 (by omega) (by omega) (by omega)).1, (r 1200 j 0 (by omega) (by omega) (by omega)).1, (r 1201 a 0 (by omega) (by omega) (by omega)).2.2.1, (r 1201 j 0 (by omega) (by omega) (by omega)).2.2.1, (r 1208 a 0 (by omega) (by omega) (by omega)).1, (r 1208 j 0 (by omega) (by omega) (by omega)).1] at q1
    have ef : (fun x => decide (t.L 1209 (33 * (12 * b + i) + a) x = t.L 1209 (33 * (12 * b + i) + j) x)) = (fun x => decide (s.L 1209 (33 * (12 * b + i) + a) x = s.L 1209 (33 * (12 * b + i) + j) x)) := funext fun x => by
      rw [(r 1209 a x (by omega) (by omega) (by omega)).2.2.1, (r 1209 j x (by omega) (by omega) (by omega)).2.2.1]
    rw [ef] at q1
    exact q1
  · rw [h.1.me hi2] at hj
    rw [(r 1200 j 0 (by omega) (by omega) hj2).1, (r 1216 j 0 (by omega) (by omega) hj2).1, (r 1205 j 0 (by omega) (by omega) hj2).2.1, (r 1206 j 0 (by omega) (by omega) hj2).2.1, (r 1201 j 0 (by omega) (by omega) hj2).2.2.1, (h.2.mo (c := 2161) (n := 408) (x := 34 * (12 * b + i) + j) rfl (by omega) (by omega)).1]
    exact w2 j hj hj2
theorem TxB.fr (hs : Shp s) (hb : b < 16) (h : SmB b s t) (w : TxB s b) : TxB t b := ⟨w.1.fr hb h, w.2.fr hs hb h⟩
/-- A BUILD STAYS IN ORDER -/
theorem BOk.fr (hs : Shp s) (hb : b < 16) (h12 : hKs s b ≤ 12) (h10 : hUs s b ≤ 1000) (h : SmB b s t) (hP : PgS b P P') (w : BOk s P b) : BOk t P' b := by
  obtain ⟨⟨a1, a2⟩, w1, w2, w3, w4⟩ := w
  have ek : hKs t b = hKs s b := by unfold hKs; rw [h.1.bu (by omega) (by omega)]
  have eu : hUs t b = hUs s b := by unfold hUs; rw [h.1.bu (by omega) (by omega)]
  refine ⟨⟨?_, ?_⟩, fun i hi => ?_, fun u hu => ?_, fun i j hi hj e => ?_, w4.fr hs hb h⟩
  · rw [(h.2.mo (c := 2123) (n := 1) rfl (by omega) (by omega)).1, h.1.bu (by omega) (by omega)]; exact a1
  · rw [(h.2.mo (c := 2218) (n := 1) rfl (by omega) (by omega)).1, h.1.bu (by omega) (by omega)]; exact a2
  · rw [ek] at hi
    have hi12 : i < 12 := by omega
    obtain ⟨q1, q2, q3, q4⟩ := w1 i hi
    exact ⟨q1.fr hs hb hi12 h.1 hP, q2.fr hs hb hi12 h.1 h.2 hP q1.1.1.1, q3.fr hi12 h, (h.1.1 1127 (12 * b + i) 0 (by omega) (by omega) (by omega) (by omega)).1.trans q4⟩
  · rw [eu] at hu
    rw [ek]
    obtain ⟨i, i1, i2⟩ := w2 u hu
    exact ⟨i, i1, (h.1.2.2.1 1701 (1000 * b + u) 0 (by omega) (by omega) (by omega) (by omega)).2.2.trans i2⟩
  · rw [ek] at hi hj
    rw [(h.1.hev (show i < 12 by omega)).l 1100 0 rfl, (h.1.hev (show j < 12 by omega)).l 1100 0 rfl] at e
    exact w3 i j hi hj e
/-- a given class stays in order -/
theorem CoB.fr (hF : Fl p s t) (hp : ∀ c i, bKc c = true → p c i = false) (hk : k < 194) (hs : Shp s) (w : CoB s k) : CoB t k := by
  have eI : ∀ c i j, bKc c = true → t.I c i j = s.I c i j := fun c i j hc => hF.i (hp c i hc)
  have eB : ∀ c i j, bKc c = true → t.B c i j = s.B c i j := fun c i j hc => hF.b (hp c i hc)
  have eL : ∀ c i j, bKc c = true → t.L c i j = s.L c i j := fun c i j hc => hF.l (hp c i hc)
  have hH : HEv s t k k := fun c x hc => by
    have hc := of_decide_eq_true hc
    have hb : bKc c = true := bKc_t (by omega)
    exact ⟨eI c k x hb, eB c k x hb, eL c k x hb⟩
  have em : ∀ m, MEv s t m m := fun m c x hc => by
    have hc := of_decide_eq_true hc
    have hb : bKc c = true := bKc_t (by omega)
    exact ⟨eI c m x hb, eB c m x hb, eL c m x hb⟩
  have hZ : ∀ c, ZEv s t c c := fun c => ⟨fun x hx => by
    have hx := of_decide_eq_true hx
    have hb : bKc x = true := bKc_t (by omega)
    exact ⟨eI x 0 c hb, eB x 0 c hb, eL x 0 c hb⟩, fun i _ => eL _ _ _ rfl, fun i _ => ⟨eL _ _ _ rfl, eL _ _ _ rfl⟩⟩
  have hQ : ∀ q, QEv s t q q := fun q => ⟨fun x hx => by
    have hx := of_decide_eq_true hx
    have hb : bKc x = true := bKc_t (by omega)
    exact ⟨eI x 0 q hb, eB x 0 q hb, eL x 0 q hb⟩, fun i _ => eL _ _ _ rfl⟩
  have hKq : KEq s t k := KEq.fl hF (fun x h1 h2 => hp x k (bKc_t (by omega))) (fun i _ x h1 h2 => hp x _ (bKc_t (by omega)))
  have en : nMe t k = nMe s k := by unfold nMe; rw [eI 1117 k 0 rfl]
  have hn := (hs.me hk).1
  obtain ⟨⟨a1, a2⟩, ⟨b1, b2, b3⟩, c1, c2, c3⟩ := w
  refine ⟨⟨a1.eq hKq hn, fun j hj => ?_⟩, ⟨b1.ev hH (hZ _) (hs.fc hk).1 id, b2.ev hH (hZ _) (hs.wi hk).1 (hs.on hk).1, ?_⟩, ?_, ?_, c3.eq hKq hn⟩
  · rw [en] at hj
    obtain ⟨q1, q2, q3⟩ := a2 j hj
    refine ⟨q1.ev (em _), ?_, ?_⟩
    · rw [eI 1200 _ _ rfl]; exact q2
    · rw [(em _).pa]; exact q3
  · unfold MKm at b3 ⊢
    rw [en, eI 2141 _ _ rfl, eI 1117 _ _ rfl]
    exact ⟨b3.1, fun j hj => (b3.2 j hj).ev (em _) (hQ _) (b3.2 j hj).1.2.1 (b3.2 j hj).1.1⟩
  · obtain ⟨w1, w2, w3, w4, w5⟩ := c1
    unfold fdK
    rw [eI 1123 _ _ rfl, eB 1102 _ _ rfl, en]
    refine ⟨w1, fun j hj => ?_, fun a j ha hj => ?_, fun z j hj => ?_, fun j hj => ?_⟩
    · rw [eI 1200 _ _ rfl, eI 1221 _ _ rfl, eB 1203 _ _ rfl]; exact w2 j hj
    · rw [eI 1200 _ _ rfl, eI 1221 _ _ rfl, eB 1203 _ _ rfl, eI 1200 _ _ rfl, eI 1221 _ _ rfl, eB 1203 _ _ rfl]; exact w3 a j ha hj
    · rw [eI 1200 _ _ rfl, eB 1203 _ _ rfl]; exact w4 z j hj
    · rw [eI 1200 _ _ rfl, eB 1212 _ _ rfl, eB 1203 _ _ rfl, eL 1207 _ _ rfl]; exact w5 j hj
  · unfold FdQk
    rw [eI 1123 _ _ rfl, en, cnF_ev _ (fun j _ => em _)]
    refine ⟨c2.1, fun j hj => ?_⟩
    rw [eI 1200 _ _ rfl, eI 1221 _ _ rfl, eB 1203 _ _ rfl, cnF_ev j (fun x _ => em _)]
    exact c2.2 j hj
/-- the base: builds and what is given -/
def HbI (s : Sg) (P : Pg) : Prop := (HOK s ∧ Shp s ∧ MOK s) ∧ (∀ b, b < hN s → BOk s P b) ∧ BiK s
theorem BiK.fr (hF : Fl p s t) (hp : ∀ c i, bKc c = true → p c i = false) (hs : Shp s) (w : BiK s) : BiK t := by
  have eI : ∀ c i j, bKc c = true → t.I c i j = s.I c i j := fun c i j hc => hF.i (hp c i hc)
  have eB : ∀ c i j, bKc c = true → t.B c i j = s.B c i j := fun c i j hc => hF.b (hp c i hc)
  have eL : ∀ c i j, bKc c = true → t.L c i j = s.L c i j := fun c i j hc => hF.l (hp c i hc)
  obtain ⟨w1, w2, w3⟩ := w
  refine ⟨?_, w2.fr hF hp (by omega) hs, w3.fr hF hp (by omega) hs⟩
  unfold nFc at w1 ⊢
  rw [eL 1100 _ _ rfl, eL 1100 _ _ rfl, eI 1101 _ _ rfl, eI 1101 _ _ rfl, eL 1107 _ _ rfl, eB 1102 _ _ rfl, eB 1102 _ _ rfl, eI 1109 _ _ rfl, eI 1109 _ _ rfl]
  exact w1
theorem Shp.fr (hF : Fl p s t) (hp : ∀ c i, bKc c = true → p c i = false) (w : Shp s) : Shp t := by
  have eI : ∀ c i j, bKc c = true → t.I c i j = s.I c i j := fun c i j hc => hF.i (hp c i hc)
  unfold Shp at w ⊢
  refine ⟨fun k hk => ?_, fun m hm => ?_⟩
  · rw [eI 1109 _ _ rfl, eI 1112 _ _ rfl, eI 1114 _ _ rfl, eI 1117 _ _ rfl]; exact w.1 k hk
  · rw [eI 1208 _ _ rfl]; exact w.2 m hm
theorem MOK.fr (hF : Fl p s t) (hp : ∀ c i, bKc c = true → p c i = false) (w : MOK s) : MOK t := by
  intro k hk j hj
  have en : nMe t k = nMe s k := by unfold nMe; rw [hF.i (hp 1117 k rfl)]
  rw [en] at hj
  rw [hF.r (hp 1222 _ rfl)]
  exact w k hk j hj
/-- THE BASE STAYS (the tables of the house as well) -/
theorem HbI.fr (hF : Fl p s t) (hp : ∀ c i, bKc c = true → p c i = false) (hH : HOK t) (hN' : hN t = hN s) (w : HbI s P) : HbI t P := by
  obtain ⟨⟨a1, a2, a3⟩, w1, w2⟩ := w
  refine ⟨⟨hH, a2.fr hF hp, a3.fr hF hp⟩, fun b hb => ?_, w2.fr hF hp a2⟩
  rw [hN'] at hb
  have hn := a1.n.1
  exact (w1 b hb).fr a2 (by omega) (a1.k hb).1 (a1.u hb).1 (SmB.of hF hp) (fun m _ _ => ⟨rfl, rfl⟩)
end BFR
