/-! LinkHouse reads all classes of a tape. -/
theorem pRow_le {T : Nat → Tk} {most : Nat} : ∀ (g k t : Nat) (z : List Nat × Nat), pRow T most g k t = .ok z → t ≤ z.2 := sorry
theorem pMs_le {T : Nat → Tk} {f : Nat} : ∀ (g k t : Nat) (z : List MRc × Nat), pMs T f g k t = .ok z → t ≤ z.2 := sorry
theorem pOpC_le {T : Nat → Tk} {c : Bool} {t z : Nat} (h : pOpC T c t = .ok z) : t ≤ z := sorry
theorem pOpR_le {T : Nat → Tk} {c : Bool} {most t : Nat} {z : List Nat × Nat} (h : pOpR T c most t = .ok z) : t ≤ z.2 := sorry
theorem pKh_le {T : Nat → Tk} {f so t1 t2 : Nat} {o : Bool} {z : CRc × Nat} (h : pKh T f o so t1 t2 = .ok z) : t2 ≤ z.2 := sorry
theorem pHn_le {T : Nat → Tk} {c : Bool} {s t : Nat} {z : Bool × Nat} (h : pHn T c s t = .ok z) : t ≤ z.2 := sorry
theorem pKl_gt {T : Nat → Tk} {f k t : Nat} {z : CRc × Nat} (h : pKl T f k t = .ok z) : t + 1 ≤ z.2 := sorry
theorem KRec.mv {s u : Sg} {T : Nat → Tk} {L L' kk b k lo hi : Nat} {cr : CRc} {p : Nat → Nat → Bool} (h : KRec s T L kk b k cr lo hi) (hF : Fl p s u) (hp1 : ∀ c, 1099 < c → c ≤ 1128 → p c kk = false) (hp2 : ∀ c i, 1199 < c → c ≤ 1222 → i < 33 → p c (33 * kk + i) = false) (hN : ∀ j, lo ≤ j → j < hi → NdS s u j) (hL : L ≤ L') : KRec u T L' kk b k cr lo hi := sorry
/-- classes from number k on -/
def KsR (s : Sg) (T : Nat → Tk) (L b : Nat) : Nat → List CRc → Nat → Nat → Prop
  | _, [], lo, hi => lo ≤ hi
  | k, c :: cs, lo, hi => ∃ mid, lo ≤ mid ∧ mid ≤ hi ∧ KRec s T L (12 * b + k) b k c lo mid ∧ KsR s T L b (k + 1) cs mid hi
theorem KsR.le {s : Sg} {T : Nat → Tk} {L b : Nat} : ∀ {cs : List CRc} {k lo hi : Nat}, KsR s T L b k cs lo hi → lo ≤ hi := sorry
theorem KsR.mv {s u : Sg} {T : Nat → Tk} {L L' b : Nat} {p : Nat → Nat → Bool} (hF : Fl p s u) (hL : L ≤ L') (hp1 : ∀ c i, 1099 < c → c ≤ 1128 → i < 12 → p c (12 * b + i) = false) (hp2 : ∀ c i, 1199 < c → c ≤ 1222 → i < 396 → p c (396 * b + i) = false) : ∀ {cs : List CRc} {k lo hi : Nat}, KsR s T L b k cs lo hi → k + cs.length ≤ 12 → (∀ j, lo ≤ j → j < hi → NdS s u j) → KsR u T L' b k cs lo hi := sorry
theorem nbeq {a b : Nat} : Nat.beq a b = true ↔ a = b := sorry
/-- the columns of reading, of the classes of b from k on -/
def pKz (b k c i : Nat) : Bool := pT b c i || ((rg 1099 1128 c && (Nat.ble (12 * b + k) i && Nat.ble (i + 1) (12 * b + 12))) || ((rg 1199 1222 c && (Nat.ble (33 * (12 * b + k)) i && Nat.ble (i + 1) (396 * b + 396))) || (Nat.beq c 2007 && Nat.beq i b)))
theorem pT_pKz {b k : Nat} : ∀ c i, pT b c i = true → pKz b k c i = true := sorry
theorem pKz_iff {b k c i : Nat} : pKz b k c i = true ↔ pT b c i = true ∨ (1099 < c ∧ c ≤ 1128 ∧ 12 * b + k ≤ i ∧ i < 12 * b + 12) ∨ (1199 < c ∧ c ≤ 1222 ∧ 33 * (12 * b + k) ≤ i ∧ i < 396 * b + 396) ∨ (c = 2007 ∧ i = b) := sorry
theorem pKd_iff {b kk c i : Nat} : pKd b kk c i = true ↔ pT b c i = true ∨ (1099 < c ∧ c ≤ 1128 ∧ i = kk) ∨ (1199 < c ∧ c ≤ 1222 ∧ 33 * kk ≤ i ∧ i < 33 * kk + 33) ∨ (c = 2007 ∧ i = b) := sorry
theorem pKM_iff {b c i : Nat} : pKM b c i = true ↔ (1099 < c ∧ c ≤ 1128 ∧ 12 * b ≤ i ∧ i < 12 * b + 12) ∨ (1199 < c ∧ c ≤ 1222 ∧ 396 * b ≤ i ∧ i < 396 * b + 396) ∨ (c = 2007 ∧ i = b) := sorry
theorem pT_iff {b c i : Nat} : pT b c i = true ↔ (1405 < c ∧ c ≤ 1407) ∨ (1502 < c ∧ c ≤ 1517) ∨ (2002 < c ∧ c ≤ 2005 ∧ i = b) := sorry
theorem pT_low {b c i : Nat} (h : c ≤ 1405) : pT b c i = false := sorry
theorem pKd_pKz {b k : Nat} (h : k < 12) : ∀ c i, pKd b (12 * b + k) c i = true → pKz b k c i = true := sorry
theorem pKz_up {b k : Nat} : ∀ c i, pKz b (k + 1) c i = true → pKz b k c i = true := sorry
theorem pKz_pCL {b k : Nat} : ∀ c i, pKz b k c i = true → pCL b c i = true := sorry
theorem pKz_no {b k c i : Nat} (h1 : 1099 < c ∧ c ≤ 1222) (h2 : c ≤ 1128 → i < 12 * b + k) (h3 : 1128 < c → i < 33 * (12 * b + k)) : pKz b k c i = false := sorry
section SPX
variable {l : Launch} {G : Gl}
theorem lx_alL (hG : GOK G) {b n f : Nat} {B : Nat → Nat} {r1 : Option Nat} (hf : 12 * 701 + 7 ≤ f) : ∀ (g : Nat) (d : Nat) (σ0 σ : Sg) (t m r k : Nat) (kf : List CRc × Nat → PR (List CRc × Nat)) (K0 : List CRc × Nat → Outcome → Sg → Prop) (Q : Outcome → Sg → Prop), 14 ≤ g + k → k ≤ 12 → LT σ b B n t 0 m r → Pn σ → m ≤ t → σ.I 2007 b 0 = nI k → Fl (pCL b) σ0 σ → 201 ≤ d → oC G b (yTok B n) σ0 (bnd (pAll (yTok B n) f g k t) kf) K0 = Q → (∀ (z : List CRc × Nat) (s : Sg) (m' : Nat), oC G b (yTok B n) σ0 (kf z) K0 = Q → t ≤ z.2 → Fl (pKz b k) σ s → Pn s → LT s b B n z.2 0 m' (z.2 + 1) → m ≤ m' → m' + t ≤ m + z.2 → s.I 2007 b 0 = nI (k + z.1.length) → k + z.1.length ≤ 12 → KsR s (yTok B n) z.2 b k z.1 m m' → (∀ j, j < m → NdS σ s j) → Q (.returned none) (sI s 2005 b 0 (nI z.2))) → wq_X5_readAll_42 l G d 0 r1 Q g σ := sorry
/-- what reading a tape leaves -/
def AlP (σ s : Sg) (b : Nat) (B : Nat → Nat) (n : Nat) (z : List CRc × Nat) : Prop := Fl (pCL b) (sR σ 1502 0 0 (some b)) s ∧ s.I 2007 b 0 = nI z.1.length ∧ z.1.length ≤ 12 ∧ s.I 2005 b 0 = nI z.2 ∧ Pn s ∧ ∃ m, LT s b B n z.2 0 m (z.2 + 1) ∧ m ≤ z.2 ∧ KsR s (yTok B n) z.2 b 0 z.1 0 m
theorem sp_X5_readAll (hG : GOK G) {σ : Sg} {d b n f : Nat} {B : Nat → Nat} (hd : 202 ≤ d) (hb : b < 16) (hB : BOK B n) (h02 : σ.I 2002 b 0 = nI n) (h01 : ∀ k, k < n → σ.I 2001 b k &&& 255 = nI (B k)) (hw : ∀ k, k < 30 → σ.L 1501 0 k = lN (yWs.getD k 0)) (h07 : σ.I 2007 b 0 = nI 0) (hf : 12 * 701 + 7 ≤ f) : CT l G yX5_readAll (ws_ yX5_readAll cX5_readAll 2 none) d [.ref (G.adr 5 0), rv G 10 (some b)] σ (oC G b (yTok B n) (sR σ 1502 0 0 (some b)) (pAll (yTok B n) f 14 0 0) (fun z o s => o = .returned none ∧ AlP σ s b B n z)) := sorry
end SPX
