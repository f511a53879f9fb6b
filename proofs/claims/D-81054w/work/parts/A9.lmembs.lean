/-! LinkHouse reads the members of a class. -/
theorem MRec.mv {s u : Sg} {T : Nat → Tk} {L L' q kk lo hi hi' : Nat} {face : Bool} {mr : MRc} {p : Nat → Nat → Bool} (h : MRec s T L q kk face mr lo hi) (hF : Fl p s u) (hp : ∀ c, 1199 < c → c ≤ 1222 → p c q = false) (hN : ∀ j, lo ≤ j → j < hi → NdS s u j) (hL : L ≤ L') (hh : hi ≤ hi') : MRec u T L' q kk face mr lo hi' := sorry
/-- members from number j on -/
def MsR (s : Sg) (T : Nat → Tk) (L kk : Nat) (face : Bool) : Nat → List MRc → Nat → Nat → Prop
  | _, [], lo, hi => lo ≤ hi
  | j, mr :: ms, lo, hi => ∃ mid, lo ≤ mid ∧ mid ≤ hi ∧ MRec s T L (33 * kk + j) kk face mr lo mid ∧ MsR s T L kk face (j + 1) ms mid hi
theorem MsR.le {s : Sg} {T : Nat → Tk} {L kk : Nat} {face : Bool} : ∀ {ms : List MRc} {j lo hi : Nat}, MsR s T L kk face j ms lo hi → lo ≤ hi := sorry
theorem MsR.mv {s u : Sg} {T : Nat → Tk} {L L' kk : Nat} {face : Bool} {p : Nat → Nat → Bool} (hF : Fl p s u) (hL : L ≤ L') : ∀ {ms : List MRc} {j lo hi : Nat}, MsR s T L kk face j ms lo hi → (∀ c i, 1199 < c → c ≤ 1222 → j ≤ i → i < j + ms.length → p c (33 * kk + i) = false) → (∀ k, lo ≤ k → k < hi → NdS s u k) → MsR u T L' kk face j ms lo hi := sorry
/-- the columns of reading, of the members of kk from nm on, how many -/
def pMz (b kk nm c i : Nat) : Bool := pT b c i || ((rg 1199 1222 c && (Nat.ble (33 * kk + nm) i && Nat.ble (i + 1) (33 * kk + 33))) || (Nat.beq c 1117 && Nat.beq i kk))
theorem pT_pMz {b kk nm : Nat} : ∀ c i, pT b c i = true → pMz b kk nm c i = true := sorry
theorem pMb_pMz {b kk nm : Nat} (h : nm < 33) : ∀ c i, pMb b (33 * kk + nm) kk c i = true → pMz b kk nm c i = true := sorry
theorem pMz_up {b kk nm : Nat} : ∀ c i, pMz b kk (nm + 1) c i = true → pMz b kk nm c i = true := sorry
theorem pMz_pCL {b kk nm : Nat} (hk : 12 * b ≤ kk ∧ kk < 12 * b + 12) : ∀ c i, pMz b kk nm c i = true → pCL b c i = true := sorry
theorem pMz_low {b kk nm i c : Nat} (hc : 1199 < c ∧ c ≤ 1222) (hi : i < nm) : pMz b kk nm c (33 * kk + i) = false := sorry
theorem pPar_le {T : Nat → Tk} : ∀ (g k t : Nat) (z : List (Nat × Nat) × Nat), pPar T g k t = .ok z → t ≤ z.2 := sorry
theorem pPs_le {T : Nat → Tk} {t : Nat} {z : List (Nat × Nat) × Nat} (h : pPs T t = .ok z) : t ≤ z.2 := sorry
theorem pFM_le {T : Nat → Tk} {f told ty t2 t3 : Nat} {st fi ba : Bool} {z : MRc × Nat} (h : pFM T f told st fi ba ty t2 t3 = .ok z) : t3 ≤ z.2 := sorry
theorem pMem_gt {T : Nat → Tk} {f t : Nat} {z : MRc × Nat} (h : pMem T f t = .ok z) : t + 1 ≤ z.2 := sorry
section SPX
variable {l : Launch} {G : Gl}
theorem lx_msL (hG : GOK G) {b n kk f : Nat} {B : Nat → Nat} (hkk : 12 * b ≤ kk ∧ kk < 12 * b + 12) (hf : 12 * 701 + 7 ≤ f) : ∀ (g : Nat) (d : Nat) (σ0 σ : Sg) (t m r nm : Nat) (kf : List MRc × Nat → PR (CRc × Nat)) (K0 : CRc × Nat → Outcome → Sg → Prop) (Q : Outcome → Sg → Prop), 22 ≤ g + nm → nm ≤ 20 → LT σ b B n t 0 m r → Pn σ → m ≤ t → σ.I 1117 kk 0 = nI nm → Fl (pCL b) σ0 σ → 191 ≤ d → oC G b (yTok B n) σ0 (bnd (pMs (yTok B n) f g nm t) kf) K0 = Q → (∀ (z : List MRc × Nat) (s : Sg) (m' r' : Nat), oC G b (yTok B n) σ0 (kf z) K0 = Q → t + 1 ≤ z.2 → Fl (pMz b kk nm) σ s → Pn s → LT s b B n z.2 0 m' r' → m ≤ m' → m' + t ≤ m + z.2 → s.I 1117 kk 0 = nI (nm + z.1.length) → nm + z.1.length ≤ 20 → MsR s (yTok B n) z.2 kk (σ.B 1102 kk 0) nm z.1 m m' → (∀ j, j < m → NdS σ s j) → Q (.returned none) s) → wq_X5_kind_373 l G d 0 Q g (some kk) (nI nm) σ := sorry
end SPX
