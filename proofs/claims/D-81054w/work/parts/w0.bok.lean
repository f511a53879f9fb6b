/-! A BUILD IS IN ORDER; THE WORLD IS LAID: all that both machines, the linkers and the judges must know of it. -/
/-- the uses of class k of build b -/
def UsF (s : Sg) (b k : Nat) : Prop := ∃ (U : List Us) (n0 n1 : Nat), UtK s b k n0 n1 U ∧ MUt s b U ∧ ∀ r, r ∈ U → r.1 = k → UrK s k r
/-- the text of build b -/
def TxT (s : Sg) (b : Nat) : Prop := ∃ n, n ≤ 4000 ∧ s.I 2002 b 0 = nI n ∧ s.I 2106 0 b = nI n ∧ ∀ k, k < n → ∃ v, v < 256 ∧ s.I 2001 b k = (nI v).toInt8.toInt32 ∧ s.I 2105 0 (4000 * b + k) = (nI v).toInt8.toInt32
/-- methods: which have a body; their names are no words -/
def TxR (s : Sg) (b : Nat) : Prop := ∀ i, i < hKs s b → i < 12 → UqM s (12 * b + i) ∧ ∀ j, j < nMe s (12 * b + i) → j < 33 → s.I 1200 (33 * (12 * b + i) + j) 0 = 1 →
  (s.I 1216 (33 * (12 * b + i) + j) 0 = -2 ↔ (s.B 1205 (33 * (12 * b + i) + j) 0 = true ∨ s.B 1206 (33 * (12 * b + i) + j) 0 = true)) ∧ (s.I 2161 0 (34 * (12 * b + i) + j) = -2 ↔ (s.B 1205 (33 * (12 * b + i) + j) 0 = true ∨ s.B 1206 (33 * (12 * b + i) + j) 0 = true)) ∧ ∃ v, v < 2 ^ 60 ∧ s.L 1201 (33 * (12 * b + i) + j) 0 = lN v ∧ yWd v = 1
def TxB (s : Sg) (b : Nat) : Prop := TxT s b ∧ TxR s b
def BOk (s : Sg) (P : Pg) (b : Nat) : Prop := (s.I 2123 0 b = s.I 2007 b 0 ∧ s.I 2218 0 b = s.I 2009 b 0) ∧ (∀ i, i < hKs s b → CoL s P b (12 * b + i) ∧ CoM s s P b (12 * b + i) ∧ UsF s b (12 * b + i) ∧ s.I 1127 (12 * b + i) 0 = nI i) ∧ (∀ u, u < hUs s b → ∃ i, i < hKs s b ∧ s.R 1701 (1000 * b + u) 0 = some (12 * b + i)) ∧ (∀ i j, i < hKs s b → j < hKs s b → s.L 1100 (12 * b + i) 0 = s.L 1100 (12 * b + j) 0 → i = j) ∧ TxB s b
/-- what is known of a class of THE WORLD that is given -/
def CoB (s : Sg) (k : Nat) : Prop := (KGd s k ∧ ∀ j, j < nMe s k → MbX s (33 * k + j) ∧ ¬ s.I 1200 (33 * k + j) 0 = 1 ∧ nPa s (33 * k + j) = 0) ∧ (MK1 s s k ∧ MK2 s s k ∧ MKm s s k) ∧ fdK s k ∧ FdQk s k ∧ UqK s k
def BiK (s : Sg) : Prop := (s.L 1100 192 0 = 6927257 ∧ s.L 1100 193 0 = 6959884 ∧ s.I 1101 192 0 = 26 ∧ s.I 1101 193 0 = 26 ∧ s.L 1107 193 0 = 6927257 ∧ s.B 1102 193 0 = false ∧ s.B 1102 192 0 = false ∧ nFc s 192 = 0 ∧ nFc s 193 = 0) ∧ CoB s 192 ∧ CoB s 193
def WrI (s : Sg) (P : Pg) : Prop := (HOK s ∧ HsR s ∧ Shp s ∧ MOK s ∧ MWO s) ∧ (∀ b, b < hN s → BOk s P b) ∧ BiK s ∧
  (WLs s 0 (wLy s) ∧ (∀ (j k : Nat), (wLy s)[j]? = some k → s.I 1128 k 0 = nI j) ∧ ∀ b i, b < hN s → i < hKs s b → ¬ (12 * b + i) ∈ wLy s → s.I 1128 (12 * b + i) 0 = -2) ∧ NwK s (wLy s)
section WRI
variable {s : Sg} {P : Pg} {b i k j : Nat}
/-- the rows of uses -/
theorem UtK.row {U : List Us} {n0 n1 : Nat} (h : UtK s b k n0 n1 U) {u : Nat} (hu : u < nUk s k) : ∃ r, U[n0 + u]? = some r ∧ r.1 = k ∧ r ∈ U ∧ UOK r ∧ LUr s (uAt s k u) r := by
  obtain ⟨⟨⟨l1, l2⟩, h2, h3⟩, ⟨⟨t1, t2⟩, t3⟩, ⟨e1, e2⟩, hb⟩ := h
  have hn : nUk s k = n1 - n0 := by
    unfold nUk
    rw [e1, e2, nI_clamp (by omega), nI_clamp (by omega)]
  have hl : n0 + u < U.length := by omega
  have er : U[n0 + u]? = some U[n0 + u] := List.getElem?_eq_getElem hl
  refine ⟨U[n0 + u], er, (t3 _ _ er).mpr (by omega), List.getElem_mem hl, (l2 _ _ er).1, ?_⟩
  have ea : uAt s k u = 1000 * b + (n0 + u) := by
    unfold uAt kB
    rw [hb, e1, nI_clamp (by omega)]
    rfl
  rw [ea]
  exact (l2 _ _ er).2.2
theorem kMet_own (h : UqK s k) (hj : j < nMe s k) (h1 : s.I 1200 (33 * k + j) 0 = 1) : kMet s k (33 * k + j) = some (33 * k + j) := by
  unfold kMet
  have self : mOne s (33 * k + j) (33 * k + j) = true := mOne_iff.mpr ⟨h1, h1, rfl, mPar_rfl, rfl⟩
  cases e : ffirst (fun i => mOne s (33 * k + i) (33 * k + j)) (nMe s k) 0 with
  | none =>
    have := (ffirst_none _ _).mp e j (Nat.zero_le _) (by omega)
    rw [self] at this; cases this
  | some i =>
    obtain ⟨-, i2, i3⟩ := ffirst_some _ _ _ e
    have := h.1 i j (by omega) hj i3
    rw [this]; rfl
theorem kMak_own (h : UqK s k) (hj : j < nMe s k) (h1 : s.I 1200 (33 * k + j) 0 = 2) : kMak s k (33 * k + j) = some (33 * k + j) := by
  unfold kMak
  cases e : ffirst (fun i => decide (s.I 1200 (33 * k + i) 0 = 2) && mPar s (33 * k + i) (33 * k + j)) (nMe s k) 0 with
  | none =>
    have := (ffirst_none _ _).mp e j (Nat.zero_le _) (by omega)
    rw [decide_eq_true h1, mPar_rfl] at this; cases this
  | some i =>
    obtain ⟨-, i2, i3⟩ := ffirst_some _ _ _ e
    rw [Bool.and_eq_true] at i3
    have := h.2 i j (by omega) hj (of_decide_eq_true i3.1) h1 i3.2
    rw [this]; rfl
theorem MIn_of (hK : KGd s k) (h : UqK s k) : MIn s k := by
  intro j hj
  obtain ⟨⟨a, a1, a2⟩, -, -, k4, -⟩ := hK.2.2.1 j hj
  exact ⟨⟨a, by omega, a2⟩, fun z => ⟨(k4 z).2.2, kMak_own h hj z⟩⟩
/-- a class that isn't of the package of the given ones has another name -/
theorem KPk.any (h : KPk s k) (hp : ¬ s.I 1101 k 0 = 26) : ¬ s.L 1100 k 0 = 6927257 := by
  obtain ⟨n, n1, n2, n3, n4⟩ := h
  intro z
  rw [n3] at z
  have e : n = 6927257 := (pk_lEQ (by omega) (by decide)).mp z
  rw [n4, e] at hp
  exact hp (by decide)
theorem WrI.in (h : WrI s P) {lib : Nat} (hl : lib < 5) (hk : k ∈ pkL s lib) : ∃ b i, b < hN s ∧ b < 16 ∧ i < hKs s b ∧ i < 12 ∧ k = 12 * b + i := by
  obtain ⟨⟨hH, -⟩, -⟩ := h
  by_cases hn : s.I 1008 0 lib = -2
  · unfold pkL at hk
    rw [if_pos hn] at hk; cases hk
  · obtain ⟨q, q1, q2, q3, q4, q5, m, m1, m2, m3⟩ := hH.pk hl hn
    rw [m3] at hk
    obtain ⟨i, i1, i2⟩ := kdL_mem.mp hk
    have em : hKs s (hSt s lib q) = m := by unfold hKs; rw [m2, nI_clamp (by omega)]
    exact ⟨hSt s lib q, i, q3, by omega, by omega, by omega, i2⟩
theorem WrI.ks (h : WrI s P) : wKs s 0 = wLy s := h.2.2.2.1.1.kl (by have := wLy_len h.1.1 5 (by omega); show (wAd s [192, 193] ((List.range 5).flatMap (pkL s))).length ≤ 64; omega)
theorem WrI.mem (h : WrI s P) (hk : k ∈ wKs s 0) : (k = 192 ∨ k = 193) ∨ ∃ b i, b < hN s ∧ b < 16 ∧ i < hKs s b ∧ i < 12 ∧ k = 12 * b + i := by
  rw [h.ks] at hk
  rcases wLy_in h.1.1 (Nat.le_refl 5) hk with z | z | ⟨lib, z1, z2⟩
  · exact Or.inl (Or.inl z)
  · exact Or.inl (Or.inr z)
  · exact Or.inr (h.in z1 z2)
/-- a class of THE WORLD that isn't given -/
theorem WrI.cls (h : WrI s P) (hk : k ∈ wKs s 0) (nb : ¬ s.I 1101 k 0 = 26) : ∃ b i, b < hN s ∧ b < 16 ∧ i < hKs s b ∧ i < 12 ∧ k = 12 * b + i ∧ CoL s P b k ∧ CoM s s P b k ∧ UsF s b k := by
  obtain ⟨-, hb, ⟨⟨-, -, b1, b2, -⟩, -⟩, -⟩ := id h
  rcases h.mem hk with (z | z) | ⟨b, i, h1, h2, h3, h4, h5⟩
  · rw [z] at nb; exact absurd b1 nb
  · rw [z] at nb; exact absurd b2 nb
  · have := (hb b h1).2.1 i h3
    rw [← h5] at this
    exact ⟨b, i, h1, h2, h3, h4, h5, this.1, this.2.1, this.2.2.1⟩
/-- what holds of every class of THE WORLD -/
theorem WrI.all (h : WrI s P) (hk : k ∈ wKs s 0) : (k < 194 ∧ KGd s k ∧ ∀ j, j < nMe s k → MbX s (33 * k + j)) ∧ (MK1 s s k ∧ MK2 s s k ∧ MKm s s k) ∧ (fdK s k ∧ FdQk s k ∧ UqK s k) ∧ (s.L 1100 k 0 = 6927257 ↔ k = 192) := by
  obtain ⟨-, hb, ⟨⟨c1, c2, c3, c4, -⟩, b1, b2⟩, -⟩ := id h
  rcases h.mem hk with (z | z) | ⟨b, i, h1, h2, h3, h4, h5⟩
  · subst z
    obtain ⟨⟨q1, q2⟩, q3, q4⟩ := b1
    exact ⟨⟨by omega, q1, fun j hj => (q2 j hj).1⟩, q3, q4, ⟨fun _ => rfl, fun _ => c1⟩⟩
  · subst z
    obtain ⟨⟨q1, q2⟩, q3, q4⟩ := b2
    exact ⟨⟨by omega, q1, fun j hj => (q2 j hj).1⟩, q3, q4, ⟨fun z => (by rw [c2] at z; exact absurd z (by decide)), fun z => (by omega)⟩⟩
  · obtain ⟨⟨⟨-, p1⟩, -⟩, ⟨l1, l2⟩, l3, -⟩ := ((hb b h1).2.1 i h3).1
    obtain ⟨m1, -⟩ := ((hb b h1).2.1 i h3).2.1
    rw [← h5] at p1 l1 l2 l3 m1
    exact ⟨⟨by omega, l1, fun j hj => (l2 j hj).1⟩, m1, l3, ⟨fun z => absurd z (l1.1.2.any p1), fun z => (by omega)⟩⟩
theorem WrI.ttu (h : WrI s P) : TtU s (wLy s) := TtU.all _ _ (TtU.two (by
  obtain ⟨c1, c2, -⟩ := h.2.2.1.1
  rw [c1, c2]; decide))
theorem WrI.len (h : WrI s P) : (wLy s).length ≤ 62 := wLy_len h.1.1 5 (by omega)
theorem WrI.fnd (h : WrI s P) (hk : k ∈ wKs s 0) : wFind s 0 (s.L 1100 k 0) = some k := by
  rw [h.2.2.2.1.1.find (by have := h.len; omega)]
  rw [h.ks] at hk
  obtain ⟨j, hj, e⟩ := List.mem_iff_getElem.mp hk
  exact h.ttu.find (j := j) (by rw [List.getElem?_eq_getElem hj, e])
theorem WrI.wno (h : WrI s P) : WNO s := by
  intro j hj
  have hl := h.len
  rw [h.2.2.2.1.1.n (by omega)] at hj
  have e : (wLy s)[j]? = some (wLy s)[j] := List.getElem?_eq_getElem hj
  rw [(h.2.2.2.1.1.k e).1]
  exact h.2.2.2.1.2.1 j _ e
theorem WrI.wok (h : WrI s P) : WOK s 0 := h.2.2.2.1.1.ok h.len (fun k hk => wLy_lt h.1.1 (Nat.le_refl 5) hk)
theorem WrI.two (h : WrI s P) : ∃ r, wLy s = 192 :: 193 :: r := by
  have key : ∀ (ks K : List Nat), (∃ r, K = 192 :: 193 :: r) → ∃ r, wAd s K ks = 192 :: 193 :: r := by
    intro ks
    induction ks with
    | nil => intro K h; exact h
    | cons k ks ih =>
      intro K h
      refine ih _ ?_
      obtain ⟨r, e⟩ := h
      unfold wA1
      split
      · exact ⟨r ++ [k], by rw [e]; rfl⟩
      · exact ⟨r, e⟩
  exact key _ _ ⟨[], rfl⟩
theorem WrI.bik (h : WrI s P) : BIK s := by
  obtain ⟨r, e⟩ := h.two
  have hl := h.len
  have e0 : (wLy s)[0]? = some 192 := by rw [e]; rfl
  have e1 : (wLy s)[1]? = some 193 := by rw [e]; rfl
  obtain ⟨c1, c2, c3, c4, c5, c6, c7, c8, c9⟩ := h.2.2.1.1
  refine ⟨?_, (h.2.2.2.1.1.k e0).1, (h.2.2.2.1.1.k e1).1, c1, c2, c3, c4, c5, c6, c7, c8, c9, fun k hk z => ?_⟩
  · rw [h.2.2.2.1.1.n (by omega), e]
    show 2 ≤ r.length + 1 + 1
    omega
  · rcases h.mem hk with q | ⟨b, i, h1, h2, h3, h4, h5⟩
    · exact q
    · have := ((h.2.1 b h1).2.1 i h3).1.1.1.2
      rw [← h5] at this
      exact absurd z this
end WRI
