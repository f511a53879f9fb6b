/-! THE HOUSE: tapes: splice, text. -/
def pTl (c i : Nat) : Bool := (c == 1000 || c == 1001 || c == 1029) && i == 0
def pTm (c i : Nat) : Bool := (c == 2100 || c == 2101 || c == 2104) && i == 0
theorem pTl_no {c i : Nat} (h : c ≠ 1000 ∧ c ≠ 1001 ∧ c ≠ 1029) : pTl c i = false := by
  unfold pTl
  rw [beq_false_of_ne h.1, beq_false_of_ne h.2.1, beq_false_of_ne h.2.2]
  rfl
theorem pTm_no {c i : Nat} (h : c ≠ 2100 ∧ c ≠ 2101 ∧ c ≠ 2104) : pTm c i = false := by
  unfold pTm
  rw [beq_false_of_ne h.1, beq_false_of_ne h.2.1, beq_false_of_ne h.2.2]
  rfl
theorem pTp_l {c i : Nat} (h : pTp c i = false) : pTl c i = false := by
  unfold pTp at h
  unfold pTl
  revert h
  cases (c == 1000) <;> cases (c == 1001) <;> cases (c == 1029) <;> cases (i == 0) <;> simp
theorem pTp_m {c i : Nat} (h : pTp c i = false) : pTm c i = false := by
  unfold pTp at h
  unfold pTm
  revert h
  cases (c == 2100) <;> cases (c == 2101) <;> cases (c == 2104) <;> cases (i == 0) <;> simp
/-- the bytes of a tape whose last k come to place a instead of n -/
def spB (B : Nat → Nat) (m a n k j : Nat) : Nat := if j < a then B j else if j < a + k then B (m - k + (j - a)) else B (j - k + n)
def SplK (m : Nat) (x1 x2 x3 : Int32) (a n k : Nat) : Prop := (k ≤ m ∧ a ≤ m - k ∧ n ≤ m - k - a) ∧ x1 = nI a ∧ x2 = nI n ∧ x3 = nI k
section SPL
variable {l : Launch} {G : Gl} {d m a n k : Nat} {s t u : Sg} {B B' : Nat → Nat} {p : Nat → Nat → Bool} {x1 x2 x3 : Int32}
theorem nI_subN {a b : Nat} (h : b ≤ a) : nI a - nI b = nI (a - b) := by
  have : nI a = nI (a - b) + nI b := by rw [nI_add]; congr 1; omega
  rw [this]
  exact Int32.add_sub_cancel _ _
theorem Fl.cpI {ca ia sp cb ib dp : Nat} (hF : Fl p s t) (hp : p cb ib = true) : ∀ n, Fl p s (cpI t ca ia sp cb ib dp n)
  | 0 => hF
  | n + 1 => (Fl.cpI hF hp n).sI hp
theorem sp_X0_splice (hG : GOK G) (hd : 2 ≤ d) (hm : m ≤ 4000) (h : LTp s B m) (x1 x2 x3 : Int32) : CT l G yX0_splice (ws_ yX0_splice cX0_splice 5 (some .int)) d [.ref (G.adr 0 0), .int x1, .int x2, .int x3] s (fun o t => (∃ a n k, SplK m x1 x2 x3 a n k ∧ o = .returned (some (.int (nI (m - n)))) ∧ LTp t (spB B m a n k) (m - n) ∧ Fl pTl s t) ∨ ((¬ ∃ a n k, SplK m x1 x2 x3 a n k) ∧ o = .returned (some (.int (-1))) ∧ t = s)) := by
  obtain ⟨d, rfl⟩ : ∃ e, d = e + 1 := ⟨d - 1, by omega⟩
  refine ct_X0_splice hG (by decide) ?_
  refine (sp_X0_within hG (by omega) (m := m + 1) (by omega) (by rw [h.1, nI_pred])).useZ (fun s' e => ?_)
  subst e
  refine ⟨fun hz => ?_, fun hz => ?_⟩
  rotate_left
  · refine Or.inr ⟨fun ⟨a, n, k, ⟨c1, c2, c3⟩, e1, e2, e3⟩ => ?_, rfl, rfl⟩
    rw [e3, inN_n (by omega), decide_eq_true (by omega : k < m + 1)] at hz
    cases hz
  · have h3 : ∃ k, k ≤ m ∧ x3 = nI k := by
      unfold inN at hz
      rw [Bool.and_eq_true] at hz
      obtain ⟨k, k1, k2⟩ := nI_of (of_decide_eq_true hz.1)
      refine ⟨k, ?_, k2⟩
      have := of_decide_eq_true hz.2
      rw [k2, nI_clamp k1] at this
      omega
    obtain ⟨k, hk, rfl⟩ := h3
    refine ⟨fun h0 => ?_, fun h0 => ?_⟩
    · refine Or.inr ⟨fun ⟨a, n, k, ⟨c1, c2, c3⟩, e1, e2, e3⟩ => ?_, rfl, rfl⟩
      rw [e1] at h0
      exact absurd h0 (nI_pos (by omega))
    · obtain ⟨a, ha, rfl⟩ := nI_of h0
      refine ⟨fun h0 => ?_, fun h0 => ?_⟩
      · refine Or.inr ⟨fun ⟨a, n, k, ⟨c1, c2, c3⟩, e1, e2, e3⟩ => ?_, rfl, rfl⟩
        rw [e2] at h0
        exact absurd h0 (nI_pos (by omega))
      · obtain ⟨n, hn, rfl⟩ := nI_of h0
        have eq3 : ∀ a' n' k', SplK m (nI a) (nI n) (nI k) a' n' k' → a' = a ∧ n' = n ∧ k' = k := fun a' n' k' ⟨⟨c1, c2, c3⟩, e1, e2, e3⟩ => ⟨((nI_eq (by omega) (by omega)).mp e1).symm, ((nI_eq (by omega) (by omega)).mp e2).symm, ((nI_eq (by omega) (by omega)).mp e3).symm⟩
        rw [h.1, nI_subN hk]
        refine pk_lt (m - k) a (fun c1 => ?_) (fun c1 => ?_) rfl rfl
        · refine Or.inr ⟨fun ⟨a', n', k', c⟩ => ?_, rfl, rfl⟩
          obtain ⟨rfl, rfl, rfl⟩ := eq3 _ _ _ c
          have := c.1; omega
        · rw [nI_subN c1]
          refine pk_le n (m - k - a) (fun c2 => ?_) (fun c2 => ?_) rfl rfl
          rotate_left
          · refine Or.inr ⟨fun ⟨a', n', k', c⟩ => ?_, rfl, rfl⟩
            obtain ⟨rfl, rfl, rfl⟩ := eq3 _ _ _ c
            have := c.1; omega
          · rw [nI_subN c2, nI_subN (show n ≤ m - k by omega), nI_add, nI_add, nI_add, nI_clamp (show m < 2 ^ 31 by omega), nI_clamp (show k < 2 ^ 31 by omega), nI_clamp (show a < 2 ^ 31 by omega), nI_clamp (show m - k < 2 ^ 31 by omega), nI_clamp (show a + n < 2 ^ 31 by omega), nI_clamp (show a + k < 2 ^ 31 by omega), nI_clamp (show m - k - a - n < 2 ^ 31 by omega)]
            have z0 : (0 : Int32).toNatClampNeg = 0 := rfl
            rw [z0]
            have n0 : ¬ (0 : Int32) < 0 := by decide
            have hB : ∀ j, j < m → s'.I 1000 0 j = (nI (B j)).toInt8.toInt32 := h.2
            generalize eX : cpI s' 1000 0 0 1029 0 0 m = X
            have x29 : ∀ j, j < m → X.I 1029 0 j = (nI (B j)).toInt8.toInt32 := fun j hj => by
              rw [← eX, cpI_I, if_pos (by omega), Nat.sub_zero, Nat.zero_add]
              exact hB j hj
            have x00 : ∀ j, X.I 1000 0 j = s'.I 1000 0 j := fun j => by
              rw [← eX, cpI_I, if_neg (by omega)]
            have fX : Fl pTl s' X := by rw [← eX]; exact Fl.cpI Fl.refl rfl m
            generalize eY : cpI X 1029 0 (m - k) 1000 0 a k = Y
            have y29 : ∀ j, j < m → Y.I 1029 0 j = (nI (B j)).toInt8.toInt32 := fun j hj => by
              rw [← eY, cpI_I, if_neg (by omega)]
              exact x29 j hj
            have y00 : ∀ j, j < a + k → Y.I 1000 0 j = (nI (spB B m a n k j)).toInt8.toInt32 := fun j hj => by
              rw [← eY, cpI_I]
              unfold spB
              by_cases z : j < a
              · rw [if_neg (by omega), if_pos z, x00]; exact hB j (by omega)
              · rw [if_pos (by omega), if_neg z, if_pos hj]; exact x29 _ (by omega)
            have fY : Fl pTl s' Y := by rw [← eY]; exact Fl.cpI fX rfl k
            refine ⟨n0, n0, nI_pos (by omega), by omega, by omega, fun j hj => ?_, nI_pos (by omega), nI_pos (by omega), nI_pos (by omega), by omega, by omega, fun j hj => ?_, nI_pos (by omega), nI_pos (by omega), nI_pos (by omega), by omega, by omega, fun j hj => ?_, ?_⟩
            · rw [Nat.zero_add, hB j hj]; exact pk_fb _
            · rw [x29 _ (by omega)]; exact pk_fb _
            · rw [y29 _ (by omega)]; exact pk_fb _
            · have el : m - k - n + k = m - n := by omega
              rw [el]
              refine Or.inl ⟨a, n, k, ⟨⟨hk, c1, c2⟩, rfl, rfl, rfl⟩, rfl, ⟨sI_s, fun j hj => ?_⟩, (Fl.cpI fY rfl _).sI rfl⟩
              rw [sI_c (by decide), cpI_I]
              by_cases z : j < a + k
              · rw [if_neg (by omega)]; exact y00 j z
              · rw [if_pos (by omega), y29 _ (by omega)]
                have : a + n + (j - (a + k)) = j - k + n := by omega
                rw [this]
                unfold spB
                rw [if_neg (by omega), if_neg z]
theorem sm_160 {Q : Outcome → Sg → Prop} {R : Nat → Nat} {N : Nat} (hN : N ≤ 4000) (hs : ∀ j, j < N → s.I 2104 0 j = nI (R j)) (hQ : ∀ u, MTp u R N → Fl pTm s u → Q (.returned (some (.int (nI N)))) u) : ∀ (r j : Nat) (t : Sg), j + r = N → Fl pTm s t → (∀ i, i < N → t.I 2104 0 i = nI (R i)) → (∀ i, i < j → t.I 2100 0 i = nI (R i)) → wq_X11_splice_160 l G d 0 x1 x2 x3 Q (r + 1) (nI N) (nI j) t
  | 0, j, t, e, hF, h4, h0 => by
    have : j = N := by omega
    subst this
    refine ⟨fun _ => hQ _ ⟨sI_s, fun i hi => ?_⟩ (hF.sI rfl), fun q => absurd (nI_le (Nat.le_refl _) (by omega)) q⟩
    rw [sI_c (by decide)]; exact h0 i hi
  | r + 1, j, t, e, hF, h4, h0 => by
    refine ⟨fun q => absurd q (nI_ge (by omega) (by omega)), fun _ => ⟨pk_in j 4000 (by omega), pk_in j 4000 (by omega), ?_⟩⟩
    rw [nI_1, nI_clamp (by omega)]
    refine sm_160 hN hs hQ r (j + 1) _ (by omega) (hF.sI rfl) (fun i hi => ?_) (fun i hi => ?_)
    · rw [sI_c (by decide)]; exact h4 i hi
    · rw [sI_u]
      by_cases z : i = j
      · rw [if_pos ⟨rfl, rfl, z⟩, z]; exact h4 j (by omega)
      · rw [if_neg (fun q => z q.2.2)]; exact h0 i (by omega)
theorem sp_X11_splice (hG : GOK G) (hd : 1 ≤ d) (hm : m ≤ 4000) (h : MTp s B m) (x1 x2 x3 : Int32) : CT l G yX11_splice (ws_ yX11_splice cX11_splice 7 (some .int)) d [.ref (G.adr 11 0), .int x1, .int x2, .int x3] s (fun o t => (∃ a n k, SplK m x1 x2 x3 a n k ∧ o = .returned (some (.int (nI (m - n)))) ∧ MTp t (spB B m a n k) (m - n) ∧ Fl pTm s t) ∨ ((¬ ∃ a n k, SplK m x1 x2 x3 a n k) ∧ o = .returned (some (.int (-1))) ∧ t = s)) := by
  obtain ⟨d, rfl⟩ : ∃ e, d = e + 1 := ⟨d - 1, by omega⟩
  refine ct_X11_splice hG (by decide) ?_
  unfold wp_X11_splice
  rw [h.1]
  refine ⟨fun h0 => ?_, fun h0 => ?_⟩
  · refine Or.inr ⟨fun ⟨a, n, k, ⟨c1, c2, c3⟩, e1, e2, e3⟩ => ?_, rfl, rfl⟩
    rw [e3] at h0
    exact absurd h0 (nI_pos (by omega))
  obtain ⟨k, hk0, rfl⟩ := nI_of h0
  refine pk_lt m k (fun hk => ?_) (fun hk => ?_) rfl rfl
  · refine Or.inr ⟨fun ⟨a, n, k', ⟨c1, c2, c3⟩, e1, e2, e3⟩ => ?_, rfl, rfl⟩
    have := (nI_eq (by omega) (by omega)).mp e3
    omega
  refine ⟨fun h0 => ?_, fun h0 => ?_⟩
  · refine Or.inr ⟨fun ⟨a, n, k, ⟨c1, c2, c3⟩, e1, e2, e3⟩ => ?_, rfl, rfl⟩
    rw [e1] at h0
    exact absurd h0 (nI_pos (by omega))
  obtain ⟨a, ha, rfl⟩ := nI_of h0
  rw [nI_subN hk]
  refine pk_lt (m - k) a (fun c1 => ?_) (fun c1 => ?_) rfl rfl
  · refine Or.inr ⟨fun ⟨a', n', k', ⟨c1', c2, c3⟩, e1, e2, e3⟩ => ?_, rfl, rfl⟩
    have z1 := (nI_eq (by omega) (by omega)).mp e1
    have z3 := (nI_eq (by omega) (by omega)).mp e3
    omega
  refine ⟨fun h0 => ?_, fun h0 => ?_⟩
  · refine Or.inr ⟨fun ⟨a, n, k, ⟨c1, c2, c3⟩, e1, e2, e3⟩ => ?_, rfl, rfl⟩
    rw [e2] at h0
    exact absurd h0 (nI_pos (by omega))
  obtain ⟨n, hn, rfl⟩ := nI_of h0
  rw [nI_subN c1]
  refine pk_le n (m - k - a) (fun c2 => ?_) (fun c2 => ?_) rfl rfl
  rotate_left
  · refine Or.inr ⟨fun ⟨a', n', k', ⟨c1', c2, c3⟩, e1, e2, e3⟩ => ?_, rfl, rfl⟩
    have z1 := (nI_eq (by omega) (by omega)).mp e1
    have z2 := (nI_eq (by omega) (by omega)).mp e2
    have z3 := (nI_eq (by omega) (by omega)).mp e3
    omega
  have hB := h.2
  generalize hQ : (fun (o : Outcome) (t : Sg) => (∃ a' n' k', SplK m (nI a) (nI n) (nI k) a' n' k' ∧ o = .returned (some (.int (nI (m - n')))) ∧ MTp t (spB B m a' n' k') (m - n') ∧ Fl pTm s t) ∨ ((¬ ∃ a' n' k', SplK m (nI a) (nI n) (nI k) a' n' k') ∧ o = .returned (some (.int (-1))) ∧ t = s)) = Q
  have hQ' : ∀ u, MTp u (spB B m a n k) (m - n) → Fl pTm s u → Q (.returned (some (.int (nI (m - n))))) u := fun u q1 q2 => by
    rw [← hQ]
    exact Or.inl ⟨a, n, k, ⟨⟨hk, c1, c2⟩, rfl, rfl, rfl⟩, rfl, q1, q2⟩
  clear hQ
  -- the row that is laid
  have hl : ∀ {p4 : Nat → Nat → Bool} {t : Sg} {j v : Nat}, (p4 = fun c i => c == 2104 && i == 0) → Fl p4 s t → (∀ i, i < j → t.I 2104 0 i = nI (spB B m a n k i)) → v < m → spB B m a n k j = B v → Fl p4 s (sI t 2104 0 j (t.I 2100 0 v)) ∧ ∀ i, i < j + 1 → (sI t 2104 0 j (t.I 2100 0 v)).I 2104 0 i = nI (spB B m a n k i) := fun {p4 t j v} ep hF h4 hv e => by
    refine ⟨hF.sI (by rw [ep]; rfl), fun i hi => ?_⟩
    rw [sI_u]
    by_cases z : i = j
    · rw [if_pos ⟨rfl, rfl, z⟩, hF.i (by rw [ep]; rfl), hB v hv, z, e]
    · rw [if_neg (fun q => z q.2.2)]; exact h4 i (by omega)
  have hup : ∀ {t : Sg}, Fl (fun c i => c == 2104 && i == 0) s t → Fl pTm s t := fun hF => hF.up (fun c i q => by
    unfold pTm at q
    revert q
    cases (c == 2100) <;> cases (c == 2101) <;> cases (c == 2104) <;> cases (i == 0) <;> simp)
  have L3 : ∀ (r j : Nat) (t : Sg), a + n + j + r = m - k → Fl (fun c i => c == 2104 && i == 0) s t → (∀ i, i < a + k + j → t.I 2104 0 i = nI (spB B m a n k i)) → wq_X11_splice_127 l G d 0 (nI a) (nI n) (nI k) Q (r + 1) (nI (m - k)) (nI (a + k + j)) (nI (a + n + j)) t := by
    intro r
    induction r with
    | zero =>
      intro j t e hF h4
      have e1 : a + n + j = m - k := by omega
      have e2 : a + k + j = m - n := by omega
      rw [e1, e2]
      rw [e2] at h4
      refine ⟨fun _ => ⟨m - n + 1, ?_⟩, fun q => absurd (nI_le (Nat.le_refl _) (by omega)) q⟩
      refine sm_160 (s := t) (R := spB B m a n k) (by omega) h4 (fun u q1 q2 => hQ' u q1 ((hup hF).trans q2)) (m - n) 0 t (by omega) Fl.refl h4 (fun i hi => absurd hi (by omega))
    | succ r ih =>
      intro j t e hF h4
      refine ⟨fun q => absurd q (nI_ge (by omega) (by omega)), fun _ => ⟨pk_in (a + n + j) 4000 (by omega), pk_in (a + k + j) 4000 (by omega), ?_⟩⟩
      rw [nI_1, nI_1, nI_clamp (by omega), nI_clamp (by omega)]
      have hz := hl (p4 := fun c i => c == 2104 && i == 0) (j := a + k + j) (v := a + n + j) rfl hF h4 (by omega) (by
        unfold spB
        rw [if_neg (by omega), if_neg (by omega)]
        congr 1; omega)
      exact ih (j + 1) _ (by omega) hz.1 hz.2
  have L2 : ∀ (r j : Nat) (t : Sg), j + r = k → Fl (fun c i => c == 2104 && i == 0) s t → (∀ i, i < a + j → t.I 2104 0 i = nI (spB B m a n k i)) → wq_X11_splice_90 l G d 0 (nI a) (nI n) (nI k) Q (r + 1) (nI (m - k)) (nI (a + j)) (nI j) t := by
    intro r
    induction r with
    | zero =>
      intro j t e hF h4
      have e1 : j = k := by omega
      subst e1
      refine ⟨fun _ => ⟨m - j - a - n + 1, ?_⟩, fun q => absurd (nI_le (Nat.le_refl _) (by omega)) q⟩
      rw [nI_add]
      exact L3 (m - j - a - n) 0 t (by omega) hF h4
    | succ r ih =>
      intro j t e hF h4
      refine ⟨fun q => absurd q (nI_ge (by omega) (by omega)), fun _ => ⟨?_, pk_in (a + j) 4000 (by omega), ?_⟩⟩
      · rw [nI_add]; exact pk_in (m - k + j) 4000 (by omega)
      rw [nI_1, nI_1, nI_add, nI_clamp (by omega), nI_clamp (by omega)]
      have hz := hl (p4 := fun c i => c == 2104 && i == 0) (j := a + j) (v := m - k + j) rfl hF h4 (by omega) (by
        unfold spB
        rw [if_neg (by omega), if_pos (by omega)]
        congr 1; omega)
      exact ih (j + 1) _ (by omega) hz.1 hz.2
  have L1 : ∀ (r j : Nat) (t : Sg), j + r = a → Fl (fun c i => c == 2104 && i == 0) s t → (∀ i, i < j → t.I 2104 0 i = nI (spB B m a n k i)) → wq_X11_splice_58 l G d 0 (nI a) (nI n) (nI k) Q (r + 1) (nI (m - k)) (nI j) (nI j) t := by
    intro r
    induction r with
    | zero =>
      intro j t e hF h4
      have e1 : j = a := by omega
      subst e1
      refine ⟨fun _ => ⟨k + 1, L2 k 0 t (by omega) hF h4⟩, fun q => absurd (nI_le (Nat.le_refl _) (by omega)) q⟩
    | succ r ih =>
      intro j t e hF h4
      refine ⟨fun q => absurd q (nI_ge (by omega) (by omega)), fun _ => ⟨pk_in j 4000 (by omega), pk_in j 4000 (by omega), ?_⟩⟩
      rw [nI_1, nI_clamp (by omega)]
      have hz := hl (p4 := fun c i => c == 2104 && i == 0) (j := j) (v := j) rfl hF h4 (by omega) (by
        unfold spB
        rw [if_pos (by omega)])
      exact ih (j + 1) _ (by omega) hz.1 hz.2
  exact ⟨a + 1, L1 a 0 s (by omega) Fl.refl (fun i hi => absurd hi (by omega))⟩
/-- SPLICE -/
theorem inv_splice (hG : GOK G) (hd : 3 ≤ d) (h : INV s n) (x1 x2 x3 : Int32) : Two l G d yX0_splice (ws_ yX0_splice cX0_splice 5 (some .int)) yX11_splice (ws_ yX11_splice cX11_splice 7 (some .int)) [.int x1, .int x2, .int x3] s (fun u => INV u (n + 1)) := by
  obtain ⟨P, M, hW, hM, hO⟩ := id h
  obtain ⟨B, m, b1, b2, b3, b4⟩ := hO.1.1.of
  refine (sp_X0_splice hG (by omega) b1 b3 x1 x2 x3).mono (fun o t ho => ?_)
  rcases ho with ⟨a, v, k, c, rfl, t1, t2⟩ | ⟨hn, rfl, rfl⟩
  · have b4' : MTp t B m := ⟨(t2.i (pTl_no (by omega))).trans b4.1, fun j hj => (t2.i (pTl_no (by omega))).trans (b4.2 j hj)⟩
    refine (sp_X11_splice hG (by omega) b1 b4' x1 x2 x3).mono (fun o u hu => ?_)
    rcases hu with ⟨a', v', k', c', rfl, u1, u2⟩ | ⟨hn, rfl, rfl⟩
    · obtain ⟨⟨p1, p2, p3⟩, e1, e2, e3⟩ := c
      obtain ⟨⟨p1', p2', p3'⟩, e1', e2', e3'⟩ := c'
      have z1 := (nI_eq (by omega) (by omega)).mp (e1.symm.trans e1')
      have z2 := (nI_eq (by omega) (by omega)).mp (e2.symm.trans e2')
      have z3 := (nI_eq (by omega) (by omega)).mp (e3.symm.trans e3')
      subst z1 z2 z3
      refine ⟨rfl, h.tape ((t2.up (fun c i => pTp_l)).trans (u2.up (fun c i => pTp_m))) (TpI.mk (by omega) (fun j hj => ?_) ?_ u1)⟩
      · unfold spB
        split
        · exact b2 _ (by omega)
        · split
          · exact b2 _ (by omega)
          · exact b2 _ (by omega)
      · exact ⟨(u2.i (pTm_no (by omega))).trans t1.1, fun j hj => (u2.i (pTm_no (by omega))).trans (t1.2 j hj)⟩
    · exact absurd ⟨a, v, k, c⟩ hn
  · refine (sp_X11_splice hG (by omega) b1 b4 x1 x2 x3).mono (fun o u hu => ?_)
    rcases hu with ⟨a', v', k', c', rfl, u1, u2⟩ | ⟨-, rfl, rfl⟩
    · exact absurd ⟨a', v', k', c'⟩ hn
    · exact ⟨rfl, h.up⟩
/-- TEXT -/
theorem inv_text (hG : GOK G) (hd : 4 ≤ d) (h : INV s n) (x y : Int32) : Two l G d yX0_text (ws_ yX0_text cX0_text 4 (some .int)) yX11_text (ws_ yX11_text cX11_text 5 (some .int)) [.int x, .int y] s (fun u => INV u (n + 1)) := by
  obtain ⟨P, M, hW, hM, hO⟩ := id h
  have hH := hW.1.1
  obtain ⟨d, rfl⟩ : ∃ e, d = e + 1 := ⟨d - 1, by omega⟩
  refine ct_X0_text hG (by decide) ?_
  refine (sp_X0_isBuild hG (by omega) hH x y).useZ (fun s' e => ?_)
  subst e
  refine ⟨fun hz => ?_, fun hz => ?_⟩
  · obtain ⟨b, eb⟩ := Option.isSome_iff_exists.mp hz
    obtain ⟨lib, k, h1, h2, e1, e2, e3, hb⟩ := hB_some hH eb
    have hb16 : b < 16 := Nat.lt_of_lt_of_le hb hH.n.1
    refine (sp_X0_stored hG (by omega) hH h1 h2 e1 e2).useR (fun s2 e => ?_)
    subst e
    rw [← e3]
    obtain ⟨m, m1, m2, m3, m4⟩ := (hW.2.1 b hb).2.2.2.2.1
    have hC : ∃ B : Nat → Nat, ∀ j, j < m → B j < 256 ∧ s2.I 2001 b j = (nI (B j)).toInt8.toInt32 ∧ s2.I 2105 0 (4000 * b + j) = (nI (B j)).toInt8.toInt32 :=
      ⟨fun j => if hj : j < m then (m4 j hj).choose else 0, fun j hj => by
        have e9 : (fun j => if hj : j < m then (m4 j hj).choose else 0) j = (m4 j hj).choose := dif_pos hj
        rw [e9]
        exact (m4 j hj).choose_spec⟩
    obtain ⟨B, hC⟩ := hC
    have z0 : (0 : Int32).toNatClampNeg = 0 := rfl
    have n0 : ¬ (0 : Int32) < 0 := by decide
    refine ⟨b, rfl, fun _ => ?_⟩
    rw [m2, nI_clamp (by omega), z0]
    have em : (cpI s2 2001 b 0 1000 0 0 m).I 2002 b 0 = nI m := by rw [cpI_I, if_neg (by omega)]; exact m2
    rw [em]
    refine ⟨n0, n0, nI_pos (by omega), by omega, by omega, fun j hj => ?_, ?_⟩
    · rw [Nat.zero_add, (hC j hj).2.1]; exact pk_fb _
    generalize eX : sI (cpI s2 2001 b 0 1000 0 0 m) 1001 0 0 (nI m) = X
    have fX : Fl pTl s2 X := by rw [← eX]; exact (Fl.cpI Fl.refl rfl m).sI rfl
    have tX : LTp X B m := by
      rw [← eX]
      refine ⟨sI_s, fun j hj => ?_⟩
      rw [sI_c (by decide), cpI_I, if_pos (by omega), Nat.sub_zero, Nat.zero_add]
      exact (hC j hj).2.1
    have hWX : WrI X P := hW.fl fX ⟨fun c i hc => by have := bKc_h hc; exact pTl_no (by omega), fun c hc => pTl_no (by omega), fun i => pTl_no (by omega)⟩
    refine ct_X11_text hG (by decide) ?_
    refine (sp_X11_slotAt hG (by omega) hWX.1.1 hWX.1.2.1.1 x y).useI (fun X' e => ?_)
    subst e
    have ehB : hB X' x y = some b := by
      have e7 : ∀ j, X'.I 1007 0 j = s2.I 1007 0 j := fun j => fX.i (pTl_no (by omega))
      have e6 : ∀ j, X'.I 1006 0 j = s2.I 1006 0 j := fun j => fX.i (pTl_no (by omega))
      unfold hB hMy hSt at eb ⊢
      simp only [e7, e6]
      exact eb
    rw [ehB]
    refine ⟨fun _ => ?_, fun q => absurd q (oN_none (by omega))⟩
    refine ⟨pk_in b 16 hb16, m + 1, ?_⟩
    show wq_X11_text_28 l G d 0 x y _ (m + 1) (nI b) 0 (sI X' 2101 0 0 (X'.I 2106 0 (nI b).toNatClampNeg))
    rw [nI_clamp (by omega), fX.i (c := 2106) (pTl_no (by omega)), m3]
    have L : ∀ (r j : Nat) (t : Sg), j + r = m → Fl pTm X' t → t.I 2101 0 0 = nI m → (∀ i, i < j → t.I 2100 0 i = nI (B i)) → wq_X11_text_28 l G d 0 x y (oI (fun w u => nI m = w ∧ INV u (n + 1)) (fun _ _ => False)) (r + 1) (nI b) (nI j) t := by
      intro r
      induction r with
      | zero =>
        intro j t e hF hm hj
        have : j = m := by omega
        subst this
        unfold wq_X11_text_28
        rw [hm]
        refine ⟨fun _ => ⟨rfl, ?_⟩, fun q => absurd (nI_le (Nat.le_refl _) (by omega)) q⟩
        refine h.tape ((fX.up (fun c i => pTp_l)).trans (hF.up (fun c i => pTp_m))) (TpI.mk (by omega) (fun i hi => (hC i hi).1) ?_ ⟨hm, hj⟩)
        exact ⟨(hF.i (pTm_no (by omega))).trans tX.1, fun j hj => (hF.i (pTm_no (by omega))).trans (tX.2 j hj)⟩
      | succ r ih =>
        intro j t e hF hm hj
        unfold wq_X11_text_28
        have e4 : nI b * 4000 = nI (b * 4000) := pk_mul _ _
        rw [hm, e4, nI_add]
        refine ⟨fun q => absurd q (nI_ge (by omega) (by omega)), fun _ => ⟨pk_in (b * 4000 + j) 64000 (by omega), pk_in j 4000 (by omega), ?_⟩⟩
        rw [nI_1, nI_clamp (by omega), nI_clamp (by omega)]
        refine ih (j + 1) _ (by omega) (hF.sI rfl) ?_ (fun i hi => ?_)
        · rw [sI_c (by decide)]; exact hm
        · rw [sI_u]
          by_cases z : i = j
          · rw [if_pos ⟨rfl, rfl, z⟩, z, hF.i (pTm_no (by omega)), fX.i (pTl_no (by omega))]
            have : b * 4000 + j = 4000 * b + j := by omega
            rw [this, (hC j (by omega)).2.2]
            exact sc_k8 _ (hC j (by omega)).1
          · rw [if_neg (fun q => z q.2.2)]; exact hj i (by omega)
    exact L m 0 _ (by omega) (Fl.refl.sI rfl) sI_s (fun i hi => absurd hi (by omega))
  · have eb : hB s' x y = none := by
      cases q : hB s' x y with
      | none => rfl
      | some b => rw [q] at hz; cases hz
    refine ct_X11_text hG (by decide) ?_
    refine (sp_X11_slotAt hG (by omega) hH hW.1.2.1.1 x y).useI (fun X' e => ?_)
    subst e
    rw [eb]
    exact ⟨fun q => absurd rfl q, fun _ => ⟨rfl, h.up⟩⟩
end SPL
