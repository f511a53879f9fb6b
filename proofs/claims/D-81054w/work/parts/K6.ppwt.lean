/-! What the grammar's trees are like: the proof. -/
/-- what is claimed of all tags, for fuel f -/
def WtP (T : Nat → Tk) (f : Nat) : Prop :=
  (∀ t w c z, w ≤ 12 → pp T f 0 t w c = .ok z → wt z.1 0 (w + 1) t z.2) ∧
  (∀ t w c z, w ≤ 12 → pp T f 1 t w c = .ok z → wt z.1 0 w t z.2) ∧
  (∀ t w c z, w ≤ 12 → pp T f 2 t w c = .ok z → wt z.1 0 w t z.2) ∧
  (∀ t w c z, w ≤ 12 → pp T f 3 t w c = .ok z → wt z.1 0 w t z.2) ∧
  (∀ t w c z, w ≤ 12 → pp T f 4 t w c = .ok z → wt z.1 0 w t z.2) ∧
  (∀ t w c z, w ≤ 12 → pp T f 5 t w c = .ok z → wt z.1 1 (w + 1) (t + 1) z.2) ∧
  (∀ t w c z, w ≤ 12 → pp T f 6 (t + 1) w c = .ok z → wt z.1 0 w t z.2) ∧
  (∀ t w c z, w ≤ 12 → pp T f 7 (t + 1) w c = .ok z → wt z.1 0 w t z.2) ∧
  (∀ t w c z, w ≤ 12 → pp T f 8 (t + 1) w c = .ok z → wt z.1 0 w t z.2) ∧
  (∀ t w c z a, wt c 0 w a t → pp T f 10 t w c = .ok z → wt z.1 0 w a z.2) ∧
  (∀ t w c z a, wt c 0 w a t → pp T f 11 t w c = .ok z → wt z.1 0 w a z.2) ∧
  (∀ t w c z a, wt c 0 w a t → pp T f 12 t w c = .ok z → wt z.1 0 w a z.2) ∧
  (∀ t w c z, w ≤ 12 → pp T f 13 t w c = .ok z → wt z.1 1 (w + 1) (t + 1) z.2) ∧
  (∀ t w c z, w ≤ 12 → pp T f 20 t w c = .ok z → wt z.1 2 (w + 1) t z.2) ∧
  (∀ t w c z, w ≤ 12 → pp T f 21 t w c = .ok z → wt z.1 2 (w + 1) t z.2) ∧
  (∀ t w c z, w ≤ 12 → pp T f 22 t w c = .ok z → ∃ i, wt z.1 3 (w + 1) t i ∧ i + 1 ≤ z.2)
theorem pp_wt {T : Nat → Tk} : ∀ f, WtP T f := sorry
