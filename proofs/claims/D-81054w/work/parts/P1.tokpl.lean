/-! Tokens: their places, their names. -/
theorem yTa_gt {B : Nat → Nat} {n s : Nat} (hs : ¬ n ≤ s) : s < (yTa B n s).2.2.2 := sorry
theorem yTok_0 {B : Nat → Nat} {n t : Nat} (h : n ≤ ySp B n (yPo B n t)) : (yTok B n t).1 = 0 := sorry
theorem yTok_lt {B : Nat → Nat} {n t : Nat} (h0 : ¬ (yTok B n t).1 = 0) : (yTok B n t).2.2.1 < (yTok B n (t + 1)).2.2.1 := sorry
theorem yTok_mo {B : Nat → Nat} {n : Nat} (h : BOK B n) (t : Nat) : ∀ k, (yTok B n t).2.2.1 ≤ (yTok B n (t + k)).2.2.1 := sorry
/-- the tokens before L are none of the end -/
def NEt (T : Nat → Tk) (L : Nat) : Prop := ∀ t, t < L → ¬ (T t).1 = 0
/-- places grow -/
theorem pl_le {B : Nat → Nat} {n a e : Nat} (h : BOK B n) (hl : a ≤ e) : (yTok B n a).2.2.1 ≤ (yTok B n e).2.2.1 := sorry
theorem pl_lt {B : Nat → Nat} {n a e L : Nat} (h : BOK B n) (hN : NEt (yTok B n) L) (ha : a < L) (hl : a < e) : (yTok B n a).2.2.1 < (yTok B n e).2.2.1 := sorry
theorem yTa_name {B : Nat → Nat} {n s : Nat} (h : (yTa B n s).1 = 1) : 1 ≤ (yTa B n s).2.1 ∧ (yTa B n s).2.1 < 2 ^ 60 := sorry
theorem yTok_name {B : Nat → Nat} {n j : Nat} (h : (yTok B n j).1 = 1) : 1 ≤ (yTok B n j).2.1 ∧ (yTok B n j).2.1 < 2 ^ 60 := sorry
theorem wt_ae : ∀ (x : Tr) {m w a e : Nat}, wt x m w a e → a ≤ e := sorry
/-- the parts of a node -/
theorem wt_ch {sz : Nat} {b : Lb} {u : Unit} {x y : Tr} {m w a e : Nat} (h : wt (Std.DTreeMap.Internal.Impl.inner sz b u x y) m w a e) (h0 : ¬ b.1 = 0) (h41 : ¬ b.1 = 41) : b.2.1 = a ∧ a < e ∧ (11 ≤ b.1 → ∃ mx wx ax ex, wt x mx wx ax ex ∧ a ≤ ax ∧ ex ≤ e ∧ ¬ mx = 4) ∧ ((twy b.1 || thy b.1) = true → ∃ my wy ay ey, wt y my wy ay ey ∧ a ≤ ay ∧ ey ≤ e ∧ ¬ my = 4) ∧ (b.1 = 32 ∨ b.1 = 33 → ∃ wy ay ey, wt y 4 wy ay ey ∧ a ≤ ay ∧ ey ≤ e) := sorry
