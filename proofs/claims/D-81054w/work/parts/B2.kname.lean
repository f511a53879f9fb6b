/-! The name of a class, as a number. -/
theorem yNm_ge {B : Nat → Nat} : ∀ (m k v : Nat), v ≤ yNm B m k v := sorry
theorem yWe_up {B : Nat → Nat} : ∀ (f k : Nat), k ≤ yWe B f k := sorry
theorem yWl_two {v : Nat} : ∀ k, yWl v k = 1 ∨ 200 ≤ yWl v k := sorry
theorem yTa_kind {B : Nat → Nat} {n s : Nat} (h : (yTa B n s).1 = 2) : 64 ≤ (yTa B n s).2.1 ∧ (yTa B n s).2.1 < 2 ^ 60 := sorry
theorem yTok_kind {B : Nat → Nat} {n j : Nat} (h : (yTok B n j).1 = 2) : 64 ≤ (yTok B n j).2.1 ∧ (yTok B n j).2.1 < 2 ^ 60 := sorry
