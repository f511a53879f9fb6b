/-! Judging, LinkHouse: every E. -/
theorem ht_x {sz : Nat} {bb : Lb} {u : Unit} {x y : Tr} (h0 : ¬ bb.1 = 0) (h41 : ¬ bb.1 = 41) (h : 11 ≤ bb.1) : ht x + 1 ≤ ht (Std.DTreeMap.Internal.Impl.inner sz bb u x y) := sorry
theorem ht_y {sz : Nat} {bb : Lb} {u : Unit} {x y : Tr} (h0 : ¬ bb.1 = 0) (h41 : ¬ bb.1 = 41) (h : (twy bb.1 || (thy bb.1 || (bb.1 == 32 || (bb.1 == 33 || (bb.1 == 0 || bb.1 == 41))))) = true) : ht y + 1 ≤ ht (Std.DTreeMap.Internal.Impl.inner sz bb u x y) := sorry
theorem ht_r {sz : Nat} {bb : Lb} {u : Unit} {x y : Tr} (h0 : bb.1 = 0) : ht x ≤ ht (Std.DTreeMap.Internal.Impl.inner sz bb u x y) ∧ ht y ≤ ht (Std.DTreeMap.Internal.Impl.inner sz bb u x y) := sorry
section SPX
variable {l : Launch} {G : Gl} {d : Nat} {b n r k : Nat} {B : Nat → Nat} {st : Bool} {Lc : List (Int64 × Int64 × Nat)}
theorem ck_Ec (hG : GOK G) {L sz : Nat} {bb : Lb} {u : Unit} {x y : Tr} (hL : L ≤ r) (hc : chn bb.1) (hht : ht (Std.DTreeMap.Internal.Impl.inner sz bb u x y) ≤ 3000) (hC : SpC l G d b B n r k st Lc L (.inner sz bb u x y)) : SpE l G (d + 1 + 1) b B n r k st Lc L (.inner sz bb u x y) := sorry
/-- LinkHouse judges every E as ckE says -/
theorem ck_all (hG : GOK G) {L : Nat} (hL : L ≤ r) : ∀ (x : Tr), ht x ≤ 2000 → (∀ d, 3 * ht x + 85 ≤ d → SpE l G d b B n r k st Lc L x) ∧ (∀ D, (chn (kdO x) → 3 * ht x + 83 ≤ D) → (¬ chn (kdO x) → 3 * ht x + 85 ≤ D) → SpC l G D b B n r k st Lc L x) ∧ (∀ D, 3 * ht x + 85 ≤ D → SpR l G D b B n r k st Lc L x) := sorry
end SPX
