/-! THE HOUSE: uses of builds, both. -/
section XUS
variable {l : Launch} {G : Gl} {d n : Nat} {s t : Sg} {P : Pg} {M : MSt} {b v : Nat}
/-- a use of a build: its record -/
theorem BOk.use (h : BOk s P b) (hv : v < hUs s b) : ∃ i r, i < hKs s b ∧ r.1 = 12 * b + i ∧ s.R 1701 (1000 * b + v) 0 = some (12 * b + i) ∧ UOK r ∧ LUr s (1000 * b + v) r ∧ MUr s (1800 * b + v) r ∧ UrK s (12 * b + i) r := sorry
/-- the use that is named, in both numbers -/
theorem hU_at (hH : HOK s) {x y z : Int32} {u : Nat} (e : hU s x y z = some u) : ∃ b v, b < hN s ∧ b < 16 ∧ v < hUs s b ∧ v < 1000 ∧ u = 1000 * b + v ∧ hB s x y = some b ∧ z = nI v ∧ 1800 * (u / 1000) + u % 1000 = 1800 * b + v := sorry
theorem mod12 {k : Nat} (hk : k < 216) : nI k - nI k / 12 * 12 = nI (k % 12) := sorry
theorem inv_use (hG : GOK G) (hd : 5 ≤ d) (h : INV s n) (x1 x2 x3 x4 : Int32) : Two l G d yX0_use (ws_ yX0_use cX0_use 6 (some .int)) yX11_use (ws_ yX11_use cX11_use 6 (some .int)) [.int x1, .int x2, .int x3, .int x4] s (fun u => INV u (n + 1)) := sorry
end XUS
