/-! A made build in LinkHouse: the rows of its catches. -/
section ROW
variable {τ0 τ1 τ2 s u : Sg} {B : Nat → Nat} {n L r b i j : Nat} {cs : List CRc} {P : Pg}
/-- how many rows there are -/
noncomputable abbrev nRo (τ2 : Sg) (b : Nat) (cs : List CRc) : Nat := qsA (t3 τ2 b cs) b (tgF (t3 τ2 b cs) b) (jA (t3 τ2 b cs) b (trB cs)) cs.length
/-- A ROW OF THE CATCHES LIES IN ITS MEMBER's BODY -/
theorem Mde.row (h : Mde τ0 τ1 τ2 s u B n L r b cs) (hX : OtX τ0 b) (hq : ∀ i j, pcd (trB cs i j)) (hP : PgB τ2 b cs P) (h192 : ∀ j, j < nMe τ0 192 → nPa τ0 (33 * 192 + j) = 0) {x : Nat} (hx : x < nRo τ2 b cs) : ∃ i j, i < cs.length ∧ j < nMe (t3 τ2 b cs) (12 * b + i) ∧ (qM0 τ2 b cs i j ≤ x ∧ x < qM0 τ2 b cs i (j + 1)) ∧ ∃ c, Cro s b x c ∧ pM0 τ2 b cs i j + (mkP s P (12 * b + i) (33 * (12 * b + i) + j)).length ≤ c.1 ∧ c.2.1 ≤ pM0 τ2 b cs i j + (mkP s P (12 * b + i) (33 * (12 * b + i) + j)).length + (bdR s P (12 * b + i) (33 * (12 * b + i) + j)).length ∧ pM0 τ2 b cs i j + (mkP s P (12 * b + i) (33 * (12 * b + i) + j)).length + (bdR s P (12 * b + i) (33 * (12 * b + i) + j)).length + 2 = pM0 τ2 b cs i (j + 1) := sorry
end ROW
