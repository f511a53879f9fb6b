/-! A made build in the model: what the machine must know of its members. -/
section MQ2
variable {τ0 τ1 τ2 s u : Sg} {B : Nat → Nat} {n L r b i j : Nat} {cs : List CRc} {P : Pg}
theorem cM_bi (hb : b < 16) (hi : i < 12) : cM (12 * b + i) = 12 * b + i := sorry
/-- how many cells -/
theorem Mde.lo (h : Mde τ0 τ1 τ2 s u B n L r b cs) (hX : OtX τ0 b) (hq : ∀ i j, pcd (trB cs i j)) (hi : i < cs.length) (hj : j < nMe (t3 τ2 b cs) (12 * b + i)) : ∃ nL, u.I 2168 0 (34 * (12 * b + i) + j) = nI nL ∧ mLo u (34 * (12 * b + i) + j) = nL ∧ nL ≤ 144 ∧ (¬ (t3 τ2 b cs).I 1200 (33 * (12 * b + i) + j) 0 = 0 → nPa (t3 τ2 b cs) (33 * (12 * b + i) + j) ≤ nL) ∧ ((t3 τ2 b cs).B 1206 (33 * (12 * b + i) + j) 0 = true → nL ≤ 4) ∧ ((t3 τ2 b cs).B 1206 (33 * (12 * b + i) + j) 0 = false → nL = bMx (t3 τ2 b cs) (33 * (12 * b + i) + j) (trB cs i j)) := sorry
theorem Mde.mua (h : Mde τ0 τ1 τ2 s u B n L r b cs) (hi : i < cs.length) {q : Us} (hk : q.1 = 12 * b + i) : muA s (12 * b + i) (ixM τ2 b cs i q) = 1800 * b + uIx (uMd τ2 b cs) q := sorry
/-- WHAT THE MODEL's MACHINE MUST KNOW OF A MEMBER -/
theorem Mde.mmq (h : Mde τ0 τ1 τ2 s u B n L r b cs) (hX : OtX τ0 b) (hq : ∀ i j, pcd (trB cs i j)) (hP : PgB τ2 b cs P) (h192 : ∀ j, j < nMe τ0 192 → nPa τ0 (33 * 192 + j) = 0) (hi : i < cs.length) (hj : j < nMe (t3 τ2 b cs) (12 * b + i)) (h0 : ¬ (t3 τ2 b cs).I 1200 (33 * (12 * b + i) + j) 0 = 0) : MmQ s u P (12 * b + i) j := sorry
/-- .. OF STATIC FIELDS AND STARTS -/
theorem Mde.stx (h : Mde τ0 τ1 τ2 s u B n L r b cs) (hX : OtX τ0 b) (hq : ∀ i j, pcd (trB cs i j)) (hP : PgB τ2 b cs P) (h192 : ∀ j, j < nMe τ0 192 → nPa τ0 (33 * 192 + j) = 0) (hi : i < cs.length) : StX s u P (12 * b + i) b (n0M τ2 b cs i) := sorry
end MQ2
