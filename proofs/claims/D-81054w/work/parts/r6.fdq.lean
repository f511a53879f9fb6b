/-! A made build: places of fields of objects. -/
section FDQ
variable {τ0 τ1 τ2 s u : Sg} {B : Nat → Nat} {n L r b i j : Nat} {cs : List CRc}
theorem Mde.s0 (h : Mde τ0 τ1 τ2 s u B n L r b cs) (hi : i < cs.length) (hj : j < nMe τ0 (12 * b + i)) : s.I 1200 (33 * (12 * b + i) + j) 0 = τ0.I 1200 (33 * (12 * b + i) + j) 0 ∧ s.B 1203 (33 * (12 * b + i) + j) 0 = jSta τ0 (12 * b + i) (33 * (12 * b + i) + j) ∧ s.I 1221 (33 * (12 * b + i) + j) 0 = τ1.I 1221 (33 * (12 * b + i) + j) 0 ∧ j < nMe (t3 τ2 b cs) (12 * b + i) := sorry
theorem Mde.cnf (h : Mde τ0 τ1 τ2 s u B n L r b cs) (hi : i < cs.length) : ∀ j, j ≤ nMe τ0 (12 * b + i) → cnF s (12 * b + i) j = jFls τ0 (12 * b + i) j := sorry
/-- PLACES OF FIELDS -/
theorem Mde.fdq (h : Mde τ0 τ1 τ2 s u B n L r b cs) (hi : i < cs.length) : s.I 1123 (12 * b + i) 0 = nI (cnF s (12 * b + i) (nMe s (12 * b + i))) ∧ ∀ j, j < nMe s (12 * b + i) → s.I 1200 (33 * (12 * b + i) + j) 0 = 0 → s.B 1203 (33 * (12 * b + i) + j) 0 = false → s.I 1221 (33 * (12 * b + i) + j) 0 = nI (cnF s (12 * b + i) j) := sorry
end FDQ
