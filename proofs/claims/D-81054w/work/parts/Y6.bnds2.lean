/-! The bounds of a build: by classes, and all. -/
section BN
variable {τ0 τ1 τ2 : Sg} {B : Nat → Nat} {n L r b : Nat} {cs : List CRc}
/-- the code of a class -/
theorem Ph2.clsP (h : Ph2 τ0 τ1 τ2 B n L r b cs) (hA : wFind τ0 1 6927257 = some 192) {i : Nat} (hi : i < cs.length) {c : Nat → Nat} (hc : ∀ j mr, mrX cs i j = some mr → WfT (c j) (c (j + 1)) mr) (tg : Nat → Nat) (p0 : Nat) : c 0 ≤ c (nMe τ0 (12 * b + i)) ∧ psM (t3 τ2 b cs) (12 * b + i) tg (jA (t3 τ2 b cs) b (trB cs) i) p0 (nMe τ2 (12 * b + i)) + 4 * c 0 ≤ p0 + 4 * c (nMe τ0 (12 * b + i)) + 182 ∧ ∀ j, j < nMe τ2 (12 * b + i) → psM (t3 τ2 b cs) (12 * b + i) tg (jA (t3 τ2 b cs) b (trB cs) i) p0 j + clX (t3 τ2 b cs) (12 * b + i) (33 * (12 * b + i) + j) (tg j) (jA (t3 τ2 b cs) b (trB cs) i j) (psM (t3 τ2 b cs) (12 * b + i) tg (jA (t3 τ2 b cs) b (trB cs) i) p0 j) + 4 * c 0 ≤ p0 + 4 * c (nMe τ0 (12 * b + i)) + 182 := sorry
end BN
