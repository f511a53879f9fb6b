/-! A made build: fields have places of their own. -/
theorem fcount_mono {p : Nat → Bool} (i : Nat) : ∀ d, fcount p i 0 ≤ fcount p (i + d) 0 := sorry
theorem fcount_lt {p : Nat → Bool} {i j : Nat} (h : i < j) (hp : p i = true) : fcount p i 0 < fcount p j 0 := sorry
section FDK
variable {τ0 τ1 τ2 s u : Sg} {B : Nat → Nat} {n L r b i j : Nat} {cs : List CRc}
theorem Mde.told (h : Mde τ0 τ1 τ2 s u B n L r b cs) (hi : i < cs.length) (hj : j < nMe s (12 * b + i)) (z : s.I 1200 (33 * (12 * b + i) + j) 0 = 0) : j < nMe τ0 (12 * b + i) := sorry
/-- a field's place -/
theorem Mde.plc (h : Mde τ0 τ1 τ2 s u B n L r b cs) (hi : i < cs.length) (hj : j < nMe s (12 * b + i)) (z : s.I 1200 (33 * (12 * b + i) + j) 0 = 0) : j < nMe τ0 (12 * b + i) ∧ τ0.I 1200 (33 * (12 * b + i) + j) 0 = 0 ∧ s.B 1203 (33 * (12 * b + i) + j) 0 = jSta τ0 (12 * b + i) (33 * (12 * b + i) + j) ∧ s.I 1221 (33 * (12 * b + i) + j) 0 = nI (jSl2 τ0 (12 * b + i) (jSta τ0 (12 * b + i) (33 * (12 * b + i) + j)) j) ∧ jSl2 τ0 (12 * b + i) (jSta τ0 (12 * b + i) (33 * (12 * b + i) + j)) j < 20 := sorry
/-- FIELDS HAVE PLACES OF THEIR OWN -/
theorem Mde.fdk (h : Mde τ0 τ1 τ2 s u B n L r b cs) (hX : OtX τ0 b) (hi : i < cs.length) : fdK s (12 * b + i) := sorry
end FDK
