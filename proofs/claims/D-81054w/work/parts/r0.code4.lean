/-! A made build in LinkHouse: fields and bridges lie in the code. -/
section RC0
variable {τ0 τ1 τ2 s u : Sg} {B : Nat → Nat} {n L r b i j : Nat} {cs : List CRc} {P : Pg}
theorem wt_k20 {x : Tr} {w a e : Nat} (h : wt x 0 w a e) : kdO x ≤ 20 := sorry
/-- A FIELD's E LIES IN THE CODE -/
theorem Mde.cfd (h : Mde τ0 τ1 τ2 s u B n L r b cs) (hq : ∀ i j, pcd (trB cs i j)) (hP : PgB τ2 b cs P) (h192 : ∀ j, j < nMe τ0 192 → nPa τ0 (33 * 192 + j) = 0) (hi : i < cs.length) (hj : j < nMe (t3 τ2 b cs) (12 * b + i)) (h0 : (t3 τ2 b cs).I 1200 (33 * (12 * b + i) + j) 0 = 0) (hl0 : rLf (P.1 (33 * (12 * b + i) + j)) = false) : cdAt s (33 * (12 * b + i) + j) = pM0 τ2 b cs i j ∧ Enk s (33 * (12 * b + i) + j) (pM0 τ2 b cs i j) ∧ nLo s (33 * (12 * b + i) + j) + rNd (P.1 (33 * (12 * b + i) + j)) ≤ 310 ∧ ((t3 τ2 b cs).B 1203 (33 * (12 * b + i) + j) 0 = false → 0 < nLo s (33 * (12 * b + i) + j)) ∧ (rcE (P.1 (33 * (12 * b + i) + j))).length + 4 = (cdX (t3 τ2 b cs) (12 * b + i) (33 * (12 * b + i) + j) (tgF (t3 τ2 b cs) b i j) (jA (t3 τ2 b cs) b (trB cs) i j) (pM0 τ2 b cs i j) (fun r => nI (ixM τ2 b cs i r))).length ∧ CdA s b (pM0 τ2 b cs i j) (rcE (P.1 (33 * (12 * b + i) + j)) ++ ([if s.B 1203 (33 * (12 * b + i) + j) 0 = true then 26 else 27, s.I 1221 (33 * (12 * b + i) + j) 0] ++ [24, 0])) := sorry
end RC0
