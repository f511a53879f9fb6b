/-! A made build in LinkHouse: bridges lie in the code; fields without an E have none. -/
section RC1
variable {τ0 τ1 τ2 s u : Sg} {B : Nat → Nat} {n L r b i j : Nat} {cs : List CRc} {P : Pg}
/-- A BRIDGE LIES IN THE CODE -/
theorem Mde.cbr (h : Mde τ0 τ1 τ2 s u B n L r b cs) (hP : PgB τ2 b cs P) (hi : i < cs.length) (hj : j < nMe (t3 τ2 b cs) (12 * b + i)) (hb : (t3 τ2 b cs).B 1206 (33 * (12 * b + i) + j) 0 = true) : cdAt s (33 * (12 * b + i) + j) = pM0 τ2 b cs i j ∧ Enk s (33 * (12 * b + i) + j) (pM0 τ2 b cs i j) ∧ nLo s (33 * (12 * b + i) + j) = nPa s (33 * (12 * b + i) + j) + 1 ∧ nPa s (33 * (12 * b + i) + j) ≤ 4 ∧ (cdX (t3 τ2 b cs) (12 * b + i) (33 * (12 * b + i) + j) (tgF (t3 τ2 b cs) b i j) (jA (t3 τ2 b cs) b (trB cs) i j) (pM0 τ2 b cs i j) (fun r => nI (ixM τ2 b cs i r))).length = (if s.B 1203 (33 * (12 * b + i) + j) 0 = true then 0 else 2) + 2 * nPa s (33 * (12 * b + i) + j) + 4 ∧ CdA s b (pM0 τ2 b cs i j) ((if s.B 1203 (33 * (12 * b + i) + j) 0 = true then [] else [3, 0]) ++ (ldP (nPa s (33 * (12 * b + i) + j)) (if s.B 1203 (33 * (12 * b + i) + j) 0 = true then 0 else 1) ++ ([17, nI (P.2 (33 * (12 * b + i) + j) - 1)] ++ [25, 0]))) := sorry
/-- a field that has no E has no code -/
theorem Mde.cno (h : Mde τ0 τ1 τ2 s u B n L r b cs) (hP : PgB τ2 b cs P) (hi : i < cs.length) (hj : j < nMe (t3 τ2 b cs) (12 * b + i)) (h0 : (t3 τ2 b cs).I 1200 (33 * (12 * b + i) + j) 0 = 0) (hl0 : rLf (P.1 (33 * (12 * b + i) + j)) = true) : s.I 1219 (33 * (12 * b + i) + j) 0 = -2 := sorry
end RC1
