/-! A made build in LinkHouse: bodies, fields, bridges lie in the code. -/
section QC2
variable {τ0 τ1 τ2 s u : Sg} {B : Nat → Nat} {n L r b i j : Nat} {cs : List CRc} {P : Pg} {z : Tr × Lcs × Nat}
/-- where the code, the catches of a member begin -/
noncomputable abbrev pM0 (τ2 : Sg) (b : Nat) (cs : List CRc) (i j : Nat) : Nat := psM (t3 τ2 b cs) (12 * b + i) (tgF (t3 τ2 b cs) b i) (jA (t3 τ2 b cs) b (trB cs) i) (psA (t3 τ2 b cs) b (tgF (t3 τ2 b cs) b) (jA (t3 τ2 b cs) b (trB cs)) i) j
noncomputable abbrev qM0 (τ2 : Sg) (b : Nat) (cs : List CRc) (i j : Nat) : Nat := qsM (t3 τ2 b cs) (12 * b + i) (tgF (t3 τ2 b cs) b i) (jA (t3 τ2 b cs) b (trB cs) i) (psA (t3 τ2 b cs) b (tgF (t3 τ2 b cs) b) (jA (t3 τ2 b cs) b (trB cs)) i) (qsA (t3 τ2 b cs) b (tgF (t3 τ2 b cs) b) (jA (t3 τ2 b cs) b (trB cs)) i) j
theorem bdJ_lf {τ : Sg} {k m : Nat} {x0 : Tr} (hz : bdJ τ k m x0 = .ok z) (h0 : ¬ τ.I 1200 m 0 = 0) (hw : x0 = .leaf ∨ kdO x0 = 30) (hl : z.1 = .leaf) : x0 = .leaf := sorry
/-- what writing left of a member -/
theorem Mde.dn (h : Mde τ0 τ1 τ2 s u B n L r b cs) (hi : i < cs.length) (hj : j < nMe (t3 τ2 b cs) (12 * b + i)) : s.I 1219 (33 * (12 * b + i) + j) 0 = (if hsX (t3 τ2 b cs) (33 * (12 * b + i) + j) (jA (t3 τ2 b cs) b (trB cs) i j) = true then nI (pM0 τ2 b cs i j) else -2) ∧ s.I 1220 (33 * (12 * b + i) + j) 0 = nI (lnX (t3 τ2 b cs) (12 * b + i) (33 * (12 * b + i) + j) (trB cs i j)) ∧ CdA s b (pM0 τ2 b cs i j) (cdX (t3 τ2 b cs) (12 * b + i) (33 * (12 * b + i) + j) (tgF (t3 τ2 b cs) b i j) (jA (t3 τ2 b cs) b (trB cs) i j) (pM0 τ2 b cs i j) (fun r => nI (ixM τ2 b cs i r))) ∧ HdA s b (qM0 τ2 b cs i j) (hdX (t3 τ2 b cs) (12 * b + i) (33 * (12 * b + i) + j) (jA (t3 τ2 b cs) b (trB cs) i j) (pM0 τ2 b cs i j) (fun r => nI (ixM τ2 b cs i r))) := sorry
theorem Mde.p6 (h : Mde τ0 τ1 τ2 s u B n L r b cs) (hi : i < cs.length) (hj : j < nMe (t3 τ2 b cs) (12 * b + i)) : pM0 τ2 b cs i j + clX (t3 τ2 b cs) (12 * b + i) (33 * (12 * b + i) + j) (tgF (t3 τ2 b cs) b i j) (jA (t3 τ2 b cs) b (trB cs) i j) (pM0 τ2 b cs i j) ≤ 5990 := sorry
/-- what stands ahead of a maker's body -/
theorem Mde.mkp (h : Mde τ0 τ1 τ2 s u B n L r b cs) (hP : PgB τ2 b cs P) (hi : i < cs.length) (hj : j < nMe (t3 τ2 b cs) (12 * b + i)) (hb : (t3 τ2 b cs).B 1206 (33 * (12 * b + i) + j) 0 = false) (h0 : ¬ (t3 τ2 b cs).I 1200 (33 * (12 * b + i) + j) 0 = 0) : mkP s P (12 * b + i) (33 * (12 * b + i) + j) = mkCd (t3 τ2 b cs) (12 * b + i) (33 * (12 * b + i) + j) (jA (t3 τ2 b cs) b (trB cs) i j) (fun r => nI (ixM τ2 b cs i r)) := sorry
end QC2
