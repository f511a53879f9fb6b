/-! A made build in the model: nodes, cells, uses of its members. -/
section MMQ
variable {τ τ0 τ1 τ2 s u : Sg} {B : Nat → Nat} {n L r b i j : Nat} {cs : List CRc} {P : Pg}
theorem Ph2.p4 (h : Ph2 τ0 τ1 τ2 B n L r b cs) : ∀ m, LivU (t3 τ2 b cs) (wKs (t3 τ2 b cs) 1) m → nPa (t3 τ2 b cs) m ≤ 4 := sorry
theorem bdJ_sm {k m r L : Nat} {x : Tr} {a e : Nat} {z : Tr × Lcs × Nat} (hO : OkW τ) (hW : WOK τ 1) (hk : wFind τ 1 (τ.L 1100 k 0) = some k) (h : LBs τ k m r L x a e) (hp : ∀ t, t ∈ pmL τ m → TyOK t ∧ ¬ t = 2) (h4 : nPa τ m ≤ 4) (ez : bdJ τ k m x = .ok z) : z.1 = .leaf ∨ smT x z.1 := sorry
/-- a member that is no bridge -/
theorem Mde.nb (h : Mde τ0 τ1 τ2 s u B n L r b cs) (hi : i < cs.length) (hj : j < nMe (t3 τ2 b cs) (12 * b + i)) (hb : (t3 τ2 b cs).B 1206 (33 * (12 * b + i) + j) 0 = false) : ∃ z, bdJ (t3 τ2 b cs) (12 * b + i) (33 * (12 * b + i) + j) (trB cs i j) = .ok z ∧ jA (t3 τ2 b cs) b (trB cs) i j = z.1 ∧ LBs (t3 τ2 b cs) (12 * b + i) (33 * (12 * b + i) + j) r L (trB cs i j) (frB cs i j) (toB cs i j) ∧ u.I 2168 0 (34 * (12 * b + i) + j) = nI (bMx (t3 τ2 b cs) (33 * (12 * b + i) + j) (trB cs i j)) ∧ nmT (yTok B n) L z.1 := sorry
theorem Mde.br (h : Mde τ0 τ1 τ2 s u B n L r b cs) (hi : i < cs.length) (hj : j < nMe (t3 τ2 b cs) (12 * b + i)) (h0 : ¬ (t3 τ2 b cs).I 1200 (33 * (12 * b + i) + j) 0 = 1) : (t3 τ2 b cs).B 1206 (33 * (12 * b + i) + j) 0 = false := sorry
/-- A FIELD's E IN THE MODEL -/
theorem Mde.fld (h : Mde τ0 τ1 τ2 s u B n L r b cs) (hq : ∀ i j, pcd (trB cs i j)) (hP : PgB τ2 b cs P) (h192 : ∀ j, j < nMe τ0 192 → nPa τ0 (33 * 192 + j) = 0) (hi : i < cs.length) (hj : j < nMe (t3 τ2 b cs) (12 * b + i)) (h0 : (t3 τ2 b cs).I 1200 (33 * (12 * b + i) + j) 0 = 0) (hc : (t3 τ2 b cs).B 1212 (33 * (12 * b + i) + j) 0 = false) : RMx u b (n0M τ2 b cs i) (P.1 (33 * (12 * b + i) + j)) (u.I 2160 0 (34 * (12 * b + i) + j)) ∧ ∀ nL, nL + 48 ≤ 260 → scX nL [] (P.1 (33 * (12 * b + i) + j)) := sorry
/-- A BODY's NODES IN THE MODEL -/
theorem Mde.bod (h : Mde τ0 τ1 τ2 s u B n L r b cs) (hP : PgB τ2 b cs P) (h192 : ∀ j, j < nMe τ0 192 → nPa τ0 (33 * 192 + j) = 0) (hi : i < cs.length) (hj : j < nMe (t3 τ2 b cs) (12 * b + i)) (h0 : ¬ (t3 τ2 b cs).I 1200 (33 * (12 * b + i) + j) 0 = 0) (hb : (t3 τ2 b cs).B 1206 (33 * (12 * b + i) + j) 0 = false) : RMs u b (n0M τ2 b cs i) (P.1 (33 * (12 * b + i) + j)) (u.I 2161 0 (34 * (12 * b + i) + j)) := sorry
end MMQ
