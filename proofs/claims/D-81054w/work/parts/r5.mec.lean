/-! A made build in LinkHouse: all that its machine must know of the code of a class. -/
/-- the code of the members of class k of build b -/
def MeK (s : Sg) (P : Pg) (b k : Nat) : Prop := ∃ N, N ≤ 100 ∧ s.I 2013 b 0 = nI N ∧ ∀ j, j < nMe s k → (s.B 1206 (33 * k + j) 0 = true → BrC s P b N (33 * k + j)) ∧ (s.B 1206 (33 * k + j) 0 = false → ((s.I 1200 (33 * k + j) 0 = 1 ∧ s.B 1205 (33 * k + j) 0 = false) ∨ s.I 1200 (33 * k + j) 0 = 2 ∨ s.I 1200 (33 * k + j) 0 = 3) → BdC s P b N k (33 * k + j)) ∧ (s.I 1200 (33 * k + j) 0 = 0 → rLf (P.1 (33 * k + j)) = false → (s.B 1203 (33 * k + j) 0 = false → FdC s P b N (33 * k + j)) ∧ (s.B 1203 (33 * k + j) 0 = true → FsCd s P b N (33 * k + j))) ∧ (s.I 1200 (33 * k + j) 0 = 0 → rLf (P.1 (33 * k + j)) = true → s.I 1219 (33 * k + j) 0 = -2)
section MEC
variable {τ τ0 τ1 τ2 s u : Sg} {B : Nat → Nat} {n L r b i j k m : Nat} {cs : List CRc} {P : Pg} {z : Tr × Lcs × Nat} {x0 : Tr}
theorem MeC_of (h : ∀ k, k ∈ wKs s 0 → ¬ s.I 1101 k 0 = 26 → ∀ b, s.R 1126 k 0 = some b → MeK s P b k) : MeC s P := sorry
theorem Mde.n100 (h : Mde τ0 τ1 τ2 s u B n L r b cs) : nRo τ2 b cs ≤ 100 := sorry
/-- THE CODE OF A CLASS OF A MADE BUILD -/
theorem Mde.mek (h : Mde τ0 τ1 τ2 s u B n L r b cs) (hX : OtX τ0 b) (hq : ∀ i j, pcd (trB cs i j)) (hP : PgB τ2 b cs P) (h192 : ∀ j, j < nMe τ0 192 → nPa τ0 (33 * 192 + j) = 0) (hi : i < cs.length) : MeK s P b (12 * b + i) := sorry
/-- params have slots -/
theorem bdJ_ge {a e : Nat} (hg : MbG τ k m x0 a e) (h0 : ¬ τ.I 1200 m 0 = 0) (hz : bdJ τ k m x0 = .ok z) : bSn τ m + nPa τ m ≤ jn τ k m x0 := sorry
/-- MEMBERS THAT CAN BE CALLED HAVE CODE -/
theorem Mde.mee (h : Mde τ0 τ1 τ2 s u B n L r b cs) (hX : OtX τ0 b) (hq : ∀ i j, pcd (trB cs i j)) (hP : PgB τ2 b cs P) (h192 : ∀ j, j < nMe τ0 192 → nPa τ0 (33 * 192 + j) = 0) (hi : i < cs.length) (hj' : j < nMe s (12 * b + i)) (hk : (s.I 1200 (33 * (12 * b + i) + j) 0 = 1 ∧ s.B 1205 (33 * (12 * b + i) + j) 0 = false) ∨ s.I 1200 (33 * (12 * b + i) + j) 0 = 2) : Enk s (33 * (12 * b + i) + j) (cdAt s (33 * (12 * b + i) + j)) ∧ (if s.B 1203 (33 * (12 * b + i) + j) 0 = true then 0 else 1) + nPa s (33 * (12 * b + i) + j) ≤ nLo s (33 * (12 * b + i) + j) ∧ nLo s (33 * (12 * b + i) + j) ≤ 310 := sorry
end MEC
