/-! A CLASS OF A BUILD IS IN ORDER: all that is known of it, by the rows of its build alone. -/
def FdQk (s : Sg) (k : Nat) : Prop := s.I 1123 k 0 = nI (cnF s k (nMe s k)) ∧ ∀ j, j < nMe s k → s.I 1200 (33 * k + j) 0 = 0 → s.B 1203 (33 * k + j) 0 = false → s.I 1221 (33 * k + j) 0 = nI (cnF s k j)
def MeEk (s : Sg) (m : Nat) : Prop := (s.I 1200 m 0 = 1 ∧ s.B 1205 m 0 = false) ∨ s.I 1200 m 0 = 2 → Enk s m (cdAt s m) ∧ (if s.B 1203 m 0 = true then 0 else 1) + nPa s m ≤ nLo s m ∧ nLo s m ≤ 310
def BaK (s : Sg) (m : Nat) : Prop := s.I 1200 m 0 = 1 → s.I 1202 m 0 = 0 ∨ s.B 1203 m 0 = true → s.B 1205 m 0 = false
/-- no method twice, no maker twice -/
def UqK (s : Sg) (k : Nat) : Prop := (∀ i j, i < nMe s k → j < nMe s k → mOne s (33 * k + i) (33 * k + j) = true → i = j) ∧ ∀ i j, i < nMe s k → j < nMe s k → s.I 1200 (33 * k + i) 0 = 2 → s.I 1200 (33 * k + j) 0 = 2 → mPar s (33 * k + i) (33 * k + j) = true → i = j
/-- the trees of a build -/
def PgS (b : Nat) (P P' : Pg) : Prop := ∀ m, 396 * b ≤ m → m < 396 * b + 396 → P'.1 m = P.1 m ∧ P'.2 m = P.2 m
theorem cM_k {b i : Nat} (hb : b < 16) (hi : i < 12) : cM (12 * b + i) = 12 * b + i := sorry
section COF
variable {s t σ ρ : Sg} {P P' : Pg} {b i : Nat}
theorem SmL.keq (h : SmL b s t) (hi : i < 12) : KEq s t (12 * b + i) := sorry
theorem cnF_ev {k k' : Nat} : ∀ (n : Nat), (∀ j, j < n → MEv s t (33 * k + j) (33 * k' + j)) → cnF t k' n = cnF s k n := sorry
theorem fdK.fr (hs : Shp s) (hb : b < 16) (hi : i < 12) (h : SmL b s t) (w : fdK s (12 * b + i)) : fdK t (12 * b + i) := sorry
theorem FdQk.fr (hs : Shp s) (hb : b < 16) (hi : i < 12) (h : SmL b s t) (w : FdQk s (12 * b + i)) : FdQk t (12 * b + i) := sorry
theorem UqK.fr (hs : Shp s) (hb : b < 16) (hi : i < 12) (h : SmL b s t) (w : UqK s (12 * b + i)) : UqK t (12 * b + i) := sorry
theorem MeEk.ev {m m' : Nat} (hm : MEv s t m m') (hb : m' < 22404) (w : MeEk s m) : MeEk t m' := sorry
theorem BaK.ev {m m' : Nat} (hm : MEv s t m m') (w : BaK s m) : BaK t m' := sorry
theorem PgS.p1 (h : PgS b P P') (hi : i < 12) {j : Nat} (hj : j < 33) : P'.1 (33 * (12 * b + i) + j) = P.1 (33 * (12 * b + i) + j) := sorry
theorem PgS.p2 (h : PgS b P P') (hi : i < 12) {j : Nat} (hj : j < 33) : P'.2 (33 * (12 * b + i) + j) = P.2 (33 * (12 * b + i) + j) := sorry
theorem MeK.fr (hs : Shp s) (hb : b < 16) (hi : i < 12) (h : SmL b s t) (hP : PgS b P P') (w : MeK s P b (12 * b + i)) : MeK t P' b (12 * b + i) := sorry
theorem MmQ.fr (hs : Shp s) (hb : b < 16) (hi : i < 12) (h : SmL b s t) (hM : SmM b σ ρ) (hP : PgS b P P') (h26 : s.R 1126 (12 * b + i) 0 = some b) {j : Nat} (hj : j < nMe s (12 * b + i)) (w : MmQ s σ P (12 * b + i) j) : MmQ t ρ P' (12 * b + i) j := sorry
theorem StX.fr (hs : Shp s) (hb : b < 16) (hi : i < 12) (h : SmL b s t) (hM : SmM b σ ρ) (hP : PgS b P P') {n0 : Nat} (w : StX s σ P (12 * b + i) b n0) : StX t ρ P' (12 * b + i) b n0 := sorry
theorem MKm.fr (hs : Shp s) (hb : b < 16) (hi : i < 12) (h : SmL b s t) (hM : SmM b σ ρ) (w : MKm s σ (12 * b + i)) : MKm t ρ (12 * b + i) := sorry
theorem MK1.fr (hs : Shp s) (hb : b < 16) (hi : i < 12) (h : SmL b s t) (hM : SmM b σ ρ) (w : MK1 s σ (12 * b + i)) : MK1 t ρ (12 * b + i) := sorry
theorem MK2.fr (hs : Shp s) (hb : b < 16) (hi : i < 12) (h : SmL b s t) (hM : SmM b σ ρ) (w : MK2 s σ (12 * b + i)) : MK2 t ρ (12 * b + i) := sorry
/-- the part of LinkHouse -/
def CoL (s : Sg) (P : Pg) (b k : Nat) : Prop :=
  ((s.R 1126 k 0 = some b ∧ ¬ s.I 1101 k 0 = 26) ∧ ∃ n0 n1, n0 ≤ n1 ∧ n1 ≤ 1000 ∧ s.I 1119 k 0 = nI n0 ∧ s.I 1120 k 0 = nI n1) ∧
  (KGd s k ∧ ∀ j, j < nMe s k → MbX s (33 * k + j) ∧ BaK s (33 * k + j) ∧ MeEk s (33 * k + j)) ∧
  (fdK s k ∧ FdQk s k ∧ UqK s k) ∧
  (∀ j, j < nMe s k → wtM s P k (33 * k + j)) ∧ MeK s P b k
/-- the part of both -/
def CoM (s σ : Sg) (P : Pg) (b k : Nat) : Prop := (MK1 s σ k ∧ MK2 s σ k ∧ MKm s σ k) ∧
  (∀ j, j < nMe s k → ¬ s.I 1200 (33 * k + j) 0 = 0 → MmQ s σ P k j) ∧ StX s σ P k b (s.I 1119 k 0).toNatClampNeg
/-- A CLASS STAYS IN ORDER -/
theorem CoL.fr (hs : Shp s) (hb : b < 16) (hi : i < 12) (h : SmL b s t) (hP : PgS b P P') (w : CoL s P b (12 * b + i)) : CoL t P' b (12 * b + i) := sorry
theorem CoM.fr (hs : Shp s) (hb : b < 16) (hi : i < 12) (h : SmL b s t) (hM : SmM b σ ρ) (hP : PgS b P P') (h26 : s.R 1126 (12 * b + i) 0 = some b) (w : CoM s σ P b (12 * b + i)) : CoM t ρ P' b (12 * b + i) := sorry
end COF
