/-! Judging, LinkHouse: every S; whether its end can be come to. -/
theorem ht_p {sz : Nat} {bb : Lb} {u : Unit} {x y : Tr} (h0 : bb.1 = 41) : ht x ≤ ht (Std.DTreeMap.Internal.Impl.inner sz bb u x y) ∧ ht y ≤ ht (Std.DTreeMap.Internal.Impl.inner sz bb u x y) := sorry
theorem sw7 {z : Int} {K : Nat} {P0 P30 P31 P32 P33 P34 P35 P36 : Prop} (hz : z = K) (hK : 30 ≤ K ∧ K ≤ 40) (h0 : K = 30 → P30) (h1 : K = 31 → P31) (h2 : K = 32 → P32) (h3 : K = 33 → P33) (h4 : K = 34 → P34) (h5 : K = 35 → P35) (h6 : K = 36 → P36) (h10 : 36 < K → P0) : (z = 30 → P30) ∧ (z = 31 → P31) ∧ (z = 32 → P32) ∧ (z = 33 → P33) ∧ (z = 34 → P34) ∧ (z = 35 → P35) ∧ (z = 36 → P36) ∧ ((z < 30 ∨ 36 < z) → P0) := sorry
section CD
variable {sz : Nat} {b : Lb} {u : Unit} {x y : Tr}
theorem ckD_0 (h : b.1 = 0) : ckD (.inner sz b u x y) = (ckD x && ckD y) := sorry
theorem ckD_41 (h : b.1 = 41) : ckD (.inner sz b u x y) = (isLf y || (ckD x || ckD y)) := sorry
theorem ckD_30 (h : b.1 = 30) : ckD (.inner sz b u x y) = ckD x := sorry
theorem ckD_32 (h : b.1 = 32) : ckD (.inner sz b u x y) = ckD y := sorry
theorem ckD_34 (h : b.1 = 34 ∨ b.1 = 35) : ckD (.inner sz b u x y) = false := sorry
theorem ckD_36 (h : b.1 = 36) : ckD (.inner sz b u x y) = (ckD x || ckD y) := sorry
theorem ckD_n (h : b.1 = 31 ∨ b.1 = 33 ∨ 36 < b.1 ∧ b.1 ≤ 40) : ckD (.inner sz b u x y) = true := sorry
end CD
section SPX
variable {l : Launch} {G : Gl} {d : Nat} {b n r k : Nat} {B : Nat → Nat} {st : Bool}
/-- LinkHouse judges every S as ckS says -/
theorem cs_all (hG : GOK G) {m : Nat} {ms F : Int32} {mt : Int64} {L : Nat} (hL : L ≤ r) : ∀ (x : Tr), ht x ≤ 2000 → (∀ d, 3 * ht x + 95 ≤ d → SpS l G d b B n r k st m ms mt F L x) ∧ (∀ D, 3 * ht x + 95 ≤ D → SpT l G D b B n r k st m ms mt F L x) ∧ (∀ sz' b' u' p q, x = .inner sz' b' u' p q → b'.1 = 41 → ∀ d, 3 * ht x + 95 ≤ d → SpS l G d b B n r k st m ms mt F L p ∧ SpS l G d b B n r k st m ms mt F L q) := sorry
def SpD (l : Launch) (G : Gl) (d : Nat) (T : Nat → Tk) (L : Nat) (x : Tr) : Prop := ∀ (σ : Sg) (lo hi w a e : Nat) (v : Int32), LTr σ T L x lo hi v → wt x 2 w a e → CT l G yX6_isCompleted (ws_ yX6_isCompleted cX6_isCompleted 4 (some .boolean)) d [.ref (G.adr 6 0), .int v] σ (rZ (ckD x) (fun s => s = σ))
def SpF (l : Launch) (G : Gl) (D : Nat) (T : Nat → Tk) (L : Nat) (x : Tr) : Prop := ∀ (σ : Sg) (lo hi w a e : Nat) (v x1 : Int32) (b2 : Bool) (Q : Outcome → Sg → Prop), LTr σ T L x lo hi v → wt x 3 w a e → rZ (b2 && ckD x) (fun s => s = σ) = Q → wq_X6_isCompleted_66 l G D 0 x1 Q (rl x + 1) b2 v σ
theorem cd_F0 {T : Nat → Tk} {L D : Nat} : SpF l G D T L .leaf := sorry
theorem cd_F {T : Nat → Tk} {L D sz : Nat} {bb : Lb} {u : Unit} {x y : Tr} (hx : bb.1 = 0 → SpD l G D T L x) (hy : bb.1 = 0 → SpF l G D T L y) : SpF l G D T L (.inner sz bb u x y) := sorry
theorem cd_D (hG : GOK G) {T : Nat → Tk} {L sz : Nat} {bb : Lb} {u : Unit} {x y : Tr} (hF : bb.1 = 30 → SpF l G d T L x) (hS : bb.1 = 36 → SpD l G d T L x ∧ SpD l G d T L y) (hP : bb.1 = 32 → ∀ sz' b' u' p q, y = .inner sz' b' u' p q → b'.1 = 41 → SpD l G d T L p ∧ SpD l G d T L q) : SpD l G (d + 1) T L (.inner sz bb u x y) := sorry
/-- whether the end of an S can be come to -/
theorem cd_all (hG : GOK G) {T : Nat → Tk} {L : Nat} : ∀ (x : Tr), (∀ d, ht x + 1 ≤ d → SpD l G d T L x) ∧ (∀ D, ht x + 1 ≤ D → SpF l G D T L x) ∧ (∀ sz' b' u' p q, x = .inner sz' b' u' p q → b'.1 = 41 → ∀ d, ht x + 1 ≤ d → SpD l G d T L p ∧ SpD l G d T L q) := sorry
end SPX
