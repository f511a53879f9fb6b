/-! Members that uses meet: where they stand, what they are. -/
section FND
variable {σ : Sg} {st : LSt}
theorem fdl_some {g : Nat → List Nat → Option FD} : ∀ (fs : List Nat) (K : List Nat) (o : Option Nat) (r : FD) (m : Nat), fdl g fs (K, o) = some r → r.2 = some m → o = some m ∨ ∃ f K' r', f ∈ fs ∧ g f K' = some r' ∧ r'.2 = some m := sorry
theorem kFld_t {q m : Nat} {nm ty : Int64} (h : kFld σ q nm ty = some m) : ∃ j, j < nMe σ q ∧ m = 33 * q + j ∧ σ.I 1200 m 0 = 0 ∧ (ty = 2 ∨ σ.L 1207 m 0 = ty) := sorry
theorem wFs_wf {k x : Nat} (h : x ∈ wFs σ 0 k) : ∃ j, j < nFc σ k ∧ wFind σ 0 (σ.L 1108 k j) = some x := sorry
/-- fields of a face are static -/
theorem fds_face (hB : BIK σ) (hC : LCL σ st) (hF : ∀ k, k ∈ wKs σ 0 → fdK σ k) {nm ty : Int64} : ∀ (n k : Nat) (K : List Nat) (r : FD), Ldd σ st k → σ.B 1102 k 0 = true → fds σ 0 nm ty n k K = some r → ∀ m, r.2 = some m → σ.B 1203 m 0 = true := sorry
/-- a field of objects stands in the row of parents -/
theorem fds_cls (hW : WOK σ 0) (hB : BIK σ) (hC : LCL σ st) (hF : ∀ k, k ∈ wKs σ 0 → fdK σ k) {nm ty : Int64} : ∀ (n k : Nat) (K : List Nat) (r : FD), Ldd σ st k → fds σ 0 nm ty n k K = some r → ∀ m, r.2 = some m → σ.B 1203 m 0 = false → ∃ d j, d ∈ wUps σ k ∧ j < nMe σ d ∧ m = 33 * d + j := sorry
theorem fds_ty {nm ty : Int64} : ∀ (n k : Nat) (K : List Nat) (r : FD), fds σ 0 nm ty n k K = some r → ∀ m, r.2 = some m → σ.I 1200 m 0 = 0 ∧ (ty = 2 ∨ σ.L 1207 m 0 = ty) := sorry
theorem wFld_ex {k m : Nat} {nm ty : Int64} (h : wFld σ 0 k nm ty = some m) : ∃ r, fds σ 0 nm ty 64 k [] = some r ∧ r.2 = some m := sorry
/-- a method or maker that is asked for has the same params -/
theorem mOne_eq (hS : Shp σ) {a b : Nat} (ha : a < 22404) (hb : b < 22404) (h : mOne σ a b = true) : σ.I 1200 a 0 = 1 ∧ σ.I 1200 b 0 = 1 ∧ pmL σ a = pmL σ b ∧ σ.L 1207 a 0 = σ.L 1207 b 0 := sorry
theorem kMet_t {q m x : Nat} (h : kMet σ q m = some x) : mOne σ x m = true ∧ ∃ j, j < nMe σ q ∧ x = 33 * q + j := sorry
theorem kMak_t {q m x : Nat} (h : kMak σ q m = some x) : σ.I 1200 x 0 = 2 ∧ mPar σ x m = true ∧ ∃ j, j < nMe σ q ∧ x = 33 * q + j := sorry
theorem lkU_t {as : Nat} : ∀ (L : List Nat) (m : Nat), (lkU σ as L).2 = some m → ∃ d, d ∈ L ∧ kMet σ d as = some m := sorry
theorem abL_t {as : Nat} : ∀ (L : List Nat) (m : Nat), abL σ as L = some m → σ.B 1203 m 0 = false ∧ ∃ d, d ∈ L ∧ kMet σ d as = some m := sorry
theorem fsO_t {as : Nat} : ∀ (L : List Nat) (f : Option Nat) (m : Nat), fsO σ as L f = some m → f = some m ∨ ∃ d, d ∈ L ∧ kMet σ d as = some m := sorry
theorem wMSr_t {k as m : Nat} (h : wMSr σ 0 k as = some m) : ∃ y, y ∈ wST σ 0 k ∧ kMet σ y as = some m ∧ mObj σ m = true ∧ σ.B 1205 m 0 = false := sorry
theorem wST_t {k y : Nat} (h : y ∈ wST σ 0 k) : y = k ∨ wHr σ 0 k y := sorry
theorem wSelW_t {m : Nat} : ∀ (n : Nat) (c : Nat) (q : Nat), wSelW σ 0 m n (some c) = some q → ∃ d, (d = c ∨ wHr σ 0 c d) ∧ kMet σ d m = some q ∧ mObj σ q = true := sorry
/-- what is chosen for an object's class -/
theorem wSel_t {m r x : Nat} (h : wSel σ 0 m r = some x) : (σ.I 1202 m 0 = 0 ∧ x = m) ∨ (¬ σ.I 1202 m 0 = 0 ∧ σ.B 1205 x 0 = false ∧ mObj σ x = true ∧ ∃ d, (d = r ∨ wHr σ 0 r d) ∧ kMet σ d m = some x) := sorry
/-- a call's method: in the class that is named, or above it -/
theorem clF_t (hW : WOK σ 0) (hB : BIK σ) (hC : LCL σ st) {as c m : Nat} (hc : Ldd σ st c) (h : (clF σ as c).1 = some m) : ∃ d, (d = c ∨ wHr σ 0 c d) ∧ kMet σ d as = some m := sorry
theorem abR_t (hW : WOK σ 0) (hB : BIK σ) (hC : LCL σ st) {as c : Nat} (hc : Ldd σ st c) (h : (abR σ as c).1 = 0) : ∃ m d, (abR σ as c).2 = some m ∧ (d = c ∨ wHr σ 0 c d) ∧ kMet σ d as = some m ∧ σ.B 1205 m 0 = false ∧ σ.B 1203 m 0 = false := sorry
end FND
