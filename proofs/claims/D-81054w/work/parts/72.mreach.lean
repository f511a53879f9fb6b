/-! Members of classes of a list; loaded classes are not their own heirs -/
def LivU (σ : Sg) (U : List Nat) (m : Nat) : Prop := ∃ k j, k ∈ U ∧ j < nMe σ k ∧ m = 33 * k + j
theorem fds_lu {σ : Sg} {w : Nat} {U : List Nat} (hW : WOK σ w) (hU : ∀ x, x ∈ wKs σ w → x ∈ U) {nm ty : Int64} : ∀ (n k : Nat) (K : List Nat) (st : FD), k ∈ U → fds σ w nm ty n k K = some st → ∀ m, st.2 = some m → LivU σ U m := sorry
theorem wFld_lu {σ : Sg} {w : Nat} {U : List Nat} (hW : WOK σ w) (hU : ∀ x, x ∈ wKs σ w → x ∈ U) {k : Nat} (hk : k ∈ U) {nm ty : Int64} {m : Nat} (h : wFld σ w k nm ty = some m) : LivU σ U m := sorry
theorem lkU_lu {σ : Sg} {U : List Nat} {as : Nat} : ∀ (L : List Nat) (m : Nat), (∀ x, x ∈ L → x ∈ U) → (lkU σ as L).2 = some m → LivU σ U m := sorry
theorem fsO_lu {σ : Sg} {U : List Nat} {as : Nat} : ∀ (L : List Nat) (f : Option Nat) (m : Nat), (∀ x, x ∈ L → x ∈ U) → (∀ q, f = some q → LivU σ U q) → fsO σ as L f = some m → LivU σ U m := sorry
theorem wMSr_lu {σ : Sg} {w : Nat} {U : List Nat} (hW : WOK σ w) (hU : ∀ x, x ∈ wKs σ w → x ∈ U) {k as m : Nat} (hk : k ∈ U) (h : wMSr σ w k as = some m) : LivU σ U m := sorry
theorem clF_lu {σ : Sg} {U : List Nat} (hW : WOK σ 0) (hU : ∀ x, x ∈ wKs σ 0 → x ∈ U) {as c m : Nat} (hc : c ∈ U) (hu : ∀ x, x ∈ wUps σ c → x ∈ U) (h : (clF σ as c).1 = some m) : LivU σ U m := sorry
theorem wFs_st1 {σ : Sg} {w k : Nat} : ∀ (n j x : Nat), j + n = nFc σ k → x ∈ wFsF σ w k n j → wSt σ w k x := sorry
theorem wHr_1 {σ : Sg} {w a b : Nat} (h : wSt σ w a b) : wHr σ w a b := sorry
theorem wHr_t {σ : Sg} {w a b c : Nat} (h1 : wHr σ w a b) (h2 : wHr σ w b c) : wHr σ w a c := sorry
theorem fcs_reach {σ : Sg} {w : Nat} : ∀ (n k : Nat) (st st' : FS), fcs σ w n k st = some st' → ∀ x, x ∈ st'.2 → x ∈ st.2 ∨ wHr σ w k x := sorry
theorem wAF_reach {σ : Sg} {w k x : Nat} (h : x ∈ wAF σ w k) : wHr σ w k x := sorry
/-- what is above a loaded class is loaded, and is another one -/
theorem Ldd.above {σ : Sg} (hB : BIK σ) {st : LSt} (hC : LCL σ st) {a b : Nat} (ha : Ldd σ st a) (h : wHr σ 0 a b) : Ldd σ st b ∧ a ≠ b := sorry
theorem Ldd.noAF {σ : Sg} (hB : BIK σ) {st : LSt} (hC : LCL σ st) {a : Nat} (ha : Ldd σ st a) : a ∉ wAF σ 0 a := sorry
theorem fall_iff {p : Nat → Bool} : ∀ (m k : Nat), fall p m k = true ↔ ∀ j, k ≤ j → j < k + m → p j = true := sorry
theorem mPar_iff {σ : Sg} {a b : Nat} : mPar σ a b = true ↔ σ.I 1208 a 0 = σ.I 1208 b 0 ∧ ∀ k, k < nPa σ a → σ.L 1209 a k = σ.L 1209 b k := sorry
theorem mPar_sym {σ : Sg} {a b : Nat} (h : mPar σ a b = true) : mPar σ b a = true := sorry
theorem mPar_trans {σ : Sg} {a b c : Nat} (h1 : mPar σ a b = true) (h2 : mPar σ b c = true) : mPar σ a c = true := sorry
theorem ffirst_le {p : Nat → Bool} : ∀ (m k j i : Nat), ffirst p m k = some j → k ≤ i → i < k + m → p i = true → j ≤ i := sorry
/-- makers of a class are pairwise other ones; what members are told as -/
def MIn (σ : Sg) (c : Nat) : Prop := ∀ j, j < nMe σ c → (∃ v, v ≤ 3 ∧ σ.I 1202 (33 * c + j) 0 = nI v) ∧ (σ.I 1200 (33 * c + j) 0 = 2 → σ.B 1203 (33 * c + j) 0 = false ∧ kMak σ c (33 * c + j) = some (33 * c + j))
theorem mk_uniq {σ : Sg} {c a i j : Nat} (h : MIn σ c) (hi : i < nMe σ c) (hj : j < nMe σ c) (i1 : σ.I 1200 (33 * c + i) 0 = 2) (j1 : σ.I 1200 (33 * c + j) 0 = 2) (i2 : mPar σ (33 * c + i) a = true) (j2 : mPar σ (33 * c + j) a = true) : i = j := sorry
