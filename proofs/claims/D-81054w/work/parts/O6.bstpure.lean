/-! Judging, plain: doubles do not change which is the nearest. -/
theorem getD_c {a : Nat} {A : List Nat} {i : Nat} : (a :: A).getD (i + 1) 0 = A.getD i 0 := sorry
theorem fall_sh {p : Nat → Bool} : ∀ (n k : Nat), fall p n (k + 1) = fall (fun i => p (i + 1)) n k := sorry
theorem fall_all {q : Nat → Bool} : ∀ (A : List Nat), fall (fun j => q (A.getD j 0)) A.length 0 = A.all q := sorry
theorem ffirst_sh {p : Nat → Bool} : ∀ (n k : Nat), ffirst p n (k + 1) = (ffirst (fun i => p (i + 1)) n k).map (· + 1) := sorry
theorem ffirst_find {p : Nat → Bool} : ∀ (A : List Nat), (ffirst (fun i => p (A.getD i 0)) A.length 0).map (fun i => A.getD i 0) = A.find? p := sorry
theorem jBst_find {τ : Sg} {A : List Nat} : jBst τ A = A.find? (fun a => A.all (jNr τ a)) := sorry
/-- g does not see the difference of members with the same params -/
def Inv (τ : Sg) (np : Nat) (g : Nat → Bool) : Prop := ∀ a c, nPa τ a = np → nPa τ c = np → mPar τ a c = true → g a = g c
/-- A is B with doubles -/
def Dbl (τ : Sg) (np : Nat) (A B : List Nat) : Prop := (∀ a, a ∈ B → a ∈ A) ∧ (∀ a, a ∈ A → nPa τ a = np) ∧ ∀ g, Inv τ np g → A.find? g = B.find? g ∧ A.all g = B.all g
theorem Dbl.nil {τ : Sg} {np : Nat} : Dbl τ np [] [] := sorry
theorem Dbl.both {τ : Sg} {np m : Nat} {A B : List Nat} (h : Dbl τ np A B) (hm : nPa τ m = np) : Dbl τ np (A ++ [m]) (B ++ [m]) := sorry
theorem Dbl.one {τ : Sg} {np m : Nat} {A B : List Nat} (h : Dbl τ np A B) (hm : nPa τ m = np) (hd : B.any (fun a => mPar τ a m) = true) : Dbl τ np (A ++ [m]) B := sorry
theorem fall_cng {p q : Nat → Bool} : ∀ (n k : Nat), (∀ i, k ≤ i → i < k + n → p i = q i) → fall p n k = fall q n k := sorry
theorem fall_at {p : Nat → Bool} : ∀ (n k : Nat), fall p n k = true → ∀ i, k ≤ i → i < k + n → p i = true := sorry
theorem mPar_L {τ : Sg} {a c : Nat} (h : mPar τ a c = true) : ∀ i, i < nPa τ a → τ.L 1209 a i = τ.L 1209 c i := sorry
theorem jNr_inv {τ : Sg} {np a : Nat} (ha : nPa τ a = np) : Inv τ np (jNr τ a) := sorry
theorem jNr_inv2 {τ : Sg} {np : Nat} (A : List Nat) : Inv τ np (fun a => A.all (jNr τ a)) := sorry
theorem find_cng {p q : Nat → Bool} : ∀ (B : List Nat), (∀ a, a ∈ B → p a = q a) → B.find? p = B.find? q := sorry
/-- which is the nearest -/
theorem Dbl.bst {τ : Sg} {np : Nat} {A B : List Nat} (h : Dbl τ np A B) : jBst τ A = jBst τ B := sorry
