/-! THE USES in plain terms. A use: class, sort, title, other, name, type, params, value. -/
abbrev Us : Type := Nat × Nat × Int64 × Int64 × Int64 × Int64 × List Int64 × Int32
/-- a use is kept once -/
def addU (U : List Us) (r : Us) : List Us := if r ∈ U then U else U ++ [r]
/-- its number -/
def uIx : List Us → Us → Nat
  | [], _ => 0
  | a :: U, r => if (a == r) = true then 0 else uIx U r + 1
/-- all uses of a row are kept -/
def addL : List Us → List Us → List Us
  | U, [] => U
  | U, r :: R => addL (addU U r) R
theorem addU_in {U : List Us} {r : Us} : r ∈ addU U r := sorry
theorem addU_pre {U : List Us} {r : Us} : ∃ V, addU U r = U ++ V := sorry
theorem addL_pre : ∀ (R U : List Us), ∃ V, addL U R = U ++ V := sorry
theorem addL_app : ∀ (R S U : List Us), addL U (R ++ S) = addL (addL U R) S := sorry
theorem addL_mem : ∀ (R U : List Us) {r : Us}, r ∈ addL U R ↔ r ∈ U ∨ r ∈ R := sorry
theorem uIx_lt : ∀ (U : List Us) {r : Us}, r ∈ U → uIx U r < U.length ∧ U[uIx U r]? = some r := sorry
theorem uIx_app : ∀ (U V : List Us) {r : Us}, r ∈ U → uIx (U ++ V) r = uIx U r := sorry
theorem uIx_new : ∀ (U : List Us) {r : Us}, ¬ r ∈ U → uIx (U ++ [r]) r = U.length := sorry
/-- no use twice -/
def UNd (U : List Us) : Prop := ∀ (i j : Nat) (r : Us), U[i]? = some r → U[j]? = some r → i = j
theorem UNd.ix {U : List Us} {r : Us} {i : Nat} (h : UNd U) (hi : U[i]? = some r) : uIx U r = i := sorry
theorem UNd.add {U : List Us} {r : Us} (h : UNd U) : UNd (addU U r) := sorry
/-- the uses of class k are the last ones -/
def UTl (U : List Us) (k : Nat) : Prop := ∃ n0, n0 ≤ U.length ∧ ∀ (i : Nat) (r : Us), U[i]? = some r → (r.1 = k ↔ n0 ≤ i)
theorem UTl.add {U : List Us} {k : Nat} {r : Us} (h : UTl U k) (hr : r.1 = k) : UTl (addU U r) k := sorry
theorem UNd.addL : ∀ (R : List Us) {U : List Us}, UNd U → UNd (addL U R) := sorry
theorem UTl.addL {k : Nat} : ∀ (R : List Us) {U : List Us}, UTl U k → (∀ r, r ∈ R → r.1 = k) → UTl (addL U R) k := sorry
/-! the uses by sort -/
/-- params of a member -/
def pmL (τ : Sg) (m : Nat) : List Int64 := (List.range (nPa τ m)).map fun j => τ.L 1209 m j
abbrev uC (k s : Nat) (c : Int64) : Us := (k, s, c, 0, 0, 0, [], 0)
abbrev uM (τ : Sg) (k : Nat) (c : Int64) (m : Nat) : Us := (k, 2, c, 0, 0, 0, pmL τ m, 0)
abbrev uF (τ : Sg) (k s : Nat) (c : Int64) (f : Nat) : Us := (k, s, c, 0, τ.L 1201 f 0, τ.L 1207 f 0, [], 0)
abbrev uY (τ : Sg) (k : Nat) (c : Int64) (f : Nat) : Us := (k, 16, c, 0, τ.L 1201 f 0, 0, [], τ.I 1213 f 0)
abbrev uL (τ : Sg) (k s : Nat) (c : Int64) (m : Nat) : Us := (k, s, c, 0, τ.L 1201 m 0, τ.L 1207 m 0, pmL τ m, 0)
abbrev uT (k : Nat) (t w : Int64) : Us := (k, 17, t, w, 0, 0, [], 0)
/-- what is given where a type is wanted -/
def fitU (k : Nat) (t w : Int64) : List Us := if t = w ∨ t = 2 ∨ w = 1 ∨ w = 6927257 ∨ w = 0 then [] else [uT k t w]
/-- the member, the class that a label names -/
abbrev mB (b : Lb) : Nat := b.2.2.2.2.2.2.2.1 - 1
abbrev cB (b : Lb) : Nat := b.2.2.2.2.2.2.2.2.1 - 1
/-- a field is asked -/
def gtU (τ : Sg) (k : Nat) (b : Lb) : Us := if τ.B 1212 (mB b) 0 = true then uY τ k (τ.L 1100 (cB b) 0) (mB b) else uF τ k (if τ.B 1203 (mB b) 0 = true then 5 else 3) (τ.L 1100 (cB b) 0) (mB b)
/-- the sort of a call -/
def clS (τ : Sg) (b : Lb) : Nat := if b.1 = 9 then 11 else if b.1 = 8 then 12 else (if τ.B 1102 (cB b) 0 = true then 8 else 7) + (if τ.B 1203 (mB b) 0 = true then 2 else 0)
/-- the uses of an E; of a row, whose types are wanted -/
def ndE (τ : Sg) (k : Nat) : Tr → List Int64 → List Us
  | .leaf, _ => []
  | .inner _ b _ x y, ps =>
    if b.1 = 0 then ndE τ k x [] ++ (fitU k (tyO x) (ps.headD 0) ++ ndE τ k y ps.tail)
    else if b.1 = 4 ∨ b.1 = 6 then (if b.2.2.2.2.2.2.2.1 = 0 then [] else [gtU τ k b])
    else if b.1 = 17 then ndE τ k x [] ++ [gtU τ k b]
    else if b.1 = 5 ∨ b.1 = 7 ∨ b.1 = 8 ∨ b.1 = 9 then ndE τ k y (pmL τ (mB b)) ++ [uL τ k (clS τ b) (τ.L 1100 (cB b) 0) (mB b)]
    else if b.1 = 18 then ndE τ k x [] ++ (ndE τ k y (pmL τ (mB b)) ++ [uL τ k (clS τ b) (τ.L 1100 (cB b) 0) (mB b)])
    else if b.1 = 10 then uC k 1 (τ.L 1100 (cB b) 0) :: (ndE τ k y (pmL τ (mB b)) ++ [uM τ k (τ.L 1100 (cB b) 0) (mB b)])
    else if b.1 = 11 then ndE τ k x [] ++ [uC k 13 (lN b.2.2.2.2.2.1)]
    else if b.1 = 19 then ndE τ k x [] ++ [uC k 14 (lN b.2.2.2.2.2.1)]
    else if b.1 = 20 then ndE τ k x []
    else if 12 ≤ b.1 ∧ b.1 ≤ 16 then ndE τ k x [] ++ ndE τ k y []
    else []
/-- what is put to -/
def ptU (τ : Sg) (k : Nat) (x : Tr) : List Us := match x with
  | .leaf => []
  | .inner _ b _ _ _ => if b.2.2.2.2.2.2.2.1 = 0 then [] else [uF τ k (if τ.B 1203 (mB b) 0 = true then 6 else 4) (τ.L 1100 (cB b) 0) (mB b)]
/-- the object whose field is put to -/
def ptO (x : Tr) : Tr := match x with
  | .leaf => .leaf
  | .inner _ b _ x _ => if b.1 = 17 then x else .leaf
/-- the parent is not the first class -/
noncomputable def prU (τ : Sg) (k : Nat) (m : Nat) (R : List Us) : List Us := match wPar τ 1 k with
  | none => []
  | some p => if τ.L 1100 p 0 = 6927257 then [] else R ++ [uM τ k (τ.L 1100 p 0) m]
/-- the uses of an S, in a method of type mt -/
noncomputable def ndS (τ : Sg) (k : Nat) (mt : Int64) : Tr → List Us
  | .leaf => []
  | .inner _ b _ x y =>
    if b.1 = 0 ∨ b.1 = 41 then ndS τ k mt x ++ ndS τ k mt y
    else if b.1 = 30 then ndS τ k mt x
    else if b.1 = 31 then ndE τ k x [] ++ fitU k (tyO x) (lN b.2.2.2.2.2.1)
    else if b.1 = 32 ∨ b.1 = 33 then ndE τ k x [] ++ ndS τ k mt y
    else if b.1 = 34 then (if isLf x = true then [] else ndE τ k x [] ++ fitU k (tyO x) mt)
    else if b.1 = 35 then ndE τ k x [] ++ fitU k (tyO x) 6959884
    else if b.1 = 36 then ndS τ k mt x ++ (uC k 15 (lN b.2.2.2.2.2.1) :: ndS τ k mt y)
    else if b.1 = 37 ∨ b.1 = 39 then ndE τ k x []
    else if b.1 = 38 then prU τ k (mB b) (ndE τ k x (pmL τ (mB b)))
    else if b.1 = 40 then ndE τ k (ptO x) [] ++ (ndE τ k y [] ++ (fitU k (tyO y) (tyO x) ++ ptU τ k x))
    else []
