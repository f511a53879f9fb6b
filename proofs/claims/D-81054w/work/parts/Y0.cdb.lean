/-! How many candidates there can be. -/
theorem flatMap_len {α β : Type} {f : α → List β} {q : Nat} : ∀ (xs : List α), (∀ x, x ∈ xs → (f x).length ≤ q) → (xs.flatMap f).length ≤ xs.length * q := sorry
theorem nodup_leL : ∀ (l m : List Int64), l.Nodup → (∀ x, x ∈ l → x ∈ m) → l.length ≤ m.length := sorry
section CB
variable {τ : Sg} {c x : Nat} {nm : Int64} {ts : List Int64}
theorem jCdA_pw {k : Nat} : ∀ (p j : Nat) (A : List Nat), A.Pairwise (fun a m => mPar τ a m = false) → (jCdA τ c x nm ts k p j A).Pairwise (fun a m => mPar τ a m = false) := sorry
theorem jCdL_pw : ∀ (ks A : List Nat), A.Pairwise (fun a m => mPar τ a m = false) → (jCdL τ c x nm ts ks A).Pairwise (fun a m => mPar τ a m = false) := sorry
theorem jCds_pw : (jCds τ c x nm ts).Pairwise (fun a m => mPar τ a m = false) := sorry
theorem jCds_nd : (jCds τ c x nm ts).Nodup := sorry
theorem jCdA_c {k : Nat} : ∀ (p j : Nat) (A : List Nat) (m : Nat), m ∈ jCdA τ c x nm ts k p j A → m ∈ A ∨ (∃ i, j ≤ i ∧ i < j + p ∧ m = 33 * k + i ∧ jCdB τ c x nm ts k (33 * k + i) = true) := sorry
theorem jCdL_c : ∀ (ks A : List Nat) (m : Nat), m ∈ jCdL τ c x nm ts ks A → m ∈ A ∨ (∃ k i, k ∈ ks ∧ i < nMe τ k ∧ m = 33 * k + i ∧ jCdB τ c x nm ts k (33 * k + i) = true) := sorry
theorem jCds_c (hW : WOK τ 1) {m : Nat} (h : m ∈ jCds τ c x nm ts) : ∃ k i, k ∈ x :: wKs τ 1 ∧ i < nMe τ k ∧ m = 33 * k + i ∧ jCdB τ c x nm ts k (33 * k + i) = true := sorry
theorem jCdB_nb {k m : Nat} (h : jCdB τ c x nm ts k m = true) : τ.B 1206 m 0 = false ∧ jTk τ m ts = true := sorry
theorem jTkF_ln {m : Nat} : ∀ (p k : Nat) (ts : List Int64), jTkF τ m p k ts = true → ts.length = p := sorry
/-- LinkHouse's bound -/
theorem jCds_1344 (hW : WOK τ 1) (hS : Shp τ) (hx : x < 194) (h21 : ∀ k, k ∈ wKs τ 1 → N21 τ k) : (jCds τ c x nm ts).length ≤ 1344 := sorry
/-- members with two params or more, and no bridges -/
def m2L (τ : Sg) (k : Nat) : List Nat := ((List.range (nMe τ k)).filter (fun j => decide (2 ≤ nPa τ (33 * k + j)) && !τ.B 1206 (33 * k + j) 0)).map (fun j => 33 * k + j)
/-- what must be known for the model's bound: few names of types, few members with many params -/
def CdH (τ : Sg) : Prop := (∃ NL : List Int64, NL.length ≤ 200 ∧ ∀ m, LivU τ (wKs τ 1) m → τ.B 1206 m 0 = false → ∀ t, t ∈ pmL τ m → t ∈ NL) ∧ ((wKs τ 1).flatMap (m2L τ)).length ≤ 432
theorem jCds_432 (hW : WOK τ 1) (hS : Shp τ) (hx : x ∈ wKs τ 1) (hC : CdH τ) : (jCds τ c x nm ts).length ≤ 432 := sorry
end CB
