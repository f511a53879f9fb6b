/-! Judging, plain: a class that came already adds no candidate. -/
theorem jUps_stay {τ : Sg} {P : List Nat} (hc : ∀ y, y ∈ P → ∀ z, wPar τ 1 y = some z → z ∈ P) : ∀ (N : Nat) (o : Option Nat), (∀ x, o = some x → x ∈ P) → ∀ y, y ∈ jUps τ 1 N o → y ∈ P := sorry
theorem jPl_ups {τ : Sg} {U : List Nat} (hU : ∀ x, x ∈ wKs τ 1 → x ∈ U) (hl : U.length ≤ 62) : ∀ (n N : Nat) (P : List Nat) (o : Option Nat), P.Nodup → (∀ x, x ∈ P → x ∈ U) → (∀ x, o = some x → x ∈ U) → 64 ≤ n + P.length → N + P.length = 62 → (∀ x, x ∈ P → ∀ y, wPar τ 1 x = some y → y ∈ P ∨ o = some y) → ∃ L, P ++ jUps τ 1 N o = jPl τ 1 n P o ++ L ∧ ∀ y, y ∈ L → y ∈ jPl τ 1 n P o := sorry
/-- the way of parents is the row of parents, and then classes that came already -/
theorem jUps_jPs {τ : Sg} {x : Nat} (hW : WOK τ 1) (hx : x ∈ wKs τ 1) : ∃ L, jUps τ 1 62 (some x) = jPs τ 1 x ++ L ∧ ∀ y, y ∈ L → y ∈ jPs τ 1 x := sorry
section CD
variable {τ : Sg} {c x : Nat} {nm : Int64} {ts : List Int64}
/-- all that class k could add is there -/
def CdF (τ : Sg) (c x : Nat) (nm : Int64) (ts : List Int64) (A : List Nat) (k : Nat) : Prop := ∀ j, j < nMe τ k → jCdB τ c x nm ts k (33 * k + j) = true → A.any (fun a => mPar τ a (33 * k + j)) = true
theorem fall_t {p : Nat → Bool} : ∀ (n k : Nat), (∀ i, p i = true) → fall p n k = true := sorry
theorem mPar_rfl {m : Nat} : mPar τ m m = true := sorry
theorem any_app {A B : List Nat} {p : Nat → Bool} (h : A.any p = true) : (A ++ B).any p = true := sorry
theorem jCdA_app {k : Nat} : ∀ (p j : Nat) (A : List Nat), ∃ B, jCdA τ c x nm ts k p j A = A ++ B := sorry
theorem CdF.up {A : List Nat} {k : Nat} (h : CdF τ c x nm ts A k) (B : List Nat) : CdF τ c x nm ts (A ++ B) k := sorry
theorem jCdA_id {k : Nat} : ∀ (p j : Nat) (A : List Nat), j + p = nMe τ k → CdF τ c x nm ts A k → jCdA τ c x nm ts k p j A = A := sorry
theorem jCdA_F {k : Nat} : ∀ (p j : Nat) (A : List Nat), (∀ i, j ≤ i → i < j + p → jCdB τ c x nm ts k (33 * k + i) = true → (jCdA τ c x nm ts k p j A).any (fun a => mPar τ a (33 * k + i)) = true) := sorry
theorem jCdL_F : ∀ (ks A : List Nat), (∀ k, k ∈ ks → CdF τ c x nm ts (jCdL τ c x nm ts ks A) k) ∧ ∃ B, jCdL τ c x nm ts ks A = A ++ B := sorry
theorem jCdL_id : ∀ (ks A : List Nat), (∀ k, k ∈ ks → CdF τ c x nm ts A k) → jCdL τ c x nm ts ks A = A := sorry
/-- candidates by the model's row of parents -/
theorem jCds_m (hW : WOK τ 1) (hx : x ∈ wKs τ 1) : jCds τ c x nm ts = jCdL τ c x nm ts (jPs τ 1 x ++ wAF τ 1 x) [] := sorry
end CD
