/-! How many uses there can be: at most one for each token. -/
theorem smT_wt : ∀ (x x' : Tr) {m w a e : Nat}, smT x x' → wt x m w a e → wt x' m w a e := sorry
theorem fitU_len {k : Nat} {t w : Int64} : (fitU k t w).length ≤ 1 := sorry
/-- an E: uses are at most its tokens; a row: with the fits -/
theorem ndE_len {τ : Sg} {k : Nat} : ∀ (x : Tr) {m w a e : Nat} (ps : List Int64), m = 0 ∨ m = 1 ∨ m = 5 → wt x m w a e → a + (ndE τ k x ps).length ≤ e := sorry
theorem ptU_len {τ : Sg} {k : Nat} {x : Tr} : (ptU τ k x).length ≤ 1 := sorry
theorem ptO_len {τ : Sg} {k : Nat} {x : Tr} {w a e : Nat} (h : wt x 0 w a e) : a + 1 + (ndE τ k (ptO x) []).length ≤ e := sorry
/-- an S: uses are at most its tokens -/
theorem ndS_len {τ : Sg} {k : Nat} {mt : Int64} : ∀ (x : Tr) {m w a e : Nat}, m = 2 ∨ m = 3 ∨ m = 4 ∨ m = 6 → wt x m w a e → a + (ndS τ k mt x).length ≤ e := sorry
