/-! How long code can be: at most four for each token; how many catches. -/
theorem gtC_ln {τ : Sg} {k : Nat} {ix : Us → Int32} {b : Lb} : (gtC τ k ix b).length = 2 := sorry
theorem cdE_len {τ : Sg} {k : Nat} {ix : Us → Int32} : ∀ (x : Tr) {m w a e : Nat}, m = 0 ∨ m = 1 ∨ m = 5 → wt x m w a e → 4 * a + (cdE τ k ix x).length ≤ 4 * e := sorry
/-- how often the parent's maker is called -/
def n38 : Tr → Nat
  | .leaf => 0
  | .inner _ b _ x y => if b.1 = 38 then 1 else if b.1 = 30 then n38 x else if b.1 = 32 ∨ b.1 = 33 then n38 y else if b.1 = 0 ∨ b.1 = 41 ∨ b.1 = 36 then n38 x + n38 y else 0
theorem n38_0 {sz : Nat} {b : Lb} {u : Unit} {x y : Tr} (h : b.1 = 0 ∨ b.1 = 41 ∨ b.1 = 36) : n38 (.inner sz b u x y) = n38 x + n38 y := sorry
theorem n38_30 {sz : Nat} {b : Lb} {u : Unit} {x y : Tr} (h : b.1 = 30) : n38 (.inner sz b u x y) = n38 x := sorry
theorem n38_32 {sz : Nat} {b : Lb} {u : Unit} {x y : Tr} (h : b.1 = 32 ∨ b.1 = 33) : n38 (.inner sz b u x y) = n38 y := sorry
theorem n38_38 {sz : Nat} {b : Lb} {u : Unit} {x y : Tr} (h : b.1 = 38) : n38 (.inner sz b u x y) = 1 := sorry
theorem n38_n {sz : Nat} {b : Lb} {u : Unit} {x y : Tr} (h : ¬ (b.1 = 38 ∨ b.1 = 30 ∨ b.1 = 32 ∨ b.1 = 33 ∨ b.1 = 0 ∨ b.1 = 41 ∨ b.1 = 36)) : n38 (.inner sz b u x y) = 0 := sorry
theorem frC_len {fs : List Nat} : (frC fs).length = 2 * fs.length := sorry
theorem spC_len {τ : Sg} {k m : Nat} {ix : Us → Int32} {x : Tr} : (spC τ k m ix x).length ≤ 4 + (cdE τ k ix x).length := sorry
theorem ptD_len {τ : Sg} {k : Nat} {ix : Us → Int32} {x : Tr} : (ptD τ k ix x).length ≤ 2 := sorry
theorem ptC_len {τ : Sg} {k : Nat} {ix : Us → Int32} {x : Tr} {w a e : Nat} (h : wt x 0 w a e) : 4 * a + 2 + (ptC τ k ix x).length ≤ 4 * e := sorry
/-- an S, and a pair of S -/
theorem cdS_len {τ : Sg} {k : Nat} {ix : Us → Int32} {fs : List Nat} : ∀ (x : Tr), (∀ {m w a e : Nat} (p : Nat), m = 2 ∨ m = 3 ∨ m = 6 → wt x m w a e → 4 * a + (cdS τ k ix fs x p).length ≤ 4 * e + 2 * fs.length * n38 x) ∧ ∀ {w a e : Nat} {sz : Nat} {b : Lb} {u : Unit} {xt xe : Tr} (p q : Nat), x = .inner sz b u xt xe → wt x 4 w a e → 4 * a + (cdS τ k ix fs xt p).length + (cdS τ k ix fs xe q).length ≤ 4 * e + 2 * fs.length * n38 x := sorry
/-- catches -/
theorem hdS_len {τ : Sg} {k : Nat} {ix : Us → Int32} {fs : List Nat} : ∀ (x : Tr), (∀ {m w a e : Nat} (p : Nat), m = 2 ∨ m = 3 ∨ m = 6 → wt x m w a e → a + 7 * (hdS τ k ix fs x p).length + (if m = 2 then 1 else 0) ≤ e) ∧ ∀ {w a e : Nat} {sz : Nat} {b : Lb} {u : Unit} {xt xe : Tr} (p q : Nat), x = .inner sz b u xt xe → wt x 4 w a e → a + 7 * (hdS τ k ix fs xt p).length + 7 * (hdS τ k ix fs xe q).length + 1 ≤ e := sorry
