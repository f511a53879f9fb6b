/-! PURE: what the labels of a judged S have. -/
theorem ty_no {k : Nat} (h : k = 30 ∨ k = 31 ∨ k = 34 ∨ k = 35 ∨ k = 37 ∨ k = 38 ∨ k = 39) : ¬ (k = 0 ∨ k = 41 ∨ k = 32 ∨ k = 33 ∨ twy k = true ∨ thy k = true) := sorry
/-- an S without a second part -/
theorem okT_1 {k sz : Nat} {b : Lb} {u : Unit} {x y : Tr} (h : b.1 = 30 ∨ b.1 = 31 ∨ b.1 = 34 ∨ b.1 = 35 ∨ b.1 = 37 ∨ b.1 = 38 ∨ b.1 = 39) (hx : okT k x) : okT k (.inner sz b u x y) := sorry
theorem okT_2 {k sz : Nat} {b : Lb} {u : Unit} {x y : Tr} (h : b.1 = 0 ∨ 30 ≤ b.1) (hx : okT k x) (hy : okT k y) : okT k (.inner sz b u x y) := sorry
theorem okS_1 {sz : Nat} {b : Lb} {u : Unit} {x y : Tr} (h : b.1 = 34 ∨ b.1 = 35 ∨ b.1 = 37 ∨ b.1 = 39 ∨ b.1 = 40) : okS (.inner sz b u x y) := sorry
def PSo (k : Nat) (x : Tr) (p : Tr × Lcs × Nat) : Prop := okT k p.1 ∧ okS p.1 ∧ LcG p.2.1 ∧ smT x p.1
theorem ckS_ok {τ : Sg} {k : Nat} {st : Bool} {ms : Int32} {mt : Int64} (hW : WOK τ 1) (hO : OkW τ) (hk : wFind τ 1 (τ.L 1100 k 0) = some k) : ∀ (x : Tr) {m w a e f sn : Nat} {Lc : Lcs} {p : Tr × Lcs × Nat}, wt x m w a e → m = 2 ∨ m = 3 ∨ m = 4 ∨ m = 6 → LcG Lc → sn + (e - a) ≤ 1800 → whl x → ckS τ k st ms mt x f Lc sn = .ok p → PSo k x p := sorry
