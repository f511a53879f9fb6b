/-! Most locals of a body: no more than its slots. -/
section MXL
variable {τ : Sg} {k : Nat} {st : Bool} {ms : Int32} {mt : Int64}
theorem mxL_of : ∀ (x : Tr) {m w a e f sn : Nat} {Lc : Lcs} {p : Tr × Lcs × Nat}, wt x m w a e → m = 2 ∨ m = 3 ∨ m = 4 ∨ m = 6 → pcd x → ckS τ k st ms mt x f Lc sn = .ok p → mxL x Lc.length ≤ Lc.length + (p.2.2 - sn) ∧ (m = 2 → (kdO x = 31 → p.2.1.length = Lc.length + 1 ∧ p.2.2 = sn + 1) ∧ (¬ kdO x = 31 → p.2.1.length = Lc.length)) := sorry
end MXL
