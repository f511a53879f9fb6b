/-! The model lays the uses of every S (the whole group). -/
section SPX
variable {l : Launch} {G : Gl} {d : Nat} {τ : Sg} {b k n L qm : Nat} {B : Nat → Nat} {ms : Int32} {mt : Int64}
/-- THE MODEL LAYS THE USES OF EVERY S AS ndS SAYS -/
theorem muS_all (hG : GOK G) (hB : BOK B n) (hNE : NEt (yTok B n) L) (hH : UsH τ) : ∀ (x : Tr), (∀ d, 4 * ht x + 30 ≤ d → SpUs l G d τ b k B n L qm ms mt x) ∧ (∀ d, 4 * ht x + 30 ≤ d → LpUs l G d τ b k B n L qm ms mt x) ∧ (∀ d, 4 * ht x + 30 ≤ d → ∀ sz' b' u' xs ys, x = .inner sz' b' u' xs ys → b'.1 = 41 → SpUs l G d τ b k B n L qm ms mt xs ∧ SpUs l G d τ b k B n L qm ms mt ys) := sorry
end SPX
