/-! LINKHOUSE WRITES EVERY S as cdS, hdS and ndS say. -/
section SPX
variable {l : Launch} {G : Gl} {d : Nat} {τ : Sg} {b k n0 n r : Nat} {B : Nat → Nat} {ms : Int32} {mt : Int64}
theorem ws_all (hG : GOK G) : ∀ (x : Tr), ht x ≤ 1500 → (∀ d, 4 * ht x + 30 ≤ d → SpWs l G d τ b k n0 B n r ms mt x) ∧ (∀ D, 4 * ht x + 30 ≤ D → SpWt l G D τ b k n0 B n r ms mt x) ∧ (∀ d, 4 * ht x + 30 ≤ d → ∀ (sz2 : Nat) (b2 : Lb) (u2 : Unit) (yt ye : Tr), x = .inner sz2 b2 u2 yt ye → b2.1 = 41 → SpWs l G d τ b k n0 B n r ms mt yt ∧ SpWs l G d τ b k n0 B n r ms mt ye) := sorry
end SPX
