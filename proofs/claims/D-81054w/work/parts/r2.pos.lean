/-! Where the members of a made build lie, one behind the other. -/
theorem seq_find (f : Nat → Nat) : ∀ (n x : Nat), f 0 ≤ x → x < f n → ∃ j, j < n ∧ f j ≤ x ∧ x < f (j + 1) := sorry
section POS
variable {τ2 : Sg} {b i j i' j' : Nat} {cs : List CRc}
/-- a row of the catches is that of a member -/
theorem qs_find {x : Nat} (hx : x < qsA (t3 τ2 b cs) b (tgF (t3 τ2 b cs) b) (jA (t3 τ2 b cs) b (trB cs)) cs.length) : ∃ i j, i < cs.length ∧ j < nMe (t3 τ2 b cs) (12 * b + i) ∧ qM0 τ2 b cs i j ≤ x ∧ x < qM0 τ2 b cs i (j + 1) := sorry
theorem pM0_mono (hj : j ≤ j') : pM0 τ2 b cs i j ≤ pM0 τ2 b cs i j' := sorry
/-- members lie one behind the other -/
theorem pM0_ord (hj : j < nMe (t3 τ2 b cs) (12 * b + i)) (h : i < i' ∨ (i = i' ∧ j < j')) : pM0 τ2 b cs i (j + 1) ≤ pM0 τ2 b cs i' j' := sorry
/-- a member's code, its catches end where the next ones begin -/
theorem pM0_s : pM0 τ2 b cs i (j + 1) = pM0 τ2 b cs i j + (cdX (t3 τ2 b cs) (12 * b + i) (33 * (12 * b + i) + j) (tgF (t3 τ2 b cs) b i j) (jA (t3 τ2 b cs) b (trB cs) i j) (pM0 τ2 b cs i j) (fun _ => 0)).length := sorry
theorem qM0_s : qM0 τ2 b cs i (j + 1) = qM0 τ2 b cs i j + (hdX (t3 τ2 b cs) (12 * b + i) (33 * (12 * b + i) + j) (jA (t3 τ2 b cs) b (trB cs) i j) (pM0 τ2 b cs i j) (fun _ => 0)).length := sorry
end POS
