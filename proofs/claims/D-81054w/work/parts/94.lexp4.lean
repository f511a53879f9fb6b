/-! LinkHouse reads an E: arguments, what a unit begins with, the whole. -/
section SPX
variable {l : Launch} {G : Gl}
/-- arguments go on behind the node p -/
theorem lx_13 (hG : GOK G) {b n : Nat} {B : Nat → Nat} : ∀ f, (∀ f', f' < f → SX0 l G b B n f') → ∀ (d : Nat) (σ0 σ : Sg) (t w m r p : Nat) (x1 : Int32) (kk : Tr × Nat → PR (Tr × Nat)) (K0 : Tr × Nat → Outcome → Sg → Prop) (Q : Outcome → Sg → Prop) (N : Nat), 701 - t < N → LT σ b B n t w m r → Pn σ → m ≤ t → w ≤ 12 → p < m → σ.I 1514 0 p = -2 → Fl (pT b) σ0 σ → 12 * (701 - t) + 1 ≤ f → 12 * (13 - w) + 15 ≤ d → oP G b (yTok B n) σ0 (bnd (pp (yTok B n) f 13 t w nl) kk) K0 = Q → (∀ (c : Tr × Nat) (s : Sg) (m' r' : Nat), oP G b (yTok B n) σ0 (kk c) K0 = Q → t + 1 ≤ c.2 → Fl (pT b) σ s → Pn s → LT s b B n c.2 w m' r' → m ≤ m' → m' + t ≤ m + c.2 → LTr s (yTok B n) c.2 c.1 m m' (s.I 1514 0 p) → isP c.1 = false → (∀ j, j < m → j ≠ p → NdS σ s j) → (s.I 1509 0 p = σ.I 1509 0 p ∧ s.I 1510 0 p = σ.I 1510 0 p ∧ s.I 1511 0 p = σ.I 1511 0 p ∧ s.I 1512 0 p = σ.I 1512 0 p ∧ s.I 1513 0 p = σ.I 1513 0 p) → Q (.returned (some (.int x1))) s) → wq_X5_args_26 l G d 0 Q N x1 (nI p) σ := sorry
theorem lx_5 (hG : GOK G) {b n : Nat} {B : Nat → Nat} (f : Nat) (hX0 : ∀ f', f' < f → SX0 l G b B n f') : SX5 l G b B n f := sorry
end SPX
