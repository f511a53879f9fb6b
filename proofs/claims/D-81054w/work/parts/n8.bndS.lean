/-! How much an S takes; places of locals. -/
section BNS
variable {τ : Sg} {k : Nat} {st : Bool} {ix : Us → Nat} {ms : Int32} {mt : Int64}
theorem rNs_le : ∀ X : RT, rNs X ≤ rNd X + 2 := sorry
theorem rNs_n {b : RLb} {X Y : RT} (h : ¬ (b.op = 0 ∨ b.op = 30 ∨ b.op = 36 ∨ b.op = 41)) (h2 : ¬ (b.op = 32 ∨ b.op = 33)) : rNs (rn b X Y) ≤ max (rNd X + 2) (rNd Y + 2) := sorry
theorem rNs_0 {b : RLb} {X Y : RT} (h : b.op = 0 ∨ b.op = 30 ∨ b.op = 36 ∨ b.op = 41) : rNs (rn b X Y) = max (rNs X) (rNs Y) := sorry
theorem rNs_32 {b : RLb} {X Y : RT} (h : b.op = 32 ∨ b.op = 33) : rNs (rn b X Y) ≤ max (rNd X + 2) (rNs Y) := sorry
/-- kinds are kept -/
theorem pcd_sm : ∀ (x x' : Tr), smT x x' → pcd x → pcd x' := sorry
/-- places of locals in an E -/
theorem scE_rb {Ls : List Nat} {b : RLb} {X Y : RT} (h : ¬ b.op = 2) (hx : scE Ls X) (hy : scE Ls Y) : scE Ls (rn b X Y) := sorry
theorem lcF_at {nm : Int64} : ∀ (L : Lcs) (i : Nat) (r : Nat × Int64 × Nat), lcF nm L i = some r → i ≤ r.1 ∧ ∃ c, L[r.1 - i]? = some c ∧ c.2 = r.2 := sorry
theorem scE_of {Lc : Lcs} : ∀ (x x' : Tr) {m w a e : Nat}, m = 0 ∨ m = 1 ∨ m = 5 → wt x m w a e → ckE τ k st Lc x = .ok x' → scE (Lc.map fun c => c.2.2) (rtE τ k ix x') := sorry
end BNS
