/-! LinkHouse's uses: two uses are one. -/
/-- a record holds nothing that its sort does not have -/
def UCn (r : Us) : Prop := (¬ (r.2.1 = 2 ∨ (7 ≤ r.2.1 ∧ r.2.1 ≤ 12)) → r.2.2.2.2.2.2.1 = []) ∧ (¬ ((3 ≤ r.2.1 ∧ r.2.1 ≤ 12) ∨ r.2.1 = 16) → r.2.2.2.2.1 = 0) ∧ (¬ r.2.1 = 16 → r.2.2.2.2.2.2.2 = 0)
/-- the use in LinkHouse's row X -/
def LUr (σ : Sg) (X : Nat) (r : Us) : Prop := (σ.I 1700 X 0 = nI r.2.1 ∧ σ.R 1701 X 0 = some r.1 ∧ σ.L 1702 X 0 = r.2.2.1 ∧ σ.L 1703 X 0 = r.2.2.2.1) ∧ ((r.2.1 = 2 ∨ (7 ≤ r.2.1 ∧ r.2.1 ≤ 12)) → pmL σ (6402 + X) = r.2.2.2.2.2.2.1) ∧ (3 ≤ r.2.1 ∧ r.2.1 ≤ 12 → σ.L 1201 (6402 + X) 0 = r.2.2.2.2.1 ∧ σ.L 1207 (6402 + X) 0 = r.2.2.2.2.2.1) ∧ (7 ≤ r.2.1 ∧ r.2.1 ≤ 12 → σ.I 1200 (6402 + X) 0 = 1) ∧ (r.2.1 = 16 → σ.L 1201 (6402 + X) 0 = r.2.2.2.2.1 ∧ σ.I 1213 (6402 + X) 0 = r.2.2.2.2.2.2.2)
theorem fall_pm {p : Nat → Bool} : ∀ (n k : Nat), fall p n k = true ↔ ∀ j, k ≤ j → j < k + n → p j = true := sorry
theorem mPar_pm {σ : Sg} {a b : Nat} (ha : σ.I 1208 a 0 = nI (nPa σ a) ∧ nPa σ a ≤ 4) (hb : σ.I 1208 b 0 = nI (nPa σ b) ∧ nPa σ b ≤ 4) : mPar σ a b = true ↔ pmL σ a = pmL σ b := sorry
theorem lus_eq {r q : Us} (hr : UOK r) (hq : UOK q) (cr : UCn r) (cq : UCn q) (e1 : r.1 = q.1) (e2 : r.2.1 = q.2.1) (e3 : r.2.2.1 = q.2.2.1) (e4 : r.2.2.2.1 = q.2.2.2.1) (e5 : (3 ≤ r.2.1 ∧ r.2.1 ≤ 12) ∨ r.2.1 = 16 → r.2.2.2.2.1 = q.2.2.2.2.1) (e6 : 3 ≤ r.2.1 ∧ r.2.1 ≤ 12 → r.2.2.2.2.2.1 = q.2.2.2.2.2.1) (e7 : r.2.1 = 2 ∨ (7 ≤ r.2.1 ∧ r.2.1 ≤ 12) → r.2.2.2.2.2.2.1 = q.2.2.2.2.2.2.1) (e8 : r.2.1 = 16 → r.2.2.2.2.2.2.2 = q.2.2.2.2.2.2.2) : r = q := sorry
