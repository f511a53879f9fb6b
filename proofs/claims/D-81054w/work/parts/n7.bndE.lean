/-! How much an E takes. -/
section BNE
variable {τ : Sg} {k : Nat} {ix : Us → Nat}
theorem rNd_n {b : RLb} {X Y : RT} : rNd (rn b X Y) = max (rNd X) (rNd Y + 2) := sorry
theorem rTk_n {b : RLb} {X Y : RT} (h : ¬ b.op = 0) : rTk (rn b X Y) = 1 + max (rTk X) (rTk Y) := sorry
theorem rAg_n {b : RLb} {X Y : RT} (h : ¬ b.op = 0) : rAg (rn b X Y) = max (rAg X) (rAg Y) := sorry
/-- what an E takes: n tokens, nested w deep, v its level -/
def BdE (X : RT) (n w v : Nat) : Prop := rNd X ≤ n + 1 ∧ rTk X ≤ n ∧ rAg X ≤ 4 * (12 - w) ∧ rNd X ≤ 2 + 14 * (12 - w) + 2 * v
/-- a row of E's, i of them -/
def BdR (X : RT) (n w i : Nat) : Prop := rNd X ≤ n + 1 ∧ rTk X ≤ n ∧ rAg X ≤ 4 * (12 - w) + i ∧ (i = 0 → rNd X = 0 ∧ rAg X = 0) ∧ rNd X ≤ 14 * (12 - w) + 6 + 2 * i ∧ (0 < i → w ≤ 12)
theorem BdE.ll {b : RLb} {n w v : Nat} (h : ¬ b.op = 0) (hn : 1 ≤ n) : BdE (rn b .leaf .leaf) n w v := sorry
theorem BdE.xl {b : RLb} {X : RT} {n n' w w' v v' : Nat} (h : ¬ b.op = 0) (hx : BdE X n' w' v') (hn : n' + 1 ≤ n) (hw : (w' = w ∧ v' ≤ v) ∨ (w' = w + 1 ∧ v' ≤ 3 ∧ w' ≤ 12)) : BdE (rn b X .leaf) n w v := sorry
theorem BdE.ly {b : RLb} {Y : RT} {n n' w v i : Nat} (h : ¬ b.op = 0) (hy : BdR Y n' (w + 1) i) (hn : n' + 2 ≤ n) (hi : i ≤ 4) (hw : w ≤ 12) : BdE (rn b .leaf Y) n w v := sorry
theorem BdE.xr {b : RLb} {X Y : RT} {n n1 n' w v v1 i : Nat} (h : ¬ b.op = 0) (hx : BdE X n1 w v1) (hv : v1 ≤ v) (hy : BdR Y n' (w + 1) i) (hn : n1 + n' + 2 ≤ n) (hi : i ≤ 4) (hw : w ≤ 12) : BdE (rn b X Y) n w v := sorry
theorem BdE.xy {b : RLb} {X Y : RT} {n n1 n2 w v v1 v2 : Nat} (h : ¬ b.op = 0) (hx : BdE X n1 w v1) (hv : v1 ≤ v) (hy : BdE Y n2 w v2) (hv2 : v2 + 1 ≤ v) (hn : n1 + n2 + 1 ≤ n) (h1 : 1 ≤ n1) : BdE (rn b X Y) n w v := sorry
theorem BdR.nil {n w : Nat} : BdR .leaf n w 0 := sorry
theorem BdR.cons {X Y : RT} {n n1 n2 w v i : Nat} {b : RLb} (h : b.op = 0) (hx : BdE X n1 w v) (hv : v ≤ 3) (hy : BdR Y n2 w i) (hn : n1 + 1 + n2 ≤ n) (h1 : 1 ≤ n1) (hw : w ≤ 12) : BdR (rn b X Y) n w (i + 1) := sorry
theorem ftL_len : ∀ (ts ps : List Int64), ftL τ ts ps → ts.length = ps.length := sorry
theorem pmL_l4 {m : Nat} : (pmL τ m).length = nPa τ m := sorry
theorem rtG_ll {b : Lb} : ∃ b', ¬ b'.op = 0 ∧ rtG τ k ix b = rn b' .leaf .leaf := sorry
/-- WHAT A JUDGED E TAKES -/
theorem bdE_of (hP : ∀ m, LivU τ (wKs τ 1) m → nPa τ m ≤ 4) : ∀ (x : Tr) {m w a e : Nat}, m = 0 ∨ m = 1 ∨ m = 5 → wt x m w a e → gdE τ x → pcd x → (¬ m = 1 → ¬ x = .leaf → BdE (rtE τ k ix x) (e - a) w (prc x)) ∧ (m = 1 → BdR (rtE τ k ix x) (e - a) w (tyL x).length) := sorry
end BNE
