/-! How much an S takes: the theorem. -/
section BNT
variable {τ : Sg} {k : Nat} {st : Bool} {ix : Us → Nat} {ms : Int32} {mt : Int64}
theorem wt_m5 {sz : Nat} {b : Lb} {u : Unit} {x y : Tr} {w a e : Nat} (hw : wt (.inner sz b u x y) 5 w a e) : wt (.inner sz b u x y) 0 w a e := sorry
theorem pcd_ck {Lc : Lcs} : ∀ (x x' : Tr) {m w a e : Nat}, m = 0 ∨ m = 1 ∨ m = 5 → wt x m w a e → ckE τ k st Lc x = .ok x' → pcd x → pcd x' ∧ kdO x' = kdO x := sorry
/-- an E of an S -/
theorem bdE_0 (hW : WOK τ 1) (hk : wFind τ 1 (τ.L 1100 k 0) = some k) (hP : ∀ m, LivU τ (wKs τ 1) m → nPa τ m ≤ 4) {Lc : Lcs} (hLc : Lc.length < 1000) {x x1 : Tr} {w a e : Nat} (hw : wt x 0 w a e) (h : ckE τ k st Lc x = .ok x1) (hp : pcd x) : BdE (rtE τ k ix x1) (e - a) w 3 ∧ a < e ∧ w ≤ 12 := sorry
/-- what an S takes: n tokens, nested w deep, s slots -/
def BdS (X : RT) (n w s : Nat) : Prop := 5 * s ≤ n ∧ 5 * s + rNs X ≤ n + 4 ∧ rNs X ≤ 172 ∧ hgS X ≤ 13 - w
theorem BdS.e {b : RLb} {X : RT} {n n1 w s : Nat} (h : ¬ (b.op = 0 ∨ b.op = 30 ∨ b.op = 36 ∨ b.op = 41)) (h2 : ¬ (b.op = 32 ∨ b.op = 33)) (hx : rNd X ≤ n1 + 1 ∧ rNd X ≤ 168) (hs : 5 * s + n1 ≤ n) (hs2 : 1 ≤ n) : BdS (rn b X .leaf) n w s := sorry
theorem BdS.y {b : RLb} {X Y : RT} {n n1 n2 w : Nat} (h : ¬ (b.op = 0 ∨ b.op = 30 ∨ b.op = 36 ∨ b.op = 41)) (h2 : ¬ (b.op = 32 ∨ b.op = 33)) (hx : rNd X ≤ n1 + 1 ∧ rNd X ≤ 168) (hy : rNd Y ≤ n2 + 1 ∧ rNd Y ≤ 168) (hs : n1 + n2 ≤ n) (hs2 : 1 ≤ n) : BdS (rn b X Y) n w 0 := sorry
theorem BdS.sq {b : RLb} {X Y : RT} {n n1 n2 w s1 s2 : Nat} (h : b.op = 0 ∨ b.op = 41) (hx : BdS X n1 w s1) (hy : BdS Y n2 w s2) (hn : n1 + n2 ≤ n) : BdS (rn b X Y) n w (s1 + s2) := sorry
theorem BdS.leaf {n w : Nat} : BdS .leaf n w 0 := sorry
theorem BdE.n {X : RT} {n w : Nat} (h : BdE X n (w + 1) 3) : rNd X ≤ n + 1 ∧ rNd X ≤ 168 := sorry
/-- WHAT A JUDGED S TAKES -/
theorem bdS_of (hW : WOK τ 1) (hk : wFind τ 1 (τ.L 1100 k 0) = some k) (hP : ∀ m, LivU τ (wKs τ 1) m → nPa τ m ≤ 4) : ∀ (x : Tr) {m w a e f sn : Nat} {Lc : Lcs} {p : Tr × Lcs × Nat}, wt x m w a e → m = 2 ∨ m = 3 ∨ m = 4 ∨ m = 6 → pcd x → Lc.length + (e - a) < 1000 → ckS τ k st ms mt x f Lc sn = .ok p → BdS (rtS τ k ix p.1) (e - a) w (p.2.2 - sn) := sorry
end BNT
