/-! A body's locals in the model, with the maker above. -/
section SCB
variable {τ : Sg} {k m nL : Nat} {st : Bool} {ix : Us → Nat} {ms : Int32} {mt : Int64}
/-- what an S of the grammar can be -/
theorem wt_s2 {sz : Nat} {b : Lb} {u : Unit} {x y : Tr} {w a e : Nat} (hw : wt (.inner sz b u x y) 2 w a e) : b.1 = 30 ∨ b.1 = 31 ∨ (b.1 = 32 ∨ b.1 = 33) ∨ b.1 = 34 ∨ b.1 = 35 ∨ b.1 = 36 ∨ b.1 = 37 ∨ b.1 = 38 ∨ b.1 = 39 ∨ b.1 = 40 := sorry
theorem wt_s3 {sz : Nat} {b : Lb} {u : Unit} {x y : Tr} {w a e : Nat} (hw : wt (.inner sz b u x y) 3 w a e) : b.1 = 0 ∧ ∃ i, wt x 2 w a i ∧ wt y 3 w i e := sorry
theorem wt_b30 {sz : Nat} {b : Lb} {u : Unit} {x y : Tr} {w a e : Nat} (hw : wt (.inner sz b u x y) 2 w a e) (q : b.1 = 30) : ∃ i, wt x 3 (w + 1) (a + 1) i ∧ i + 1 ≤ e := sorry
theorem wt_38 {sz : Nat} {b : Lb} {u : Unit} {x y : Tr} {w a e : Nat} (hw : wt (.inner sz b u x y) 2 w a e) (q : b.1 = 38) : ∃ i, wt x 1 (w + 1) (a + 2) i ∧ i + 1 ≤ e := sorry
/-- that an S is the first matters only when it tells the maker above -/
theorem ckS_10 : ∀ (x : Tr) {w a e sn : Nat} {Lc : Lcs}, wt x 2 w a e → ¬ kdO x = 38 → ckS τ k st ms mt x 1 Lc sn = ckS τ k st ms mt x 0 Lc sn := sorry
/-- a row of arguments -/
theorem scX_1 (hW : WOK τ 1) (hk : wFind τ 1 (τ.L 1100 k 0) = some k) (hP : ∀ m, LivU τ (wKs τ 1) m → nPa τ m ≤ 4) {Lc : Lcs} (hLc : Lc.length < 1000) {x x1 : Tr} {w a e : Nat} (hw : wt x 1 w a e) (h : ckE τ k st Lc x = .ok x1) (hp : pcd x) (hl : (tyL x1).length ≤ 4) (hw1 : 1 ≤ w) (hn : nL + 48 ≤ 260) (he : e ≤ 702) : scX nL (sls Lc) (rtE τ k ix x1) := sorry
theorem rtU_38 {X : RT} : ∃ b, b.op = 38 ∧ (rtU τ k m ix X = rn b .leaf .leaf ∨ rtU τ k m ix X = rn b X .leaf) := sorry
/-- THE LOCALS OF A BODY -/
theorem scBd_of (hW : WOK τ 1) (hk : wFind τ 1 (τ.L 1100 k 0) = some k) (hP : ∀ m, LivU τ (wKs τ 1) m → nPa τ m ≤ 4) (hn : nL + 48 ≤ 260) : ∀ (x : Tr) {w a e sn : Nat} {Lc : Lcs} {p : Tr × Lcs × Nat}, kdO x = 30 → wt x 2 w a e → pcd x → Lc.length + (e - a) < 1000 → e ≤ 702 → ckS τ k st ms mt x 2 Lc sn = .ok p → SlK Lc sn → mxL x Lc.length ≤ nL → scBd nL (sls Lc) (rtS τ k ix p.1) := sorry
end SCB
