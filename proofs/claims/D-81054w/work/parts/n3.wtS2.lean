/-! Judged S's are well typed: the theorem. -/
/-- what is known of an S's class and member -/
def WtM (τ s : Sg) (k : Nat) (st : Bool) (ms : Int32) (mt : Int64) : Prop := (¬ ms = 1 → mt = 0) ∧ (ms = 2 → st = false) ∧ s.L 1107 k 0 = τ.L 1107 k 0 ∧ s.B 1102 k 0 = τ.B 1102 k 0
/-- the shape of a row, an S, a pair -/
def ShS (m : Nat) (X : RT) : Prop := (m = 2 → 30 ≤ rOp X ∧ ¬ rOp X = 41) ∧ (m = 3 → rLf X = true ∨ rOp X = 0) ∧ (m = 4 → rLf X = false ∧ rOp X = 41) ∧ (m = 6 → rLf X = true ∨ (30 ≤ rOp X ∧ ¬ rOp X = 41))
section WTS
variable {τ s : Sg} {k nl : Nat} {Γ : Nat → Int64} {st : Bool} {ix : Us → Nat} {UF : List Us} {ms : Int32} {mt : Int64}
theorem ShS.sg {m : Nat} {X : RT} (hm : m = 2 ∨ m = 6) (h : 30 ≤ rOp X ∧ ¬ rOp X = 41) : ShS m X := sorry
theorem rtP_i {sz : Nat} {b : Lb} {u : Unit} {x1 y : Tr} {Y : RT} : rtP τ k ix (.inner sz b u x1 y) Y = if b.2.2.2.2.2.2.2.1 = 0 then rn (rb 40 0 0 b.2.2.2.2.2.2.2.2.1 (b.2.2.2.2.2.2.2.2.2 - 1) b.2.2.2.2.2.2.1 0 0) .leaf Y
    else if τ.B 1203 (mB b) 0 = true then rn (rb 42 0 0 0 0 b.2.2.2.2.2.2.1 (ix (uF τ k 6 (τ.L 1100 (cB b) 0) (mB b))) 0) .leaf Y
    else if b.1 = 17 then rn (rb 44 0 0 0 0 b.2.2.2.2.2.2.1 (ix (uF τ k 4 (τ.L 1100 (cB b) 0) (mB b))) 0) (rtE τ k ix x1) Y
    else rn (rb 43 0 0 0 0 b.2.2.2.2.2.2.1 (ix (uF τ k 4 (τ.L 1100 (cB b) 0) (mB b))) 0) .leaf Y := sorry
theorem ptU_i {sz : Nat} {b : Lb} {u : Unit} {x y : Tr} : ptU τ k (.inner sz b u x y) = if b.2.2.2.2.2.2.2.1 = 0 then [] else [uF τ k (if τ.B 1203 (mB b) 0 = true then 6 else 4) (τ.L 1100 (cB b) 0) (mB b)] := sorry
theorem ptO_i {sz : Nat} {b : Lb} {u : Unit} {x y : Tr} : ptO (.inner sz b u x y) = if b.1 = 17 then x else .leaf := sorry
/-- an E alone, of mode 0 -/
theorem wtE_0 (H : WtH τ s k ix UF) {Lc : Lcs} (hLc : Lc.length < 1000) (hL : LcT Γ nl st Lc) {x x1 : Tr} {w a e : Nat} (hw : wt x 0 w a e) (h : ckE τ k st Lc x = .ok x1) (hn : ∀ r, r ∈ ndE τ k x1 [] → r ∈ UF) : wtE s k Γ st nl (rtE τ k ix x1) ∧ isE1 (rtE τ k ix x1) ∧ rTy (rtE τ k ix x1) = tyO x1 := sorry
/-- a put -/
theorem wtP_of (H : WtH τ s k ix UF) {Lc : Lcs} (hLc : Lc.length < 1000) (hL : LcT Γ nl st Lc) {x x1 : Tr} {w a e : Nat} (hw : wt x 0 w a e) (h : ckE τ k st Lc x = .ok x1) (hp : ckPt τ k ms x1 = true) (hn : ∀ r, r ∈ ndE τ k (ptO x1) [] → r ∈ UF) (hn2 : ∀ r, r ∈ ptU τ k x1 → r ∈ UF) {Y : RT} (y1 : wtE s k Γ st nl Y) (y2 : isEx Y) (y3 : wtFt s k (rTy Y) (tyO x1)) : wtS s k Γ st nl mt (rtP τ k ix x1 Y) ∧ (30 ≤ rOp (rtP τ k ix x1 Y) ∧ ¬ rOp (rtP τ k ix x1 Y) = 41) := sorry
/-- AN S THAT WAS JUDGED IS WELL TYPED -/
theorem wtS_of (H : WtH τ s k ix UF) (HM : WtM τ s k st ms mt) : ∀ (x : Tr) {m w a e f sn : Nat} {Lc : Lcs} {p : Tr × Lcs × Nat}, wt x m w a e → m = 2 ∨ m = 3 ∨ m = 4 ∨ m = 6 → Lc.length + (e - a) < 1000 → ckS τ k st ms mt x f Lc sn = .ok p → LcT Γ nl st Lc → (∀ d, d ∈ dcl p.1 → Γ d.1 = d.2) → p.2.2 ≤ nl → (st = false → 1 ≤ sn) → (∀ r, r ∈ ndS τ k mt p.1 → r ∈ UF) → wtS s k Γ st nl mt (rtS τ k ix p.1) ∧ ShS m (rtS τ k ix p.1) ∧ LcT Γ nl st p.2.1 := sorry
end WTS
