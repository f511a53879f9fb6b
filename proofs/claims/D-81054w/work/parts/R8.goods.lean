/-! What a judged S has; the uses of an S in the model's tables. -/
/-- an S, or a row of them, that was judged -/
def gdS (τ : Sg) (k : Nat) (ms : Int32) (mt : Int64) : Tr → Prop
  | .leaf => True
  | .inner _ b _ x y =>
    (b.1 = 0 ∨ b.1 = 41 → gdS τ k ms mt x ∧ gdS τ k ms mt y) ∧ (b.1 = 30 → gdS τ k ms mt x) ∧ (b.1 = 36 → gdS τ k ms mt x ∧ gdS τ k ms mt y ∧ ∃ c, wFind τ 1 (lN b.2.2.2.2.2.1) = some c) ∧ (b.1 = 32 ∨ b.1 = 33 → gdE τ x ∧ gdS τ k ms mt y) ∧
    (b.1 = 31 → gdE τ x ∧ wFits τ 1 (tyO x) (lN b.2.2.2.2.2.1) = true ∧ (b.2.2.2.2.2.1 = 1 ∨ ∃ c, wFind τ 1 (lN b.2.2.2.2.2.1) = some c)) ∧
    (b.1 = 34 → gdE τ x ∧ (isLf x = false → wFits τ 1 (tyO x) mt = true)) ∧ (b.1 = 35 → gdE τ x ∧ wFits τ 1 (tyO x) 6959884 = true) ∧ (b.1 = 37 ∨ b.1 = 39 → gdE τ x) ∧
    (b.1 = 38 → gdE τ x ∧ ∃ p, wPar τ 1 k = some p ∧ LivU τ [p] (mB b) ∧ τ.I 1200 (mB b) 0 = 2 ∧ ftL τ (tyL x) (pmL τ (mB b))) ∧
    (b.1 = 40 → gdE τ x ∧ gdE τ y ∧ wFits τ 1 (tyO y) (tyO x) = true ∧ ckPt τ k ms x = true)
theorem isLf_eq {x : Tr} (h : isLf x = true) : x = .leaf := sorry
theorem ckE_lf {τ : Sg} {k : Nat} {st : Bool} {Lc : List (Int64 × Int64 × Nat)} {x x' : Tr} {m w a e : Nat} (hm : m = 0 ∨ m = 1 ∨ m = 5) (hw : wt x m w a e) (h : ckE τ k st Lc x = .ok x') : isLf x = isLf x' := sorry
theorem ckS_gd {τ : Sg} {k : Nat} {st : Bool} {ms : Int32} {mt : Int64} (hW : WOK τ 1) (hk : wFind τ 1 (τ.L 1100 k 0) = some k) : ∀ (x : Tr) {m w a e f sn : Nat} {Lc : Lcs} {p : Tr × Lcs × Nat}, wt x m w a e → m = 2 ∨ m = 3 ∨ m = 4 ∨ m = 6 → Lc.length + (e - a) < 1000 → ckS τ k st ms mt x f Lc sn = .ok p → gdS τ k ms mt p.1 ∧ p.2.1.length ≤ Lc.length + (e - a) := sorry
