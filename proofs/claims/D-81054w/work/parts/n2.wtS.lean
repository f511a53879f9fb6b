/-! Judged S's are well typed. -/
/-- what an S declares: slots, types -/
def dcl : Tr → List (Nat × Int64)
  | .leaf => []
  | .inner _ b _ x y => if b.1 = 0 ∨ b.1 = 41 then dcl x ++ dcl y else if b.1 = 30 then dcl x else if b.1 = 31 then [(b.2.2.2.2.2.2.2.2.2 - 1, lN b.2.2.2.2.2.1)] else if b.1 = 32 ∨ b.1 = 33 then dcl y else if b.1 = 36 then dcl x ++ ((b.2.2.2.2.2.2.2.2.2 - 1, lN b.2.2.2.2.2.1) :: dcl y) else []
/-- slots grow -/
def Inc : Nat → List (Nat × Int64) → Nat → Prop
  | lo, [], hi => lo ≤ hi
  | lo, d :: D, hi => lo ≤ d.1 ∧ Inc (d.1 + 1) D hi
/-- types by slots -/
def glk : List (Nat × Int64) → (Nat → Int64) → Nat → Int64
  | [], g => g
  | d :: D, g => fun i => if i = d.1 then d.2 else glk D g i
theorem Inc.le : ∀ (D : List (Nat × Int64)) {lo hi : Nat}, Inc lo D hi → lo ≤ hi := sorry
theorem Inc.low : ∀ (D : List (Nat × Int64)) {lo lo' hi : Nat}, Inc lo D hi → lo' ≤ lo → Inc lo' D hi := sorry
theorem Inc.app : ∀ (D E : List (Nat × Int64)) {lo mi hi : Nat}, Inc lo D mi → Inc mi E hi → Inc lo (D ++ E) hi := sorry
theorem Inc.up : ∀ (D : List (Nat × Int64)) {lo hi hi' : Nat}, Inc lo D hi → hi ≤ hi' → Inc lo D hi' := sorry
theorem glk_lo {g : Nat → Int64} : ∀ (D : List (Nat × Int64)) {lo hi : Nat}, Inc lo D hi → ∀ i, i < lo → glk D g i = g i := sorry
theorem glk_in {g : Nat → Int64} : ∀ (D : List (Nat × Int64)) {lo hi : Nat}, Inc lo D hi → ∀ d, d ∈ D → glk D g d.1 = d.2 ∧ lo ≤ d.1 ∧ d.1 < hi := sorry
section DCL
variable {τ : Sg} {k : Nat} {st : Bool} {ms : Int32} {mt : Int64}
theorem dcl_41 {sz : Nat} {b : Lb} {u : Unit} {x y : Tr} (h : b.1 = 0 ∨ b.1 = 41) : dcl (.inner sz b u x y) = dcl x ++ dcl y := sorry
theorem dcl_30 {sz : Nat} {b : Lb} {u : Unit} {x y : Tr} (h : b.1 = 30) : dcl (.inner sz b u x y) = dcl x := sorry
theorem dcl_31 {sz : Nat} {b : Lb} {u : Unit} {x y : Tr} (h : b.1 = 31) : dcl (.inner sz b u x y) = [(b.2.2.2.2.2.2.2.2.2 - 1, lN b.2.2.2.2.2.1)] := sorry
theorem dcl_32 {sz : Nat} {b : Lb} {u : Unit} {x y : Tr} (h : b.1 = 32 ∨ b.1 = 33) : dcl (.inner sz b u x y) = dcl y := sorry
theorem dcl_36 {sz : Nat} {b : Lb} {u : Unit} {x y : Tr} (h : b.1 = 36) : dcl (.inner sz b u x y) = dcl x ++ ((b.2.2.2.2.2.2.2.2.2 - 1, lN b.2.2.2.2.2.1) :: dcl y) := sorry
theorem dcl_n {sz : Nat} {b : Lb} {u : Unit} {x y : Tr} (h : b.1 = 34 ∨ b.1 = 35 ∨ b.1 = 37 ∨ b.1 = 38 ∨ b.1 = 39 ∨ b.1 = 40) : dcl (.inner sz b u x y) = [] := sorry
/-- the slots of an S grow -/
theorem dcl_inc : ∀ (x : Tr) {m w a e f sn : Nat} {Lc : Lcs} {p : Tr × Lcs × Nat}, wt x m w a e → m = 2 ∨ m = 3 ∨ m = 4 ∨ m = 6 → ckS τ k st ms mt x f Lc sn = .ok p → Inc sn (dcl p.1) p.2.2 := sorry
end DCL
