/-! What the grammar leaves is in order: tokens within, and of their sorts. -/
def tyS (x : Nat) : Prop := x = 216 ∨ x = 2
def WfP (T : Nat → Tk) (L : Nat) (ps : List (Nat × Nat)) : Prop := ∀ p, p ∈ ps → p.2 = p.1 + 1 ∧ p.2 < L ∧ tyS (T p.1).1 ∧ (T p.2).1 = 1
def WfR (T : Nat → Tk) (L : Nat) (ts : List Nat) : Prop := ∀ t, t ∈ ts → t < L ∧ (T t).1 = 2
/-- a member's record -/
def WfM (T : Nat → Tk) (L : Nat) (mr : MRc) : Prop := mr.1 < 4 ∧ mr.2.1 < 4 ∧ (mr.2.2.2.2.2.1 < L ∧ (mr.1 < 2 → (T mr.2.2.2.2.2.1).1 = 1)) ∧ (mr.2.2.2.2.2.2.1 = 0 ∨ (mr.2.2.2.2.2.2.1 ≤ L ∧ tyS (T (mr.2.2.2.2.2.2.1 - 1)).1)) ∧ (mr.1 = 0 → 0 < mr.2.2.2.2.2.2.1) ∧ (2 ≤ mr.1 → mr.2.2.2.2.2.2.1 = 0) ∧ WfP T L mr.2.2.2.2.2.2.2.1 ∧ (mr.1 = 0 ∨ mr.1 = 3 → mr.2.2.2.2.2.2.2.1 = [])
/-- a class's record -/
def WfC (T : Nat → Tk) (L : Nat) (cr : CRc) : Prop := (cr.1 < L ∧ (T cr.1).1 = 2) ∧ cr.2.2.1 < 4 ∧ (cr.2.2.2.1 = 0 ∨ (cr.2.2.2.1 ≤ L ∧ (T (cr.2.2.2.1 - 1)).1 = 2)) ∧ WfR T L cr.2.2.2.2.1 ∧ (cr.2.2.2.2.2.1 = 0 ∨ (cr.2.2.2.2.2.1 ≤ L ∧ (T (cr.2.2.2.2.2.1 - 1)).1 = 2)) ∧ WfR T L cr.2.2.2.2.2.2.1 ∧ (cr.2.2.2.2.2.2.2.1 = true ↔ 0 < cr.2.2.2.2.2.2.2.2.1.length) ∧ WfR T L cr.2.2.2.2.2.2.2.2.1 ∧ ∀ mr, mr ∈ cr.2.2.2.2.2.2.2.2.2 → WfM T L mr
theorem WfP.up {T : Nat → Tk} {L L' : Nat} {ps : List (Nat × Nat)} (h : WfP T L ps) (hL : L ≤ L') : WfP T L' ps := sorry
theorem WfR.up {T : Nat → Tk} {L L' : Nat} {ts : List Nat} (h : WfR T L ts) (hL : L ≤ L') : WfR T L' ts := sorry
theorem WfM.up {T : Nat → Tk} {L L' : Nat} {mr : MRc} (h : WfM T L mr) (hL : L ≤ L') : WfM T L' mr := sorry
theorem WfC.up {T : Nat → Tk} {L L' : Nat} {cr : CRc} (h : WfC T L cr) (hL : L ≤ L') : WfC T L' cr := sorry
theorem pRow_wf {T : Nat → Tk} {most : Nat} : ∀ (g k t : Nat) (z : List Nat × Nat), pRow T most g k t = .ok z → WfR T z.2 z.1 ∧ 0 < z.1.length ∧ t ≤ z.2 := sorry
theorem pPar_wf {T : Nat → Tk} : ∀ (g k t : Nat) (z : List (Nat × Nat) × Nat), pPar T g k t = .ok z → WfP T z.2 z.1 ∧ t ≤ z.2 := sorry
theorem pPs_wf {T : Nat → Tk} {t : Nat} {z : List (Nat × Nat) × Nat} (h : pPs T t = .ok z) : WfP T z.2 z.1 ∧ t ≤ z.2 := sorry
theorem mTo_lt {x : Nat} : mTo x < 4 := sorry
theorem pMem_wf {T : Nat → Tk} {f t : Nat} {z : MRc × Nat} (h : pMem T f t = .ok z) : WfM T z.2 z.1 := sorry
theorem pMs_wf {T : Nat → Tk} {f : Nat} : ∀ (g k t : Nat) (z : List MRc × Nat), pMs T f g k t = .ok z → ∀ mr, mr ∈ z.1 → WfM T z.2 mr := sorry
theorem pOpC_wf {T : Nat → Tk} {c : Bool} {t t' : Nat} (h : pOpC T c t = .ok t') : t ≤ t' ∧ ((if c = true then t + 1 else 0) = 0 ∨ ((if c = true then t + 1 else 0) ≤ t' ∧ (T ((if c = true then t + 1 else 0) - 1)).1 = 2)) := sorry
theorem pOpR_wf {T : Nat → Tk} {c : Bool} {most t : Nat} {z : List Nat × Nat} (h : pOpR T c most t = .ok z) : t ≤ z.2 ∧ WfR T z.2 z.1 ∧ (c = true ↔ 0 < z.1.length) := sorry
theorem pKl_wf {T : Nat → Tk} {f k t : Nat} {z : CRc × Nat} (h : pKl T f k t = .ok z) : WfC T z.2 z.1 ∧ t ≤ z.2 := sorry
theorem pAll_wf {T : Nat → Tk} {f : Nat} : ∀ (g k t : Nat) (z : List CRc × Nat), pAll T f g k t = .ok z → t ≤ z.2 ∧ ∀ cr, cr ∈ z.1 → WfC T z.2 cr := sorry
