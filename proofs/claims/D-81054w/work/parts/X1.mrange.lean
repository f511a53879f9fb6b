/-! What the grammar leaves: the ranges of members, their trees. -/
theorem pPar_len {T : Nat → Tk} : ∀ (g k t : Nat) (z : List (Nat × Nat) × Nat), k ≤ 4 → pPar T g k t = .ok z → k + z.1.length ≤ 4 ∧ t + 3 * z.1.length ≤ z.2 := sorry
theorem pPs_len {T : Nat → Tk} {t : Nat} {z : List (Nat × Nat) × Nat} (h : pPs T t = .ok z) : z.1.length ≤ 4 ∧ t + 3 * z.1.length ≤ z.2 := sorry
/-- the tree of a member: none, or of the tokens fr..to -/
def WtT (a e so fr to : Nat) (tr : Tr) : Prop := (tr = nl ∧ fr = 0 ∧ to = 0 ∧ ¬ so = 3 ∧ ¬ so = 2) ∨ (a + 1 ≤ fr ∧ fr < to ∧ to ≤ e ∧ (so = 0 → a + 3 ≤ fr ∧ to + 1 ≤ e ∧ wt tr 0 1 fr to) ∧ (¬ so = 0 → kdO tr = 30 ∧ wt tr 2 1 fr to))
/-- a member's record, of the tokens a..e -/
def WfT (a e : Nat) (mr : MRc) : Prop := (mr.2.2.2.2.2.2.2.1.length ≤ 4 ∧ a < e) ∧ (mr.1 = 1 ∨ mr.1 = 2 → a + 2 + 3 * mr.2.2.2.2.2.2.2.1.length ≤ (if isT mr.2.2.2.2.2.2.2.2.2.2 = true then mr.2.2.2.2.2.2.2.2.1 else e - 1)) ∧ (whl mr.2.2.2.2.2.2.2.2.2.2 ∧ lbg mr.2.2.2.2.2.2.2.2.2.2) ∧ WtT a e mr.1 mr.2.2.2.2.2.2.2.2.1 mr.2.2.2.2.2.2.2.2.2.1 mr.2.2.2.2.2.2.2.2.2.2
theorem pp_21k {T : Nat → Tk} {f t w : Nat} {c : Tr} {z : Tr × Nat} (h : pp T f 21 t w c = .ok z) : kdO z.1 = 30 ∧ isT z.1 = true := sorry
theorem wt_lt2 {x : Tr} {m w a e : Nat} (h : wt x m w a e) (hm : m = 0 ∨ m = 2) : a < e := sorry
theorem pMem_wt {T : Nat → Tk} {f t : Nat} {z : MRc × Nat} (h : pMem T f t = .ok z) : WfT t z.2 z.1 := sorry
/-- members one behind the other, in the tokens a..e -/
def MsW : List MRc → Nat → Nat → Prop
  | [], a, e => a < e
  | m :: ms, a, e => ∃ c, WfT a c m ∧ MsW ms c e
theorem MsW.lt : ∀ {ms : List MRc} {a e : Nat}, MsW ms a e → a < e := sorry
theorem pMs_wt {T : Nat → Tk} {f : Nat} : ∀ (g k t : Nat) (z : List MRc × Nat), pMs T f g k t = .ok z → MsW z.1 t z.2 := sorry
/-- classes one behind the other; nF names of faces, and of what it is -/
def KsW : List CRc → Nat → Nat → Prop
  | [], a, e => a ≤ e
  | c :: cs, a, e => ∃ i j, a + 3 + 2 * c.2.2.2.2.1.length + (if c.2.2.2.1 = 0 then 0 else 2) ≤ i ∧ MsW c.2.2.2.2.2.2.2.2.2 i j ∧ KsW cs j e
theorem KsW.le : ∀ {cs : List CRc} {a e : Nat}, KsW cs a e → a ≤ e := sorry
theorem pRow_len {T : Nat → Tk} {most : Nat} : ∀ (g k t : Nat) (z : List Nat × Nat), pRow T most g k t = .ok z → t + 2 * z.1.length ≤ z.2 + 1 := sorry
theorem pOpR_len {T : Nat → Tk} {y : Bool × Nat} {s most t : Nat} {z : List Nat × Nat} (hy : pHa T s t = .ok y) (h : pOpR T y.1 most y.2 = .ok z) : t + 2 * z.1.length ≤ z.2 := sorry
theorem pKl_wt {T : Nat → Tk} {f k t : Nat} {z : CRc × Nat} (h : pKl T f k t = .ok z) : ∃ i, t + 3 + 2 * z.1.2.2.2.2.1.length + (if z.1.2.2.2.1 = 0 then 0 else 2) ≤ i ∧ MsW z.1.2.2.2.2.2.2.2.2.2 i z.2 := sorry
theorem pAll_wt {T : Nat → Tk} {f : Nat} : ∀ (g k t : Nat) (z : List CRc × Nat), pAll T f g k t = .ok z → KsW z.1 t z.2 := sorry
