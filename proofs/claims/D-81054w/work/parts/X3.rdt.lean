/-! What was read of a build: classes and members by number, their ranges. -/
theorem MsW.at : ∀ {ms : List MRc} {a e : Nat}, MsW ms a e → ∀ {j : Nat} {mr : MRc}, ms[j]? = some mr → ∃ a' e', a ≤ a' ∧ e' < e ∧ WfT a' e' mr := sorry
theorem WfT.to {a e : Nat} {mr : MRc} (h : WfT a e mr) : mr.2.2.2.2.2.2.2.2.2.1 ≤ e ∧ (mr.2.2.2.2.2.2.2.2.2.1 = 0 ∨ a ≤ mr.2.2.2.2.2.2.2.2.1) := sorry
theorem MsW.dis : ∀ {ms : List MRc} {a e : Nat}, MsW ms a e → ∀ {j j' : Nat} {mr mr' : MRc}, j < j' → ms[j]? = some mr → ms[j']? = some mr' → mr'.2.2.2.2.2.2.2.2.2.1 = 0 ∨ mr.2.2.2.2.2.2.2.2.2.1 ≤ mr'.2.2.2.2.2.2.2.2.1 := sorry
theorem KsW.at : ∀ {cs : List CRc} {a e : Nat}, KsW cs a e → ∀ {i : Nat} {cr : CRc}, cs[i]? = some cr → ∃ a' e', a ≤ a' ∧ e' ≤ e ∧ MsW cr.2.2.2.2.2.2.2.2.2 a' e' := sorry
theorem KsW.dis : ∀ {cs : List CRc} {a e : Nat}, KsW cs a e → ∀ {i i' j j' : Nat} {cr cr' : CRc} {mr mr' : MRc}, i < i' → cs[i]? = some cr → cs[i']? = some cr' → cr.2.2.2.2.2.2.2.2.2[j]? = some mr → cr'.2.2.2.2.2.2.2.2.2[j']? = some mr' → mr'.2.2.2.2.2.2.2.2.2.1 = 0 ∨ mr.2.2.2.2.2.2.2.2.2.1 ≤ mr'.2.2.2.2.2.2.2.2.1 := sorry
/-- the member j of class i -/
def mrX (cs : List CRc) (i j : Nat) : Option MRc := cs[i]?.bind fun cr => cr.2.2.2.2.2.2.2.2.2[j]?
def trB (cs : List CRc) (i j : Nat) : Tr := ((mrX cs i j).map fun mr => mr.2.2.2.2.2.2.2.2.2.2).getD nl
def frB (cs : List CRc) (i j : Nat) : Nat := ((mrX cs i j).map fun mr => mr.2.2.2.2.2.2.2.2.1).getD 0
def toB (cs : List CRc) (i j : Nat) : Nat := ((mrX cs i j).map fun mr => mr.2.2.2.2.2.2.2.2.2.1).getD 0
theorem mrX_dis {cs : List CRc} {L i j i' j' : Nat} (h : KsW cs 0 L) (hne : ¬ (i = i' ∧ j = j')) : toB cs i j ≤ frB cs i' j' ∨ toB cs i' j' ≤ frB cs i j := sorry
/-- a build as it was read -/
def RdT (τ : Sg) (B : Nat → Nat) (n L b : Nat) (cs : List CRc) : Prop := (∃ m, m ≤ 702 ∧ KsR τ (yTok B n) L b 0 cs 0 m) ∧ KsW cs 0 L ∧ (∀ cr, cr ∈ cs → WfC (yTok B n) L cr ∧ ∀ mr, mr ∈ cr.2.2.2.2.2.2.2.2.2 → WfB mr) ∧ cs.length ≤ 12 ∧ L ≤ 701
section RD
variable {τ : Sg} {B : Nat → Nat} {n L b : Nat} {cs : List CRc}
theorem RdT.k (h : RdT τ B n L b cs) {i : Nat} (hi : i < cs.length) : ∃ cr lo hi, cs[i]? = some cr ∧ hi ≤ 702 ∧ KRec τ (yTok B n) L (12 * b + i) b i cr lo hi ∧ WfC (yTok B n) L cr ∧ ∀ mr, mr ∈ cr.2.2.2.2.2.2.2.2.2 → WfB mr := sorry
theorem RdT.m (h : RdT τ B n L b cs) {i j : Nat} (hi : i < cs.length) (hj : j < nMe τ (12 * b + i)) : ∃ mr lo hi, ∃ face : Bool, mrX cs i j = some mr ∧ hi ≤ 702 ∧ τ.B 1102 (12 * b + i) 0 = face ∧ MRec τ (yTok B n) L (33 * (12 * b + i) + j) (12 * b + i) face mr lo hi ∧ WfM (yTok B n) L mr ∧ WfB mr ∧ ∃ a e, e < L ∧ WfT a e mr := sorry
theorem RdT.tr (h : RdT τ B n L b cs) {i j : Nat} {mr : MRc} (e : mrX cs i j = some mr) : trB cs i j = mr.2.2.2.2.2.2.2.2.2.2 ∧ frB cs i j = mr.2.2.2.2.2.2.2.2.1 ∧ toB cs i j = mr.2.2.2.2.2.2.2.2.2.1 := sorry
/-- a member that was not read has no tree -/
theorem RdT.no (h : RdT τ B n L b cs) {i j : Nat} (hi : i < cs.length) (hj : nMe τ (12 * b + i) ≤ j) : trB cs i j = nl ∧ frB cs i j = 0 ∧ toB cs i j = 0 := sorry
end RD
