/-! The classes of a build behind bridges are in order; what must be known there. -/
section OWN
variable {τ0 τ1 τ2 : Sg} {B : Nat → Nat} {n L r b : Nat} {cs : List CRc}
/-- LinkHouse has come behind the bridges -/
def Ph2 (τ0 τ1 τ2 : Sg) (B : Nat → Nat) (n L r b : Nat) (cs : List CRc) : Prop := (RdT τ0 B n L b cs ∧ L ≤ r ∧ MOK τ0 ∧ OtK τ0 b cs.length ∧ pA1 τ0 b (yTok B n) cs.length = .ok ()) ∧ (JL τ0 τ1 b B n r cs.length ∧ IVm τ0 τ1 b cs.length cs.length 0 ∧ stP sm τ1 = stP sm τ0) ∧ (pA2 τ1 b cs.length = .ok () ∧ JL τ0 τ2 b B n r cs.length ∧ LBv τ1 τ2 b cs.length)
theorem Ph2.l1 (h : Ph2 τ0 τ1 τ2 B n L r b cs) : LA1 τ1 b r cs.length := sorry
theorem Ph2.bn (h : Ph2 τ0 τ1 τ2 B n L r b cs) : b < 16 ∧ cs.length ≤ 12 := sorry
theorem Ph2.ex (h : Ph2 τ0 τ1 τ2 B n L r b cs) : ExM τ1 τ2 := sorry
theorem Ph2.w1 (h : Ph2 τ0 τ1 τ2 B n L r b cs) : wKs τ1 1 = wKs τ0 1 := sorry
theorem Ph2.w2 (h : Ph2 τ0 τ1 τ2 B n L r b cs) : wKs τ2 1 = wKs τ0 1 := sorry
theorem Ph2.n1 (h : Ph2 τ0 τ1 τ2 B n L r b cs) (c : Nat) : nMe τ1 c = nMe τ0 c := sorry
/-- the head of a class of the build -/
theorem own_h (hR : RdT τ0 B n L b cs) {i : Nat} (hi : i < cs.length) : TyC (τ0.L 1100 (12 * b + i) 0) ∧ KPk τ0 (12 * b + i) ∧ (τ0.B 1104 (12 * b + i) 0 = true → τ0.B 1105 (12 * b + i) 0 = false) ∧ TyC (τ0.L 1107 (12 * b + i) 0) ∧ ∀ j, j < nFc τ0 (12 * b + i) → TyC (τ0.L 1108 (12 * b + i) j) := sorry
/-- members of a class of the build behind the bridges: told, the maker, bridges -/
theorem Ph2.mem (h : Ph2 τ0 τ1 τ2 B n L r b cs) {i : Nat} (hi : i < cs.length) : ∃ Bs, Dn τ1 τ2 (12 * b + i) Bs ∧ nMe τ2 (12 * b + i) = tmT τ1 (12 * b + i) + Bs.length ∧ ∀ j, j < nMe τ2 (12 * b + i) → (j < nMe τ1 (12 * b + i)) ∨ (needM τ1 (12 * b + i) = true ∧ j = nMe τ1 (12 * b + i)) ∨ ∃ x p, Bs[x]? = some p ∧ j = tmT τ1 (12 * b + i) + x := sorry
theorem Ph2.own (h : Ph2 τ0 τ1 τ2 B n L r b cs) {i : Nat} (hi : i < cs.length) : KGd τ2 (12 * b + i) := sorry
/-- all classes of the world are in order -/
theorem Ph2.all (h : Ph2 τ0 τ1 τ2 B n L r b cs) {c : Nat} (hc : c ∈ wKs τ2 1) : KGd τ2 c := sorry
theorem Ph2.mok (h : Ph2 τ0 τ1 τ2 B n L r b cs) : MOK τ2 := sorry
/-- the tree of a member -/
theorem Ph2.tr (h : Ph2 τ0 τ1 τ2 B n L r b cs) {i j : Nat} (hi : i < cs.length) (hj : j < nMe τ2 (12 * b + i)) : ∃ lo hi', lo ≤ hi' ∧ hi' ≤ 702 ∧ LTr τ0 (yTok B n) L (trB cs i j) lo hi' (τ2.I 1218 (33 * (12 * b + i) + j) 0) := sorry
/-- what kind of tree a member has -/
theorem Ph2.trk (h : Ph2 τ0 τ1 τ2 B n L r b cs) {i j : Nat} (hi : i < cs.length) (hj : j < nMe τ2 (12 * b + i)) : (whl (trB cs i j) ∧ lbg (trB cs i j)) ∧ toB cs i j ≤ 700 ∧ (τ2.I 1200 (33 * (12 * b + i) + j) 0 = 0 → trB cs i j = nl ∨ wt (trB cs i j) 0 1 (frB cs i j) (toB cs i j)) ∧ (¬ τ2.I 1200 (33 * (12 * b + i) + j) 0 = 0 → trB cs i j = nl ∨ (kdO (trB cs i j) = 30 ∧ wt (trB cs i j) 2 1 (frB cs i j) (toB cs i j))) ∧ (τ2.I 1200 (33 * (12 * b + i) + j) 0 = 3 → ¬ trB cs i j = nl ∧ j < nMe τ0 (12 * b + i)) := sorry
theorem Ph2.l2 (h : Ph2 τ0 τ1 τ2 B n L r b cs) : LA2 τ0 τ2 b (yTok B n) r L cs.length (trB cs) := sorry
end OWN
