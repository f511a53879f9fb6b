/-! LinkHouse: what was read, before the build is judged. -/
section RD
variable {τ : Sg} {B : Nat → Nat} {n L b k j lo hi : Nat} {cr : CRc} {mr : MRc} {face : Bool}
theorem TkB.up {x : Int32} {L r : Nat} (h : TkB x L) (hr : L ≤ r) : TkB x r := sorry
/-- the tokens of a head -/
theorem rd_hd (hR : KRec τ (yTok B n) L (12 * b + k) b k cr lo hi) (hw : WfC (yTok B n) L cr) : HdT τ (12 * b + k) L := sorry
theorem HdT.up {r : Nat} {c : Nat} (h : HdT τ c L) (hr : L ≤ r) : HdT τ c r := sorry
/-- a class as it was read -/
theorem rd_k (hR : KRec τ (yTok B n) L (12 * b + k) b k cr lo hi) (hw : WfC (yTok B n) L cr) : (nMe τ (12 * b + k) = cr.2.2.2.2.2.2.2.2.2.length ∧ nMe τ (12 * b + k) ≤ 20 ∧ τ.I 1117 (12 * b + k) 0 = nI (nMe τ (12 * b + k))) ∧ (τ.I 1118 (12 * b + k) 0 = 0 ∧ τ.I 1123 (12 * b + k) 0 = 0) ∧ (TyC (τ.L 1100 (12 * b + k) 0) ∧ TyC (τ.L 1107 (12 * b + k) 0) ∧ nFc τ (12 * b + k) ≤ 4 ∧ ∀ j, j < nFc τ (12 * b + k) → TyC (τ.L 1108 (12 * b + k) j)) := sorry
/-- a member as it was read -/
theorem rd_m {q kk : Nat} (hR : MRec τ (yTok B n) L q kk face mr lo hi) (hw : WfM (yTok B n) L mr) (hl4 : mr.2.2.2.2.2.2.2.1.length ≤ 4) (hL : L ≤ 2 ^ 30) : (MmT τ (yTok B n) q L ∧ τ.I 1200 q 0 = nI mr.1 ∧ τ.I 1214 q 0 = nI mr.2.2.2.2.2.1) ∧ (τ.R 1222 q 0 = some kk ∧ τ.B 1206 q 0 = false ∧ τ.B 1212 q 0 = false ∧ τ.I 1219 q 0 = -2 ∧ τ.I 1220 q 0 = 0) ∧ (TyOK (τ.L 1207 q 0) ∧ ¬ τ.L 1207 q 0 = 2) ∧ (nPa τ q = mr.2.2.2.2.2.2.2.1.length ∧ nPa τ q ≤ 4) ∧ (∀ t, t ∈ pmL τ q → TyOK t ∧ ¬ t = 2) ∧ PmW τ q L ∧ LTr τ (yTok B n) L mr.2.2.2.2.2.2.2.2.2.2 lo hi (τ.I 1218 q 0) := sorry
end RD
