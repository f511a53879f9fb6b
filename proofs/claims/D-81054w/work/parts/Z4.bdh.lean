/-! The model judges bodies: what is asked. -/
section RQ
variable {μ τ0 τ1 τ2 u u4 u5 u6 : Sg} {B : Nat → Nat} {n L r b : Nat} {cs : List CRc} {Bf : Nat → BrL}
theorem Ph2.jms (h : Ph2 τ0 τ1 τ2 B n L r b cs) (hC : CdH (t3 τ2 b cs)) {k : Nat} : JMs (t3 τ2 b cs) k := sorry
/-- the params of a told member -/
theorem Ph2.pms (h : Ph2 τ0 τ1 τ2 B n L r b cs) {i j : Nat} {mr : MRc} (hi : i < cs.length) (hj : j < nMe τ0 (12 * b + i)) (e : mrX cs i j = some mr) : nPa (t3 τ2 b cs) (33 * (12 * b + i) + j) = mr.2.2.2.2.2.2.2.1.length ∧ (∀ k, k < mr.2.2.2.2.2.2.2.1.length → (t3 τ2 b cs).L 1210 (33 * (12 * b + i) + j) k = lN (yTok B n (mr.2.2.2.2.2.2.2.1.getD k (0, 0)).2).2.1 ∧ tkN ((t3 τ2 b cs).I 1211 (33 * (12 * b + i) + j) k) + 1 = (mr.2.2.2.2.2.2.2.1.getD k (0, 0)).2) ∧ (t3 τ2 b cs).I 1214 (33 * (12 * b + i) + j) 0 = nI mr.2.2.2.2.2.1 ∧ mr.2.2.2.2.2.1 < L ∧ (t3 τ2 b cs).I 1200 (33 * (12 * b + i) + j) 0 = nI mr.1 ∧ mr.1 < 4 := sorry
/-- a tree of the model that was read, for judging -/
theorem MTr_bd {T : Nat → Tk} {x : Tr} {lo hi m w a e : Nat} {v : Int32} (hb : b < 16) (h : MTr u5 b T x lo hi v) (hh : hi ≤ 900) (hF : FJ (pCm b) u5 u6) (hw : x = .leaf ∨ ((m = 0 ∨ m = 2) ∧ wt x m w a e)) : MTg u6 b (NdC u6 T) x 0 1700 v := sorry
theorem Ph2.bdh (h : Ph2 τ0 τ1 τ2 B n L r b cs) (hm : MH τ0 μ B n L b cs) (hA : wFind τ0 1 6927257 = some 192) (hC : CdH (t3 τ2 b cs)) (hF5 : FJ (pP5 τ1 b cs.length) μ u5) (hD : BrD τ1 u5 b cs.length Bf) (hF6 : FJ (pCm b) u5 u6) {i j : Nat} (hi : i < cs.length) (hj : j < nMe (t3 τ2 b cs) (12 * b + i)) (hbr : (t3 τ2 b cs).B 1206 (33 * (12 * b + i) + j) 0 = false) (hJ6 : JgU (t3 τ2 b cs) u6 (12 * b + i)) : BdH (t3 τ2 b cs) u6 B n L b (12 * b + i) (33 * (12 * b + i) + j) (trB cs i j) (frB cs i j) (toB cs i j) := sorry
end RQ
