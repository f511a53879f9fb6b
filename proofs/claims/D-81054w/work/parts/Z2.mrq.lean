/-! The model's members, while it judges. -/
theorem mM_k {b i j : Nat} (hb : 12 * b + i < 192) (hj : j < 33) : mM (33 * (12 * b + i) + j) = 34 * (12 * b + i) + j := sorry
theorem pMq_told {τ : Sg} {b nk k j x : Nat} (hj : j < nMe τ k) (h33 : nMe τ k ≤ 33) (hx : ¬ x = 2141) (hx2 : ¬ x = 2156) : pMq τ b nk x (34 * k + j) = false := sorry
theorem pMq_told4 {τ : Sg} {b nk k j x i : Nat} (hj : j < nMe τ k) (h33 : nMe τ k ≤ 33) (hx : 2155 < x ∧ x ≤ 2159) (hi : i < 4) : pMq τ b nk x (4 * (34 * k + j) + i) = false := sorry
section RQ
variable {μ τ0 τ1 τ2 u : Sg} {B : Nat → Nat} {n L r b : Nat} {cs : List CRc}
/-- a told member as it was read, kept through the phases -/
theorem MH.rq (hm : MH τ0 μ B n L b cs) (hF : FJ (pP5 τ1 b cs.length) μ u) (hn : ∀ c, nMe τ1 c = nMe τ0 c) {i j : Nat} (hi : i < cs.length) (hj : j < nMe τ0 (12 * b + i)) : ∃ mr cr lo hi', mrX cs i j = some mr ∧ hi' ≤ 900 ∧ MRq u b (yTok B n) (cr : Bool) (34 * (12 * b + i) + j) mr lo hi' := sorry
/-- what its columns say -/
theorem rq_x {T : Nat → Tk} {face : Bool} {q lo hi : Nat} {mr : MRc} (h : MRq u b T face q mr lo hi) : (mr.1 = 0 → MTr u b T mr.2.2.2.2.2.2.2.2.2.2 lo hi (u.I 2160 0 q)) ∧ (¬ mr.1 = 0 → MTr u b T mr.2.2.2.2.2.2.2.2.2.2 lo hi (u.I 2161 0 q)) ∧ (u.I 2168 0 q = nI 0 ∧ u.I 2152 0 q = nI (T mr.2.2.2.2.2.1).2.2.1) ∧ (∀ k, k < mr.2.2.2.2.2.2.2.1.length → u.L 2158 0 (4 * q + k) = lN (T (mr.2.2.2.2.2.2.2.1.getD k (0, 0)).2).2.1 ∧ u.I 2159 0 (4 * q + k) = nI (T (mr.2.2.2.2.2.2.2.1.getD k (0, 0)).2).2.2.1) ∧ (mr.2.2.2.2.2.2.2.2.2.2 = nl ∨ isT mr.2.2.2.2.2.2.2.2.2.2 = true) := sorry
/-- the tokens of a member's tree -/
theorem RdT.toL (hR : RdT τ0 B n L b cs) {i j : Nat} (hi : i < cs.length) : toB cs i j ≤ L := sorry
theorem Ph2.nm (h : Ph2 τ0 τ1 τ2 B n L r b cs) {i j : Nat} (hi : i < cs.length) (hj : j < nMe τ2 (12 * b + i)) : nmT (yTok B n) L (trB cs i j) := sorry
theorem Ph2.hht (h : Ph2 τ0 τ1 τ2 B n L r b cs) {i j : Nat} (hi : i < cs.length) (hj : j < nMe τ2 (12 * b + i)) : ht (trB cs i j) ≤ 365 := sorry
/-- a member of sort 0 or 3 was told -/
theorem Ph2.told0 (h : Ph2 τ0 τ1 τ2 B n L r b cs) {i j : Nat} (hi : i < cs.length) (hj : j < nMe τ2 (12 * b + i)) (z : τ2.I 1200 (33 * (12 * b + i) + j) 0 = 0) : j < nMe τ0 (12 * b + i) := sorry
theorem Ph2.trm (h : Ph2 τ0 τ1 τ2 B n L r b cs) (hm : MH τ0 μ B n L b cs) (hF : FJ (pP5 τ1 b cs.length) μ u) {i : Nat} (hi : i < cs.length) : TrM τ2 u (yTok B n) L b (12 * b + i) (trB cs i) := sorry
theorem Ph2.cs0 (h : Ph2 τ0 τ1 τ2 B n L r b cs) : Cs0 τ2 b cs.length 0 0 := sorry
end RQ
