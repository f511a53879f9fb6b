/-! The model judges: what was read agrees with what LinkHouse read. -/
def RdQ (μ : Sg) (B : Nat → Nat) (n b : Nat) (cs : List CRc) : Prop := (∃ e2, e2 ≤ 900 ∧ KsQ μ b (yTok B n) 0 cs 0 e2) ∧ μ.I 2123 0 b = nI cs.length
section RQ
variable {μ τ0 : Sg} {B : Nat → Nat} {n L b : Nat} {cs : List CRc}
theorem RdQ.k (h : RdQ μ B n b cs) {i : Nat} {cr : CRc} (e : cs[i]? = some cr) : ∃ lo hi, hi ≤ 900 ∧ KRq μ b (yTok B n) (12 * b + i) cr lo hi := sorry
theorem RdQ.m (h : RdQ μ B n b cs) {i j : Nat} {mr : MRc} (e : mrX cs i j = some mr) : ∃ cr lo hi, cs[i]? = some cr ∧ hi ≤ 900 ∧ MRq μ b (yTok B n) (cr.2.2.1 == 3) (34 * (12 * b + i) + j) mr lo hi := sorry
/-- what is known when the model begins to judge: its classes are LinkHouse's -/
def MH (τ0 μ : Sg) (B : Nat → Nat) (n L b : Nat) (cs : List CRc) : Prop := (RdT τ0 B n L b cs ∧ RdQ μ B n b cs) ∧ MJ τ0 μ b (wKs τ0 1) ∧ (BOK B n ∧ NEt (yTok B n) L) ∧ (∀ k, k < cs.length → 12 * b + k ∈ wKs τ0 1 ∧ τ0.R 1126 (12 * b + k) 0 = some b) ∧ (∀ c, c ∈ wKs τ0 1 → ¬ (12 * b ≤ c ∧ c < 12 * b + cs.length) → MKm τ0 μ c) ∧ μ.B 2192 0 0 = false
theorem MH.bn (h : MH τ0 μ B n L b cs) : b < 16 ∧ cs.length ≤ 12 := sorry
end RQ
section RQ
variable {μ τ0 τ1 u : Sg} {B : Nat → Nat} {n L r b : Nat} {cs : List CRc}
theorem MH.k3 (h : MH τ0 μ B n L b cs) {k : Nat} (hk : k < cs.length) : MK3 τ0 μ (yTok B n) (12 * b + k) := sorry
theorem MH.mm (h : MH τ0 μ B n L b cs) {i j : Nat} (hi : i < cs.length) (hj : j < nMe τ0 (12 * b + i)) : ∃ mr, mrX cs i j = some mr ∧ MM0 τ0 μ (yTok B n) (12 * b + i) (33 * (12 * b + i) + j) (34 * (12 * b + i) + j) mr.1 mr.2.1 ∧ MM9 τ0 μ (12 * b + i) (33 * (12 * b + i) + j) (34 * (12 * b + i) + j) mr.1 mr.2.1 := sorry
theorem MH.n41 (h : MH τ0 μ B n L b cs) {i : Nat} (hi : i < cs.length) : μ.I 2141 0 (12 * b + i) = nI (nMe τ0 (12 * b + i)) ∧ nMe τ0 (12 * b + i) ≤ 20 ∧ (τ0.B 1104 (12 * b + i) 0 = true → τ0.B 1105 (12 * b + i) 0 = false) := sorry
theorem MK1_stJ {τ σ : Sg} {c : Nat} : MK1 τ (stJ σ) c ↔ MK1 τ σ c := sorry
theorem MKm_stJ {τ σ : Sg} {c : Nat} : MKm τ (stJ σ) c ↔ MKm τ σ c := sorry
theorem stJ_I {σ s : Sg} {c i j : Nat} (h : stJ s = stJ σ) (hc : scJ c = true) : s.I c i j = σ.I c i j := sorry
theorem MWd_sm {τ s σ : Sg} {w : Nat} {U : List Nat} (he : stP sm s = stP sm τ) (h : MWd τ σ w U) : MWd s σ w U := sorry
/-- the model's other classes, behind the members -/
theorem MH.oth (h : MH τ0 μ B n L b cs) (hO : OtK τ0 b cs.length) (hJ : JL τ0 τ1 b B n r cs.length) (eu : stJ u = stJ μ) {c : Nat} (hc : c ∈ wKs τ0 1) (hn : ¬ (12 * b ≤ c ∧ c < 12 * b + cs.length)) : KGd τ1 c ∧ MKm τ1 u c := sorry
/-- what stands above, behind the members -/
theorem MH.abu (h : MH τ0 μ B n L b cs) (hO : OtK τ0 b cs.length) (hJ : JL τ0 τ1 b B n r cs.length) (hA : pA1 τ0 b (yTok B n) cs.length = .ok ()) (hV : IVm τ0 τ1 b cs.length cs.length 0) (he : stP sm τ1 = stP sm τ0) (hS0 : Shp τ0) (eu : stJ u = stJ μ) : AbU τ1 u (wKs τ0 1) := sorry
theorem MH.mj1 (h : MH τ0 μ B n L b cs) (he : stP sm τ1 = stP sm τ0) (eu : stJ u = stJ μ) (h19 : u.I 2119 0 0 = nI b) : MJ τ1 u b (wKs τ0 1) := sorry
theorem MH.brh (h : MH τ0 μ B n L b cs) (hM : MOK τ0) (hr : L ≤ r) (hO : OtK τ0 b cs.length) (hJ : JL τ0 τ1 b B n r cs.length) (hA : pA1 τ0 b (yTok B n) cs.length = .ok ()) (hV : IVm τ0 τ1 b cs.length cs.length 0) (he : stP sm τ1 = stP sm τ0) (hS0 : Shp τ0) (eu : stJ u = stJ μ) (h19 : u.I 2119 0 0 = nI b) : BrH τ1 u b cs.length (yTok B n) := sorry
end RQ
