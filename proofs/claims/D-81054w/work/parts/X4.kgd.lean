/-! A class in order; LinkHouse behind the members. -/
/-- a member in order -/
def KGm (τ : Sg) (m : Nat) : Prop := (∃ a, a < 4 ∧ τ.I 1202 m 0 = nI a) ∧ (TyOK (τ.L 1207 m 0) ∧ ¬ τ.L 1207 m 0 = 2) ∧ (nPa τ m ≤ 4 ∧ ∀ t, t ∈ pmL τ m → TyOK t ∧ ¬ t = 2) ∧ (τ.I 1200 m 0 = 2 → τ.L 1201 m 0 = 0 ∧ τ.B 1206 m 0 = false ∧ τ.B 1203 m 0 = false) ∧ (τ.B 1212 m 0 = true → τ.B 1203 m 0 = true ∧ τ.I 1200 m 0 = 0) ∧ (τ.I 1200 m 0 = 0 ∨ τ.I 1200 m 0 = 1 ∨ τ.I 1200 m 0 = 2 ∨ τ.I 1200 m 0 = 3)
/-- members that are no bridges come first -/
def N21 (τ : Sg) (c : Nat) : Prop := ∀ j, j < nMe τ c → τ.B 1206 (33 * c + j) 0 = false → j < 21
/-- a class in order -/
def KGd (τ : Sg) (c : Nat) : Prop := (TyC (τ.L 1100 c 0) ∧ KPk τ c) ∧ (OfK τ c ∧ UqM τ c ∧ KSf τ c ∧ N21 τ c) ∧ (∀ j, j < nMe τ c → KGm τ (33 * c + j)) ∧ (τ.B 1104 c 0 = true → τ.B 1105 c 0 = false) ∧ (τ.B 1106 c 0 = true → TyC (τ.L 1107 c 0)) ∧ ∀ j, j < nFc τ c → TyC (τ.L 1108 c j)
theorem sm_R {σ s : Sg} {c i j : Nat} (h : stP sm s = stP sm σ) (hc : sm c = true) : s.R c i j = σ.R c i j := sorry
theorem wHr_sm {σ : Sg} {w a b : Nat} : wHr (stP sm σ) w a b ↔ wHr σ w a b := sorry
theorem pA1_ok {τ0 : Sg} {b nk : Nat} {T : Nat → Tk} (h : pA1 τ0 b T nk = .ok ()) : (∀ k, k < nk → jHd τ0 b (12 * b + k) = .ok ()) ∧ (∀ k, k < nk → ¬ wHr τ0 1 (12 * b + k) (12 * b + k)) ∧ ∀ k j, k < nk → j < nMe τ0 (12 * b + k) → jMm τ0 (12 * b + k) T j = .ok () := sorry
section LA
variable {τ0 : Sg} {B : Nat → Nat} {n L r b : Nat} {cs : List CRc}
theorem la_V0 (hR : RdT τ0 B n L b cs) {s : Sg} (h : stat s = stat τ0) : IVm τ0 s b cs.length 0 0 := sorry
theorem la_hT7 (hR : RdT τ0 B n L b cs) (hr : L ≤ r) : ∀ k, k < cs.length → HdT τ0 (12 * b + k) r := sorry
theorem MmT.up {τ : Sg} {T : Nat → Tk} {m r r' : Nat} (h : MmT τ T m r) (hr : r ≤ r') : MmT τ T m r' := sorry
theorem la_hT4 (hR : RdT τ0 B n L b cs) (hr : L ≤ r) : ∀ k j, k < cs.length → j < nMe τ0 (12 * b + k) → MmT τ0 (yTok B n) (33 * (12 * b + k) + j) r ∧ ∃ so, so < 4 ∧ τ0.I 1200 (33 * (12 * b + k) + j) 0 = nI so := sorry
theorem la_1 (hR : RdT τ0 B n L b cs) (hr : L ≤ r) (hM : MOK τ0) {s : Sg} (hJ : JL τ0 s b B n r cs.length) (hA : pA1 τ0 b (yTok B n) cs.length = .ok ()) (he : stP sm s = stP sm τ0) : LA1 s b r cs.length := sorry
end LA
