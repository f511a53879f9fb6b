/-! The model judges: behind the bridges. -/
theorem MK2_sx {τ σ s : Sg} {c : Nat} (he : stP sx σ = stP sx τ) (h : MK2 τ s c) : MK2 σ s c := sorry
section RQ
variable {μ τ0 τ1 τ2 u u4 : Sg} {B : Nat → Nat} {n L r b : Nat} {cs : List CRc} {Bf : Nat → BrL}
theorem Ph2.brh (h : Ph2 τ0 τ1 τ2 B n L r b cs) (hm : MH τ0 μ B n L b cs) (hS0 : Shp τ0) (eu : stJ u = stJ μ) (h19 : u.I 2119 0 0 = nI b) : BrH τ1 u b cs.length (yTok B n) := sorry
/-- LinkHouse's bridges are the model's -/
theorem Ph2.bfe (h : Ph2 τ0 τ1 τ2 B n L r b cs) (hD : BrD τ1 u4 b cs.length Bf) {i : Nat} (hi : i < cs.length) : Dn τ1 τ2 (12 * b + i) (Bf (12 * b + i)) := sorry
theorem Ph2.mkm (h : Ph2 τ0 τ1 τ2 B n L r b cs) (hm : MH τ0 μ B n L b cs) (hS0 : Shp τ0) (eu : stJ u = stJ μ) (h19 : u.I 2119 0 0 = nI b) (hF : FJ (pQb τ1 b cs.length) u u4) (hD : BrD τ1 u4 b cs.length Bf) {c : Nat} (hc : c ∈ wKs τ2 1) : MKm τ2 u4 c := sorry
theorem Ph2.ovu (h : Ph2 τ0 τ1 τ2 B n L r b cs) (hm : MH τ0 μ B n L b cs) (hS0 : Shp τ0) (eu : stJ u = stJ μ) (h19 : u.I 2119 0 0 = nI b) (hF : FJ (pQb τ1 b cs.length) u u4) (hD : BrD τ1 u4 b cs.length Bf) : OvU τ2 u4 1 ∧ ∀ c, c ∈ wKs τ2 1 → MK2 τ2 u4 c := sorry
theorem Ph2.lkh (h : Ph2 τ0 τ1 τ2 B n L r b cs) (hm : MH τ0 μ B n L b cs) (hS0 : Shp τ0) (eu : stJ u = stJ μ) (h19 : u.I 2119 0 0 = nI b) (hF : FJ (pQb τ1 b cs.length) u u4) (hD : BrD τ1 u4 b cs.length Bf) : LkH τ2 u4 b cs.length (yTok B n) := sorry
/-- while bodies are judged -/
theorem Ph2.jgu (h : Ph2 τ0 τ1 τ2 B n L r b cs) (hm : MH τ0 μ B n L b cs) (hS0 : Shp τ0) (eu : stJ u = stJ μ) (h19 : u.I 2119 0 0 = nI b) (hF : FJ (pQb τ1 b cs.length) u u4) (hD : BrD τ1 u4 b cs.length Bf) {u5 : Sg} (e5 : stJ u5 = stJ u4) {i : Nat} (hi : i < cs.length) : JgU τ2 u5 (12 * b + i) := sorry
end RQ
/-- the columns that judging may change before the constants -/
def pP5 (τ : Sg) (b nk x j : Nat) : Bool := decide ((2119 < x ∧ x ≤ 2121) ∨ 2192 < x) || pMq τ b nk x j
theorem pP5_a {τ : Sg} {b nk x j : Nat} (h : (2119 < x ∧ x ≤ 2121) ∨ 2192 < x) : pP5 τ b nk x j = true := sorry
theorem pP5_no {τ : Sg} {b nk x j : Nat} (h : ¬ ((2119 < x ∧ x ≤ 2121) ∨ 2192 < x)) (h2 : pMq τ b nk x j = false) : pP5 τ b nk x j = false := sorry
theorem pHd_P5 {τ : Sg} {b nk : Nat} : ∀ x j, pHd x j = true → pP5 τ b nk x j = true := sorry
theorem pFt_P5 {τ : Sg} {b nk : Nat} : ∀ x j, pFt x j = true → pP5 τ b nk x j = true := sorry
theorem pAg_P5 {τ : Sg} {b nk : Nat} : ∀ x j, pAg x j = true → pP5 τ b nk x j = true := sorry
theorem pQb_P5 {τ : Sg} {b nk : Nat} : ∀ x j, pQb τ b nk x j = true → pP5 τ b nk x j = true := sorry
theorem pLm_P5 {τ : Sg} {b nk : Nat} : ∀ x j, pLm x j = true → pP5 τ b nk x j = true := sorry
