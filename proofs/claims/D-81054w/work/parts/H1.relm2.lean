/-! Members when they are judged: LinkHouse's and the model's. -/
/-- makers and starts are told with no word -/
def WfB (mr : MRc) : Prop := 2 ≤ mr.1 → mr.2.2.1 = false ∧ mr.2.2.2.1 = false ∧ mr.2.2.2.2.1 = false
theorem pMem_wb {T : Nat → Tk} {f t : Nat} {z : MRc × Nat} (h : pMem T f t = .ok z) : WfB z.1 := sorry
theorem pMs_wb {T : Nat → Tk} {f : Nat} : ∀ (g k t : Nat) (z : List MRc × Nat), pMs T f g k t = .ok z → ∀ mr, mr ∈ z.1 → WfB mr := sorry
theorem pKl_wb {T : Nat → Tk} {f k t : Nat} {z : CRc × Nat} (h : pKl T f k t = .ok z) : ∀ mr, mr ∈ z.1.2.2.2.2.2.2.2.2.2 → WfB mr := sorry
theorem pAll_wb {T : Nat → Tk} {f : Nat} : ∀ (g k t : Nat) (z : List CRc × Nat), pAll T f g k t = .ok z → ∀ cr, cr ∈ z.1 → ∀ mr, mr ∈ cr.2.2.2.2.2.2.2.2.2 → WfB mr := sorry
/-- the rest of what was read of a member -/
def MM9 (τ σ : Sg) (k m q so told : Nat) : Prop := σ.I 2144 0 q = mAcM (τ.B 1102 k 0) so told ∧ σ.B 2147 0 q = mBrM (τ.B 1102 k 0) so (!decide (τ.I 1218 m 0 = (-2))) (τ.B 1205 m 0) ∧ (σ.B 2149 0 q = false ∧ σ.B 2164 0 q = false ∧ σ.I 2165 0 q = 0) ∧ (τ.B 1206 m 0 = false ∧ τ.B 1212 m 0 = false ∧ τ.I 1213 m 0 = 0) ∧ τ.R 1222 m 0 = some k ∧ (2 ≤ so → τ.B 1205 m 0 = false)
theorem MM9_stJ {τ σ : Sg} {k m q so told : Nat} : MM9 τ (stJ σ) k m q so told ↔ MM9 τ σ k m q so told := sorry
section REL
variable {τ σ : Sg} {B : Nat → Nat} {n L b k j lo hi lo2 hi2 : Nat} {mr : MRc} {face : Bool}
theorem rel_9 (hf : τ.B 1102 (12 * b + k) 0 = face) (hR : MRec τ (yTok B n) L (33 * (12 * b + k) + j) (12 * b + k) face mr lo hi) (hQ : MRq σ b (yTok B n) face (34 * (12 * b + k) + j) mr lo2 hi2) (hw : WfB mr) : MM9 τ σ (12 * b + k) (33 * (12 * b + k) + j) (34 * (12 * b + k) + j) mr.1 mr.2.1 := sorry
end REL
theorem MSg_sm {τ s σ : Sg} {m q : Nat} (he : stP sm s = stP sm τ) (h : MSg τ σ m q) : MSg s σ m q := sorry
theorem MK1_sm {τ s σ : Sg} {c : Nat} (he : stP sm s = stP sm τ) (h : MK1 τ σ c) : MK1 s σ c := sorry
theorem MK2_sm {τ s σ : Sg} {c : Nat} (he : stP sm s = stP sm τ) (h : MK2 τ σ c) : MK2 s σ c := sorry
theorem KPk_sm {τ s : Sg} {c : Nat} (he : stP sm s = stP sm τ) (h : KPk τ c) : KPk s c := sorry
/-- a member that may be as it is told: when judged, LinkHouse's and the model's agree -/
theorem MM_of {τ s σ : Sg} {T : Nat → Tk} {k j q so told : Nat} (h0 : MM0 τ σ T k (33 * k + j) q so told) (h9 : MM9 τ σ k (33 * k + j) q so told) (hD : MDn τ s k j) (he : stP sm s = stP sm τ) (hmay : jMay τ k (33 * k + j) = true) : MM s σ (33 * k + j) q := sorry
