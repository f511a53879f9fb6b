/-! The classes of the build that is judged: what is known when their members were judged. -/
theorem jFor_ok {g : Nat → PR Unit} : ∀ (n j : Nat) {u : Unit}, jFor g n j = .ok u → ∀ i, j ≤ i → i < j + n → g i = .ok () := sorry
theorem ckP_ok {c : Bool} {f t : Nat} {u : Unit} (h : ckP c f t = .ok u) : c = true := sorry
theorem jMm_ok {τ : Sg} {k j : Nat} {T : Nat → Tk} {u : Unit} (h : jMm τ k T j = .ok u) : jMay τ k (33 * k + j) = true ∧ ∀ i, i < j → jDup τ (33 * k + j) (33 * k + i) = false := sorry
theorem mAlk_cm {σ : Sg} {a b : Nat} (h : mAlk σ a b = true) : mAlk σ b a = true := sorry
theorem UqM_of {τ : Sg} {k : Nat} {T : Nat → Tk} (h : ∀ j, j < nMe τ k → jMm τ k T j = .ok ()) : UqM τ k := sorry
theorem UqM_sm {τ s : Sg} {c : Nat} (he : stP sm s = stP sm τ) (h : UqM τ c) : UqM s c := sorry
theorem mAc_lt {f : Bool} {so told : Nat} : ∃ a, a < 4 ∧ mAc f so told = nI a := sorry
theorem tyT_n2 {B : Nat → Nat} {n t : Nat} (h : tyS (yTok B n t).1) : ¬ lN (tyT (yTok B n) t) = 2 := sorry
/-- a class of the build, when its members were judged -/
theorem AbU_b {τ s σ : Sg} {B : Nat → Nat} {n k : Nat} (hS : Shp τ) (hk : k < 192) (h1 : MK1 τ σ k) (h2 : MK2 τ σ k) (hc : σ.I 2141 0 (cM k) = nI (nMe τ k)) (hm : ∀ j, j < nMe τ k → ∃ so told, MM0 τ σ (yTok B n) k (33 * k + j) (34 * cM k + j) so told ∧ MM9 τ σ k (33 * k + j) (34 * cM k + j) so told) (hD : ∀ j, j < nMe τ k → MDn τ s k j) (he : stP sm s = stP sm τ) (hok : ∀ j, j < nMe τ k → jMm τ k (yTok B n) j = .ok ()) : k < cnt 1 ∧ MK1 s σ k ∧ KPk s k ∧ MKm s σ k ∧ OfK s k ∧ (∀ j, j < nMe s k → ∃ a, a < 4 ∧ s.I 1202 (33 * k + j) 0 = nI a) ∧ UqM s k ∧ ∀ j, j < nMe s k → ¬ s.L 1207 (33 * k + j) 0 = 2 := sorry
