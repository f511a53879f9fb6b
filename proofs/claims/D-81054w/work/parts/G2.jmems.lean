/-! Judging, LinkHouse: the members of all classes. -/
/-- member j of class k: judged; not yet -/
def MDn (τ s : Sg) (k j : Nat) : Prop := s.B 1203 (33 * k + j) 0 = jSta τ k (33 * k + j) ∧ s.B 1204 (33 * k + j) 0 = jFin τ k (33 * k + j) ∧ s.B 1205 (33 * k + j) 0 = jBar τ k (33 * k + j) ∧ (τ.I 1200 (33 * k + j) 0 = 0 → s.I 1221 (33 * k + j) 0 = nI (jSl2 τ k (jSta τ k (33 * k + j)) j)) ∧ (¬ τ.I 1200 (33 * k + j) 0 = 0 → s.I 1221 (33 * k + j) 0 = τ.I 1221 (33 * k + j) 0)
def MUn (τ s : Sg) (k j : Nat) : Prop := s.B 1203 (33 * k + j) 0 = τ.B 1203 (33 * k + j) 0 ∧ s.B 1204 (33 * k + j) 0 = τ.B 1204 (33 * k + j) 0 ∧ s.B 1205 (33 * k + j) 0 = τ.B 1205 (33 * k + j) 0 ∧ s.I 1221 (33 * k + j) 0 = τ.I 1221 (33 * k + j) 0
/-- fields of objects among the first j members -/
def jFls (τ : Sg) (k j : Nat) : Nat := fcount (fun i => decide (τ.I 1200 (33 * k + i) 0 = 0) && !jSta τ k (33 * k + i)) j 0
theorem fcount_last {p : Nat → Bool} : ∀ (n j : Nat), fcount p (n + 1) j = fcount p n j + (if p (j + n) = true then 1 else 0) := sorry
/-- the members before (i, j) are judged -/
def IVm (τ s : Sg) (b nk i j : Nat) : Prop := (∀ i' j', i' < nk → j' < nMe τ (12 * b + i') → ((i' < i ∨ (i' = i ∧ j' < j)) → MDn τ s (12 * b + i') j') ∧ (¬ (i' < i ∨ (i' = i ∧ j' < j)) → MUn τ s (12 * b + i') j')) ∧ ∀ i', i' < nk → (i' < i → s.I 1123 (12 * b + i') 0 = nI (jFls τ (12 * b + i') (nMe τ (12 * b + i')))) ∧ (i' = i → s.I 1123 (12 * b + i') 0 = nI (jFls τ (12 * b + i') j)) ∧ (i < i' → s.I 1123 (12 * b + i') 0 = 0)
theorem MDn.fl {τ s u : Sg} {k j : Nat} {p : Nat → Nat → Bool} (h : MDn τ s k j) (hF : Fl p s u) (hp : ∀ c, 1202 < c → c ≤ 1221 → p c (33 * k + j) = false) : MDn τ u k j := sorry
theorem MUn.fl {τ s u : Sg} {k j : Nat} {p : Nat → Nat → Bool} (h : MUn τ s k j) (hF : Fl p s u) (hp : ∀ c, 1202 < c → c ≤ 1221 → p c (33 * k + j) = false) : MUn τ u k j := sorry
theorem IVm.fl {τ s u : Sg} {b nk i j : Nat} {p : Nat → Nat → Bool} (h : IVm τ s b nk i j) (hF : Fl p s u) (hp : ∀ c x, 1202 < c → c ≤ 1221 → p c x = false) (hp2 : ∀ x, p 1123 x = false) : IVm τ u b nk i j := sorry
theorem IVm.next {τ s : Sg} {b nk i : Nat} (h : IVm τ s b nk i (nMe τ (12 * b + i))) : IVm τ s b nk (i + 1) 0 := sorry
theorem JL.tm {τ σ s : Sg} {b n r nk : Nat} {B : Nat → Nat} (h : JL τ σ b B n r nk) (hF : Fl (pJ b) σ s) (he : stP sm s = stP sm σ) (h602 : s.R 1602 0 0 = σ.R 1602 0 0) (hz : Zc σ s b := by exact ⟨rfl, rfl, rfl⟩) : JL τ s b B n r nk := sorry
theorem sm_1603 {σ : Sg} {v : Option Nat} : stP sm (sR σ 1603 0 0 v) = stP sm σ := sorry
section SPX
variable {l : Launch} {G : Gl} {d : Nat} {β : Type}
theorem ja_104 (hG : GOK G) {τ : Sg} {b n r nk : Nat} {B : Nat → Nat} {r1 : Option Nat} {K0 : β → Outcome → Sg → Prop} {Q : Outcome → Sg → Prop} {rest : Unit → PR β} (hd : 6 ≤ d) (hS0 : Shp τ) (hT : ∀ k j, k < nk → j < nMe τ (12 * b + k) → MmT τ (yTok B n) (33 * (12 * b + k) + j) r ∧ ∃ so, so < 4 ∧ τ.I 1200 (33 * (12 * b + k) + j) 0 = nI so) (hN : ∀ s, JL τ s b B n r nk → IVm τ s b nk nk 0 → stP sm s = stP sm τ → oJ G b (yTok B n) τ (rest ()) K0 = Q → ∃ m, wq_X6_all_169 l G d 0 r1 Q m 0 s) : ∀ (m i : Nat) (σ1 : Sg), i + m = nk → JL τ σ1 b B n r nk → IVm τ σ1 b nk i 0 → stP sm σ1 = stP sm τ → oJ G b (yTok B n) τ (bnd (jFor (jMs τ b (yTok B n)) m i) rest) K0 = Q → wq_X6_all_104 l G d 0 r1 Q (m + 1) (nI i) σ1 := sorry
end SPX
