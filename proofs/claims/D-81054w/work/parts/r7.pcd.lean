/-! In all trees of a tape that was read operators hang as they must. -/
theorem pq_nl {n : Nat} : pq n nl := sorry
/-- a member's tree -/
def PcB (mr : MRc) : Prop := pcd mr.2.2.2.2.2.2.2.2.2.2
theorem pMem_wp {T : Nat → Tk} {f t : Nat} {z : MRc × Nat} (h : pMem T f t = .ok z) : PcB z.1 := sorry
theorem pMs_wp {T : Nat → Tk} {f : Nat} : ∀ (g k t : Nat) (z : List MRc × Nat), pMs T f g k t = .ok z → ∀ mr, mr ∈ z.1 → PcB mr := sorry
theorem pKl_wp {T : Nat → Tk} {f k t : Nat} {z : CRc × Nat} (h : pKl T f k t = .ok z) : ∀ mr, mr ∈ z.1.2.2.2.2.2.2.2.2.2 → PcB mr := sorry
theorem pAll_wp {T : Nat → Tk} {f : Nat} : ∀ (g k t : Nat) (z : List CRc × Nat), pAll T f g k t = .ok z → ∀ cr, cr ∈ z.1 → ∀ mr, mr ∈ cr.2.2.2.2.2.2.2.2.2 → PcB mr := sorry
/-- ALL TREES OF A TAPE -/
theorem pcd_trB {T : Nat → Tk} {f g k t : Nat} {z : List CRc × Nat} (h : pAll T f g k t = .ok z) (i j : Nat) : pcd (trB z.1 i j) := sorry
