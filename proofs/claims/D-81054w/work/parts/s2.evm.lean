/-! The model's rows that are carried. -/
def qcl (c : Nat) : Bool := decide (2141 < c ∧ c < 2169 ∧ ¬ (2155 < c ∧ c < 2162) ∧ ¬ c = 2167)
def zcl (c : Nat) : Bool := decide (2123 < c ∧ c < 2141 ∧ ¬ c = 2125 ∧ ¬ (2128 < c ∧ c < 2132) ∧ ¬ (2133 < c ∧ c < 2137) ∧ ¬ c = 2138 ∧ ¬ c = 2139)
/-- a member's rows in the model -/
def QEv (s t : Sg) (q q' : Nat) : Prop := (∀ c, qcl c = true → t.I c 0 q' = s.I c 0 q ∧ t.B c 0 q' = s.B c 0 q ∧ t.L c 0 q' = s.L c 0 q) ∧ ∀ i, i < 4 → t.L 2156 0 (4 * q' + i) = s.L 2156 0 (4 * q + i)
/-- a class's rows in the model -/
def ZEv (s t : Sg) (c c' : Nat) : Prop := (∀ x, zcl x = true → t.I x 0 c' = s.I x 0 c ∧ t.B x 0 c' = s.B x 0 c ∧ t.L x 0 c' = s.L x 0 c) ∧ (∀ i, i < 4 → t.L 2130 0 (4 * c' + i) = s.L 2130 0 (4 * c + i)) ∧ ∀ i, i < 8 → t.L 2135 0 (8 * c' + i) = s.L 2135 0 (8 * c + i) ∧ t.L 2138 0 (8 * c' + i) = s.L 2138 0 (8 * c + i)
section EVM
variable {s t σ ρ : Sg} {k k' m m' q q' : Nat}
theorem MM.ev (hm : MEv s t m m') (hq : QEv σ ρ q q') (h1 : m' < cnt 2) (h2 : q' < 7344) (w : MM s σ m q) : MM t ρ m' q' := sorry
theorem HEv.fc (h : HEv s t k k') : nFc t k' = nFc s k := sorry
theorem HEv.wi (h : HEv s t k k') : nWi t k' = nWi s k := sorry
theorem HEv.on (h : HEv s t k k') : nOn t k' = nOn s k := sorry
theorem KPk.ev (h : HEv s t k k') (w : KPk s k) : KPk t k' := sorry
theorem MK1.ev (h : HEv s t k k') (hz : ZEv σ ρ (cM k) (cM k')) (hn : nFc s k ≤ 4) (h192 : k = 192 → k' = 192) (w : MK1 s σ k) : MK1 t ρ k' := sorry
theorem MK2.ev (h : HEv s t k k') (hz : ZEv σ ρ (cM k) (cM k')) (hn : nWi s k ≤ 8) (ho : nOn s k ≤ 8) (w : MK2 s σ k) : MK2 t ρ k' := sorry
theorem MEv.alk (h : MEv s t m m') {n n' : Nat} (k : MEv s t n n') : mAlk t m' n' = mAlk s m n := sorry
theorem MEv.one (h : MEv s t m m') {n n' : Nat} (k : MEv s t n n') : mOne t m' n' = mOne s m n := sorry
theorem MEv.par (h : MEv s t m m') {n n' : Nat} (k : MEv s t n n') : mPar t m' n' = mPar s m n := sorry
end EVM
