/-! LinkHouse reads an E: units, arguments. -/
theorem bnd_k {α β : Type} {a : α} {k : α → PR β} : bnd (.ok a) k = k a := sorry
theorem NmOK.mk {T : Nat → Tk} {L k at_ a1 a2 nm cn : Nat} (h1 : at_ < L) (h2 : k = 1 → (T at_).1 = 3 ∧ cn = (T at_).2.1) (h3 : tw1 k = true → a1 < L ∧ (T a1).1 = 1 ∧ nm = (T a1).2.1) (h4 : (k = 6 ∨ k = 7 ∨ k = 8) → (T at_).1 = 2 ∧ cn = (T at_).2.1) (h5 : (tw2 k = true ∨ k = 36) → a2 < L ∧ (T a2).1 = 2 ∧ cn = (T a2).2.1) (h6 : k = 31 → a2 < L ∧ ((T a2).1 = 216 ∨ (T a2).1 = 2) ∧ cn = tyT T a2) (h7 : k = 36 → a1 = a2 + 1 ∧ a1 < L ∧ (T a1).1 = 1 ∧ nm = (T a1).2.1) (h8 : k = 8 → a2 < L) : NmOK T L (lb k at_ a1 a2 nm cn) := sorry
theorem tw1_iff {k : Nat} : tw1 k = true ↔ k = 4 ∨ k = 5 ∨ k = 6 ∨ k = 7 ∨ k = 8 ∨ k = 9 ∨ k = 17 ∨ k = 18 ∨ k = 31 := sorry
theorem tw2_iff {k : Nat} : tw2 k = true ↔ k = 10 ∨ k = 11 ∨ k = 19 := sorry
theorem twy_iff {k : Nat} : twy k = true ↔ (12 ≤ k ∧ k ≤ 16) ∨ k = 36 ∨ k = 40 := sorry
theorem thy_iff {k : Nat} : thy k = true ↔ k = 5 ∨ k = 7 ∨ k = 8 ∨ k = 9 ∨ k = 10 ∨ k = 18 := sorry
theorem th2_iff {k : Nat} : th2 k = true ↔ k = 31 ∨ k = 36 := sorry
/-- labels with a name's token -/
theorem NmOK.a {T : Nat → Tk} {L k at_ a1 a2 nm cn : Nat} (hk : k = 4 ∨ k = 5 ∨ k = 9 ∨ k = 17 ∨ k = 18) (h1 : at_ < L) (h3 : a1 < L ∧ (T a1).1 = 1 ∧ nm = (T a1).2.1) : NmOK T L (lb k at_ a1 a2 nm cn) := sorry
/-- with a class's token -/
theorem NmOK.c {T : Nat → Tk} {L k at_ a1 a2 nm cn : Nat} (hk : k = 10 ∨ k = 11 ∨ k = 19) (h1 : at_ < L) (h5 : a2 < L ∧ (T a2).1 = 2 ∧ cn = (T a2).2.1) : NmOK T L (lb k at_ a1 a2 nm cn) := sorry
/-- with none -/
theorem NmOK.o {T : Nat → Tk} {L k at_ a1 a2 nm cn : Nat} (hk : k = 2 ∨ k = 3 ∨ (12 ≤ k ∧ k ≤ 16) ∨ k = 20 ∨ k = 30 ∨ (32 ≤ k ∧ k ≤ 35) ∨ (37 ≤ k ∧ k ≤ 40)) (h1 : at_ < L) : NmOK T L (lb k at_ a1 a2 nm cn) := sorry
section SPX
variable {l : Launch} {G : Gl}
/-- a node that has its token, a name's or class's token, and a tree ahead of it -/
theorem mkT {σ : Sg} {b n t w m r m0 L k at_ a1 a2 nm cn : Nat} {B : Nat → Nat} {c y : Tr} {v : Int32} (hL : LT σ b B n t w m r) (hm : m < 1410) (hT : LTr σ (yTok B n) L c m0 m v) (hc : isT c = true) (s : Sg) (hs : ∀ j, j < m → NdS σ s j) (hk : k = 17 ∨ k = 18 ∨ k = 19) (L' : Nat) (hLL : L ≤ L') (hi : Nat) (hhi : m < hi) (h0 : m0 ≤ m) (c1 : s.I 1509 0 m = nI k) (c2 : s.I 1510 0 m = nI at_) (c3 : s.I 1511 0 m = v) (hN : NmOK (yTok B n) L' (lb k at_ a1 a2 nm cn)) (hy : isP y = false) (f3 : k ≠ 19 → s.I 1512 0 m = nI a1) (f4 : k = 19 → s.I 1512 0 m = nI a2) (f6 : k = 18 → LTr s (yTok B n) L' y (m + 1) hi (s.I 1513 0 m)) : LTr s (yTok B n) L' (nd (lb k at_ a1 a2 nm cn) c y) m0 hi (nI m) := sorry
/-- the unit goes on -/
theorem lx_12 (hG : GOK G) {b n : Nat} {B : Nat → Nat} : ∀ f, (∀ f', f' < f → SX5 l G b B n f') → ∀ (d : Nat) (σ0 σ : Sg) (t0 m0 t w m r : Nat) (c : Tr) (x1 : Int32) (Q : Outcome → Sg → Prop) (N : Nat), 701 - t < N → LT σ b B n t w m r → Pn σ → m ≤ t → w ≤ 12 → m0 ≤ m → m + t0 ≤ m0 + t → LTr σ (yTok B n) t c m0 m x1 → isT c = true → (∀ j, x1 = nI j → j < 1410 → σ.I 1514 0 j = -2) → Fl (pT b) σ0 σ → (∀ j, j < m0 → NdS σ0 σ j) → 12 * (701 - t) + 1 ≤ f → 12 * (13 - w) + 19 ≤ d → oE G b B n σ0 t0 w m0 m0 true (pp (yTok B n) f 12 t w c) = Q → wq_X5_unit_5 l G d 0 Q N x1 σ := sorry
theorem lx_3 (hG : GOK G) {b n : Nat} {B : Nat → Nat} (f : Nat) (hX4 : ∀ f', f' < f → SX4 l G b B n f') (hX5 : ∀ f', f' < f → SX5 l G b B n f') : SX3 l G b B n f := sorry
end SPX
