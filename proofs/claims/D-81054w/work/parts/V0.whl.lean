/-! PURE: behind a while stands no else; what is judged keeps that. -/
def pr2 (x : Tr) : Tr := match x with
  | .leaf => .leaf
  | .inner _ _ _ _ y => y
def whl : Tr → Prop
  | .leaf => True
  | .inner _ b _ x y => (b.1 = 33 → pr2 y = nl) ∧ whl x ∧ whl y
theorem whl_nd {k at_ a1 a2 nm cn : Nat} {x y : Tr} (h1 : k = 33 → pr2 y = nl) (hx : whl x) (hy : whl y) : whl (nd (lb k at_ a1 a2 nm cn) x y) := sorry
theorem whl_c {x y : Tr} (hx : whl x) (hy : whl y) : whl (cns x y) := sorry
theorem whl_p {x y : Tr} (hx : whl x) (hy : whl y) : whl (prs x y) := sorry
theorem whl_2 {k at_ : Nat} {c : Prop} [Decidable c] {k1 k2 : Nat} {x y : Tr} (e : k = if c then k1 else k2) (h1 : 12 ≤ k1 ∧ k1 ≤ 16) (h2 : 12 ≤ k2 ∧ k2 ≤ 16) (hx : whl x) (hy : whl y) : whl (nd (lb k at_ 0 0 0 0) x y) := sorry
theorem pp_whl {T : Nat → Tk} : ∀ (f tg t w : Nat) (c : Tr) (z : Tr × Nat), whl c → pp T f tg t w c = .ok z → whl z.1 := sorry
