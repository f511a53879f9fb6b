/-! What the grammar's trees are like: labels, empty parts. -/
def yNo (k : Nat) : Bool := (1 ≤ k && k ≤ 4) || (k == 6 || (k == 11 || (k == 17 || (k == 19 || (k == 20 || (k == 30 || (k == 31 || (k == 34 || (k == 35 || (k == 37 || (k == 38 || k == 39)))))))))))
def lbg : Tr → Prop
  | .leaf => True
  | .inner _ b _ x y => (b.1 = 6 ∨ b.1 = 7 → b.2.2.2.1 = b.2.1) ∧ (1 ≤ b.1 ∧ b.1 ≤ 10 → x = nl) ∧ (yNo b.1 = true → y = nl) ∧ lbg x ∧ lbg y
theorem lbg_nd {k at_ a1 a2 nm cn : Nat} {x y : Tr} (h1 : k = 6 ∨ k = 7 → a2 = at_) (h2 : 1 ≤ k ∧ k ≤ 10 → x = nl) (h3 : yNo k = true → y = nl) (hx : lbg x) (hy : lbg y) : lbg (nd (lb k at_ a1 a2 nm cn) x y) := sorry
theorem lbg_c {x y : Tr} (hx : lbg x) (hy : lbg y) : lbg (cns x y) := sorry
theorem lbg_p {x y : Tr} (hx : lbg x) (hy : lbg y) : lbg (prs x y) := sorry
theorem lbg_2 {k at_ : Nat} {c : Prop} [Decidable c] {k1 k2 : Nat} {x y : Tr} (e : k = if c then k1 else k2) (h1 : 12 ≤ k1 ∧ k1 ≤ 16) (h2 : 12 ≤ k2 ∧ k2 ≤ 16) (hx : lbg x) (hy : lbg y) : lbg (nd (lb k at_ 0 0 0 0) x y) := sorry
theorem pp_lbg {T : Nat → Tk} : ∀ (f tg t w : Nat) (c : Tr) (z : Tr × Nat), lbg c → pp T f tg t w c = .ok z → lbg z.1 := sorry
/-- tokens against heights -/
theorem wt_ht : ∀ (x : Tr) {m w a e : Nat}, wt x m w a e → m = 0 ∨ m = 1 ∨ m = 5 → 2 * ht x ≤ e - a + 1 := sorry
/-- and with S's -/
theorem wt_hs : ∀ (x : Tr) {m w a e : Nat}, wt x m w a e → 2 * ht x ≤ e - a + 1 + 2 * (13 - w) := sorry
