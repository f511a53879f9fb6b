/-! Operators hang as they must: what stands right of one binds closer. -/
def prk (k : Nat) : Nat := if k = 12 ∨ k = 13 then 3 else if k = 14 ∨ k = 15 then 2 else if k = 16 then 1 else 0
def prc (x : Tr) : Nat := prk (kdO x)
def pcd : Tr → Prop
  | .leaf => True
  | .inner _ b _ x y => pcd x ∧ pcd y ∧ (12 ≤ b.1 ∧ b.1 ≤ 16 → prc y + 1 ≤ prk b.1 ∧ prc x ≤ prk b.1) ∧ (17 ≤ b.1 ∧ b.1 ≤ 19 → prc x = 0) ∧ (b.1 = 36 → kdO x = 30)
/-- .. at most of a level -/
def pq (n : Nat) (x : Tr) : Prop := pcd x ∧ prc x ≤ n
def lvT (tg : Nat) : Nat := if tg = 0 then 3 else if tg = 1 ∨ tg = 10 then 2 else if tg = 2 ∨ tg = 11 then 1 else 0
theorem pq.up {n m : Nat} {x : Tr} (h : pq n x) (hm : n ≤ m) : pq m x := sorry
theorem prk_0 {k : Nat} (h : ¬ (12 ≤ k ∧ k ≤ 16)) : prk k = 0 := sorry
theorem pq_n {k at_ a1 a2 nm cn n n1 n2 : Nat} {x y : Tr} (hk : ¬ (12 ≤ k ∧ k ≤ 16)) (hx : pq n1 x) (hy : pq n2 y) (h0 : 17 ≤ k ∧ k ≤ 19 → n1 = 0 := by decide) (h36 : k = 36 → kdO x = 30 := by intro h; exact absurd h (by decide)) : pq n (nd (lb k at_ a1 a2 nm cn) x y) := sorry
theorem pq_c {n n1 n2 : Nat} {x y : Tr} (hx : pq n1 x) (hy : pq n2 y) : pq n (cns x y) := sorry
theorem pq_p {n1 n2 : Nat} {x y : Tr} (hx : pq n1 x) (hy : pq n2 y) : pq 0 (prs x y) := sorry
theorem pq_2 {k at_ n v n1 : Nat} {c : Prop} [Decidable c] {k1 k2 : Nat} {x y : Tr} (e : k = if c then k1 else k2) (h1 : prk k1 = v) (h2 : prk k2 = v) (hv : 1 ≤ v ∧ v ≤ n) (hx : pq n1 x) (hy : pq (v - 1) y) (hn : n1 ≤ v := by decide) (hk9 : (k1 ≤ 16 ∧ k2 ≤ 16) := by decide) : pq n (nd (lb k at_ 0 0 0 0) x y) := sorry
theorem pq_16 {at_ : Nat} {x y : Tr} (hx : pq 1 x) (hy : pq 0 y) : pq 1 (nd (lb 16 at_ 0 0 0 0) x y) := sorry
theorem pp21k {T : Nat → Tk} {f t w : Nat} {c : Tr} {z : Tr × Nat} (h : pp T f 21 t w c = .ok z) : kdO z.1 = 30 := sorry
theorem pp_pq {T : Nat → Tk} : ∀ (f tg t w : Nat) (c : Tr) (z : Tr × Nat), pq (lvT tg) c → pp T f tg t w c = .ok z → pq (lvT tg) z.1 := sorry
