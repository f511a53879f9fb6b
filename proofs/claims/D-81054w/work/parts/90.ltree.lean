/-! Trees in LinkHouse's tables. -/
def tw1 (k : Nat) : Bool := k == 4 || k == 5 || k == 6 || k == 7 || k == 8 || k == 9 || k == 17 || k == 18 || k == 31
def tw2 (k : Nat) : Bool := k == 10 || k == 11 || k == 19
def twy (k : Nat) : Bool := k == 12 || k == 13 || k == 14 || k == 15 || k == 16 || k == 36 || k == 40
def thy (k : Nat) : Bool := k == 5 || k == 7 || k == 8 || k == 9 || k == 10 || k == 18
def th2 (k : Nat) : Bool := k == 31 || k == 36
/-- the names of a label are those of its tokens, which are among the first L -/
def NmOK (T : Nat → Tk) (L : Nat) (b : Lb) : Prop := b.2.1 < L ∧ (b.1 = 1 → (T b.2.1).1 = 3 ∧ b.2.2.2.2.2.1 = (T b.2.1).2.1) ∧ (tw1 b.1 = true → b.2.2.1 < L ∧ (T b.2.2.1).1 = 1 ∧ b.2.2.2.2.1 = (T b.2.2.1).2.1) ∧ ((b.1 = 6 ∨ b.1 = 7 ∨ b.1 = 8) → (T b.2.1).1 = 2 ∧ b.2.2.2.2.2.1 = (T b.2.1).2.1) ∧ ((tw2 b.1 = true ∨ b.1 = 36) → b.2.2.2.1 < L ∧ (T b.2.2.2.1).1 = 2 ∧ b.2.2.2.2.2.1 = (T b.2.2.2.1).2.1) ∧ (b.1 = 31 → b.2.2.2.1 < L ∧ ((T b.2.2.2.1).1 = 216 ∨ (T b.2.2.2.1).1 = 2) ∧ b.2.2.2.2.2.1 = tyT T b.2.2.2.1) ∧ (b.1 = 36 → b.2.2.1 = b.2.2.2.1 + 1 ∧ b.2.2.1 < L ∧ (T b.2.2.1).1 = 1 ∧ b.2.2.2.2.1 = (T b.2.2.1).2.1) ∧ (b.1 = 8 → b.2.2.2.1 < L)
theorem NmOK.up {T : Nat → Tk} {L L' : Nat} {b : Lb} (hL : L ≤ L') (h : NmOK T L b) : NmOK T L' b := sorry
/-- a tree proper -/
def isT (x : Tr) : Bool := match x with
  | .leaf => false
  | .inner _ b _ _ _ => !(b.1 == 0) && !(b.1 == 41)
def isP (x : Tr) : Bool := match x with
  | .leaf => false
  | .inner _ b _ _ _ => b.1 == 41
theorem isT_P {x : Tr} (h : isT x = true) : isP x = false := sorry
/-- the tree x hangs at v: its nodes are from lo on, below hi; a row by 'next' -/
def LTr (σ : Sg) (T : Nat → Tk) (L : Nat) : Tr → Nat → Nat → Int32 → Prop
  | .leaf, _, _, v => v = -2
  | .inner _ b _ x y, lo, hi, v => ∃ n, v = nI n ∧ n < 1410 ∧
    ((b.1 = 0 ∧ lo ≤ n ∧ isT x = true ∧ isP y = false ∧ ∃ mid, n < mid ∧ mid ≤ hi ∧ LTr σ T L x lo mid v ∧ LTr σ T L y mid hi (σ.I 1514 0 n)) ∨
     (b.1 = 41 ∧ isP x = false ∧ isP y = false ∧ LTr σ T L x lo hi (σ.I 1512 0 n) ∧ LTr σ T L y lo hi (σ.I 1513 0 n)) ∨
     (¬ b.1 = 0 ∧ ¬ b.1 = 41 ∧ lo ≤ n ∧ n < hi ∧ b.1 < 100 ∧ isP x = false ∧ (isP y = true → b.1 = 32 ∨ b.1 = 33) ∧ σ.I 1509 0 n = nI b.1 ∧ σ.I 1510 0 n = nI b.2.1 ∧ NmOK T L b ∧
      (11 ≤ b.1 → LTr σ T L x lo n (σ.I 1511 0 n) ∨ LTr σ T L x (n + 1) hi (σ.I 1511 0 n)) ∧ (b.1 = 8 → σ.I 1511 0 n = nI b.2.2.2.1) ∧ (tw1 b.1 = true → σ.I 1512 0 n = nI b.2.2.1) ∧ (tw2 b.1 = true → σ.I 1512 0 n = nI b.2.2.2.1) ∧
      (twy b.1 = true → LTr σ T L y lo n (σ.I 1512 0 n) ∨ LTr σ T L y (n + 1) hi (σ.I 1512 0 n)) ∧ (thy b.1 = true → LTr σ T L y (n + 1) hi (σ.I 1513 0 n)) ∧ (th2 b.1 = true → σ.I 1513 0 n = nI b.2.2.2.1) ∧ ((b.1 = 32 ∨ b.1 = 33) → LTr σ T L y (n + 1) hi v)))
theorem twy_3 {k : Nat} (h : twy k = true) : ¬ (k = 32 ∨ k = 33) := sorry
theorem thy_3 {k : Nat} (h : thy k = true) : ¬ (k = 32 ∨ k = 33) := sorry
theorem bfalse {b : Bool} {P : Prop} (h : b = true → P) (hn : ¬ P) : b = false := sorry
theorem LTr.mv {σ s : Sg} {T : Nat → Tk} {L L' : Nat} (hL : L ≤ L') : ∀ (x : Tr) (lo hi lo' hi' : Nat) (v : Int32), lo' ≤ lo → hi ≤ hi' → (∀ j, (lo ≤ j ∧ j < hi) ∨ (isP x = true ∧ v = nI j ∧ j < 1410) → s.I 1509 0 j = σ.I 1509 0 j ∧ s.I 1510 0 j = σ.I 1510 0 j ∧ s.I 1511 0 j = σ.I 1511 0 j ∧ s.I 1512 0 j = σ.I 1512 0 j ∧ s.I 1513 0 j = σ.I 1513 0 j) → (∀ j, lo ≤ j → j < hi → (isT x = true → ¬ (v = nI j ∧ j < 1410)) → s.I 1514 0 j = σ.I 1514 0 j) → LTr σ T L x lo hi v → LTr s T L' x lo' hi' v := sorry
