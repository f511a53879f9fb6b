/-! THE TEXT AND ITS TOKENS in plain terms. B: the bytes, n of them, 0 behind. A token: (sort, what, at, end); sort 999: none can be read. -/
def ySp (B : Nat → Nat) : Nat → Nat → Nat
  | 0, k => k
  | f + 1, k => if B k = 10 ∨ B k = 32 then ySp B f (k + 1) else k
def yLt (c : Nat) : Nat := if 97 ≤ c ∧ c ≤ 122 then c - 96 else if 65 ≤ c ∧ c ≤ 90 then c - 38 else if 48 ≤ c ∧ c ≤ 57 then c + 5 else 0
def yWe (B : Nat → Nat) : Nat → Nat → Nat
  | 0, k => k
  | f + 1, k => if yLt (B k) = 0 then k else yWe B f (k + 1)
def yDe (B : Nat → Nat) : Nat → Nat → Nat
  | 0, k => k
  | f + 1, k => if 48 ≤ B k ∧ B k ≤ 57 then yDe B f (k + 1) else k
def yNm (B : Nat → Nat) : Nat → Nat → Nat → Nat
  | 0, _, v => v
  | m + 1, k, v => yNm B m (k + 1) (64 * v + yLt (B k))
def yNu (B : Nat → Nat) : Nat → Nat → Nat → Nat
  | 0, _, v => v
  | m + 1, k, v => yNu B m (k + 1) (10 * v + (B k - 48))
def yWs : List Nat := [53482707, 1577157, 83, 595, 590, 6067464, 3990297, 3998030, 45646, 62926, 103080012, 529541, 20736983619, 324015252, 5829188, 57687, 37780, 49492, 582, 1361093, 388010757, 19416568974, 337716183, 83097, 50675912, 62804, 3756812, 5276243, 324338002, 5323]
/-- the sort of a word: 200 and its place among the words, 1 if it is none -/
def yWl (v : Nat) : Nat → Nat
  | 0 => 1
  | k + 1 => if yWs.getD k 0 = v then 200 + k else yWl v k
def yWd (v : Nat) : Nat := yWl v 30
def ySg (c : Nat) : Bool := c == 123 || c == 125 || c == 40 || c == 41 || c == 44 || c == 59 || c == 46 || c == 61 || c == 60 || c == 43 || c == 45 || c == 42
abbrev Tk : Type := Nat × Nat × Nat × Nat
def yTw (B : Nat → Nat) (s e : Nat) : Tk := if 10 < e - s then (999, 0, s, e) else (yWd (yNm B (e - s) s 0), yNm B (e - s) s 0, s, e)
def yTc (B : Nat → Nat) (s e : Nat) : Tk := if 11 < e - s then (999, 0, s, e) else (2, yNm B (e - (s + 2)) (s + 2) (yLt (B s)), s, e)
def yTn (B : Nat → Nat) (s e : Nat) : Tk := if 9 < e - s then (999, 0, s, e) else (3, yNu B (e - s) s 0, s, e)
/-- the token that begins at s -/
def yTa (B : Nat → Nat) (n s : Nat) : Tk := if n ≤ s then (0, 0, s, s) else
  if 97 ≤ B s ∧ B s ≤ 122 then (if B (s + 1) = 46 ∧ 65 ≤ B (s + 2) ∧ B (s + 2) ≤ 90 then yTc B s (yWe B n (s + 2)) else yTw B s (yWe B n s))
  else if 48 ≤ B s ∧ B s ≤ 57 then yTn B s (yDe B n s)
  else if ySg (B s) = true then (if B s = 61 ∧ B (s + 1) = 61 then (4, 0, s, s + 2) else (B s, 0, s, s + 1)) else (999, 0, s, s + 1)
def yTk (B : Nat → Nat) (n p : Nat) : Tk := yTa B n (ySp B n p)
/-- where token j is looked for -/
def yPo (B : Nat → Nat) (n : Nat) : Nat → Nat
  | 0 => 0
  | j + 1 => (yTk B n (yPo B n j)).2.2.2
def yTok (B : Nat → Nat) (n j : Nat) : Tk := yTk B n (yPo B n j)
/-- bytes: less than 256, none behind the last -/
def BOK (B : Nat → Nat) (n : Nat) : Prop := n ≤ 4000 ∧ (∀ k, B k < 256) ∧ ∀ k, n ≤ k → B k = 0
theorem ySp_end {B : Nat → Nat} {n : Nat} (h : BOK B n) : ∀ (f k : Nat), n ≤ k + f → ¬ (B (ySp B f k) = 10 ∨ B (ySp B f k) = 32) := sorry
theorem ySp_ge (B : Nat → Nat) : ∀ (f k : Nat), k ≤ ySp B f k := sorry
theorem ySp_le {B : Nat → Nat} {n : Nat} (h : BOK B n) : ∀ (f k : Nat), k ≤ n → ySp B f k ≤ n := sorry
theorem ySp_fix {B : Nat → Nat} {f k : Nat} (h : ¬ (B k = 10 ∨ B k = 32)) : ySp B f k = k := sorry
theorem ySp_step {B : Nat → Nat} {n k : Nat} (h : BOK B n) (c : B k = 10 ∨ B k = 32) : ySp B n k = ySp B n (k + 1) := sorry
theorem yLt_lt {c : Nat} : yLt c < 64 := sorry
theorem yLt_0 : yLt 0 = 0 := sorry
theorem yWe_ge (B : Nat → Nat) : ∀ (f k : Nat), k ≤ yWe B f k := sorry
theorem yWe_le {B : Nat → Nat} {n : Nat} (h : BOK B n) : ∀ (f k : Nat), k ≤ n → yWe B f k ≤ n := sorry
theorem yWe_stop {B : Nat → Nat} {f k : Nat} (c : yLt (B k) = 0) : yWe B f k = k := sorry
theorem yWe_more {B : Nat → Nat} {n k : Nat} (h : BOK B n) (c : ¬ yLt (B k) = 0) : yWe B n k = yWe B n (k + 1) := sorry
theorem yDe_ge (B : Nat → Nat) : ∀ (f k : Nat), k ≤ yDe B f k := sorry
theorem yDe_le {B : Nat → Nat} {n : Nat} (h : BOK B n) : ∀ (f k : Nat), k ≤ n → yDe B f k ≤ n := sorry
theorem yDe_stop {B : Nat → Nat} {f k : Nat} (c : ¬ (48 ≤ B k ∧ B k ≤ 57)) : yDe B f k = k := sorry
theorem yDe_more {B : Nat → Nat} {n k : Nat} (h : BOK B n) (c : 48 ≤ B k ∧ B k ≤ 57) : yDe B n k = yDe B n (k + 1) := sorry
theorem yNm_snoc (B : Nat → Nat) : ∀ (m k v : Nat), yNm B (m + 1) k v = 64 * yNm B m k v + yLt (B (k + m)) := sorry
theorem yNm_lt (B : Nat → Nat) : ∀ (m k v a : Nat), v < 64 ^ a → yNm B m k v < 64 ^ (a + m) := sorry
theorem yNu_snoc (B : Nat → Nat) : ∀ (m k v : Nat), yNu B (m + 1) k v = 10 * yNu B m k v + (B (k + m) - 48) := sorry
theorem yTa_at {B : Nat → Nat} {n s : Nat} : (yTa B n s).2.2.1 = s := sorry
theorem yTa_fin {B : Nat → Nat} {n s : Nat} (h : BOK B n) (hs : s ≤ n) : s ≤ (yTa B n s).2.2.2 ∧ (yTa B n s).2.2.2 ≤ n := sorry
theorem yWl_lt (v : Nat) : ∀ k, yWl v k < 200 + k + 1 := sorry
theorem yWd_lt {v : Nat} : yWd v < 231 := sorry
theorem yPo_le {B : Nat → Nat} {n : Nat} (h : BOK B n) : ∀ j, yPo B n j ≤ n := sorry
theorem yTok_at {B : Nat → Nat} {n j : Nat} : (yTok B n j).2.2.1 = ySp B n (yPo B n j) := sorry
theorem yTok_le {B : Nat → Nat} {n j : Nat} (h : BOK B n) : (yTok B n j).2.2.1 ≤ n := sorry
theorem yTa_sort {B : Nat → Nat} {n s : Nat} (h : BOK B n) : (yTa B n s).1 < 1000 := sorry
