/-! Judging, the model: every E. -/
theorem wtX_left {w a e k : Nat} {x y : Tr} (h : wtX w a e k x y) (hk : 12 ≤ k ∧ k ≤ 20) : ∃ ax ix wx0, a ≤ ax ∧ ix ≤ e ∧ ((twy k || thy k) = true → ∃ my wy ay, ¬ my = 4 ∧ ix ≤ ay ∧ wt y my wy ay e) ∧ wt x 0 wx0 ax ix := sorry
section SPX
variable {l : Launch} {G : Gl} {τ : Sg} {b k n L : Nat} {st : Bool} {Lc : List (Int64 × Int64 × Nat)} {B : Nat → Nat}
/-- an E, along its left parts -/
def WJ (l : Launch) (G : Gl) (τ : Sg) (b k : Nat) (st : Bool) (Lc : List (Int64 × Int64 × Nat)) (B : Nat → Nat) (n L : Nat) (x : Tr) : Prop := ∀ (d lo hi w a e : Nat) (v : Int32), wt x 0 w a e → e ≤ L → hi ≤ 1700 → 4 * ht x + 20 ≤ d → ∀ (u : Sg), JM τ u b k st Lc → SIv u → MTg u b (NdC u (yTok B n)) x lo hi v → u.I 2120 0 0 = nI 0 → ∀ (P P0 N : Nat) (x1 : Int32) (Q : Outcome → Sg → Prop), u.I 2208 0 0 = nI P → P + (hi - lo) ≤ 1703 → P0 ≤ P → (∀ s, RE τ u s b (yTok B n) P a e lo hi (ckE τ k st Lc x) v → wq_X11_judge_117 l G d 0 x1 Q N (nI P0) v s) → ∃ M, wq_X11_judge_7 l G d 0 x1 Q M (nI P0) v u
theorem WJ.E (hG : GOK G) {x : Tr} (h : WJ l G τ b k st Lc B n L x) {d : Nat} (hd : 4 * ht x + 21 ≤ d) : SpEm l G d τ b k st Lc B n L x := sorry
/-- the loop of arguments -/
def LpA (l : Launch) (G : Gl) (d : Nat) (τ : Sg) (b k : Nat) (st : Bool) (Lc : List (Int64 × Int64 × Nat)) (B : Nat → Nat) (n L : Nat) (x : Tr) : Prop := ∀ (u : Sg) (lo hi w a e P : Nat) (v x1 : Int32) (Q : Outcome → Sg → Prop), JM τ u b k st Lc → SIv u → MTg u b (NdC u (yTok B n)) x lo hi v → wt x 1 w a e → e ≤ L → hi ≤ 1700 → u.I 2120 0 0 = nI 0 → u.I 2208 0 0 = nI P → P + (hi - lo) ≤ 1703 → (∀ s, RE τ u s b (yTok B n) P a e lo hi (ckE τ k st Lc x) v → Q (.returned none) s) → wq_X11_args_2 l G d 0 x1 Q ((tyL x).length + 1) v u
theorem LpA.A (hG : GOK G) {d : Nat} {x : Tr} (h : LpA l G d τ b k st Lc B n L x) : SpAm l G (d + 1) τ b k st Lc B n L x := sorry
theorem LpA_0 {d : Nat} : LpA l G d τ b k st Lc B n L .leaf := sorry
theorem LpA_c {d sz : Nat} {bb : Lb} {uu : Unit} {x y : Tr} (hB : BOK B n) (hNE : NEt (yTok B n) L) (h0 : bb.1 = 0) (hE : SpEm l G d τ b k st Lc B n L x) (hA : LpA l G d τ b k st Lc B n L y) : LpA l G d τ b k st Lc B n L (.inner sz bb uu x y) := sorry
theorem RL.E {τ u s : Sg} {b P a e lo hi X : Nat} {T : Nat → Tk} {r : PR Tr} {vv : Int64} (h : RL τ u s b T P a e lo hi X r vv) (h1 : b * 1700 + lo ≤ X) (h2 : X < b * 1700 + hi) (h3 : (T a).2.2.1 ≤ plA u X) (h4 : plA u X < (T e).2.2.1) : RE τ u (sL s 2176 0 X vv) b T P a e lo hi r (nI X) := sorry
/-- a step of the path -/
theorem FJ_pa {u : Sg} {P : Nat} {X v : Int32} : FJ pJd u (sI (sI u 2207 0 P X) 2208 0 0 v) := sorry
theorem FrJ_pa {u : Sg} {b pa pe lo hi P : Nat} {X v : Int32} : FrJ u (sI (sI u 2207 0 P X) 2208 0 0 v) b pa pe lo hi := sorry
theorem FrJ_pt {u : Sg} {b pa pe lo hi : Nat} {v : Int32} : FrJ u (sI u 2208 0 0 v) b pa pe lo hi := sorry
theorem SIv_pa {u : Sg} {P : Nat} {X v : Int32} (h : SIv u) : SIv (sI (sI u 2207 0 P X) 2208 0 0 v) := sorry
set_option maxHeartbeats 1000000 in
theorem WJ_n (hG : GOK G) (hB : BOK B n) (hNE : NEt (yTok B n) L) {sz : Nat} {bb : Lb} {uu : Unit} {x y : Tr} (hnm : NmOK (yTok B n) L bb) (hlb : bb.1 = 6 ∨ bb.1 = 7 → bb.2.2.2.1 = bb.2.1) (hx : 11 ≤ bb.1 → WJ l G τ b k st Lc B n L x) (hyE : twy bb.1 = true → ∀ d, 4 * ht y + 21 ≤ d → SpEm l G d τ b k st Lc B n L y) (hyA : thy bb.1 = true → ∀ d, 4 * ht y + 22 ≤ d → SpAm l G d τ b k st Lc B n L y) : WJ l G τ b k st Lc B n L (.inner sz bb uu x y) := sorry
/-- THE MODEL JUDGES EVERY E AS ckE SAYS -/
theorem mj_all (hG : GOK G) (hB : BOK B n) (hNE : NEt (yTok B n) L) : ∀ (x : Tr), nmT (yTok B n) L x → lbg x → (1 ≤ kdO x ∧ kdO x ≤ 20 → WJ l G τ b k st Lc B n L x) ∧ (isRw x → ∀ d, 4 * ht x + 21 ≤ d → LpA l G d τ b k st Lc B n L x) := sorry
end SPX
