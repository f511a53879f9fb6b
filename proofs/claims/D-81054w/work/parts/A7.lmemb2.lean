/-! LinkHouse reads a member. -/
def mAc (face : Bool) (so told : Nat) : Int32 := if told = 1 then 3 else if told = 2 then 2 else if told = 3 then 0 else if face = true ∧ so < 2 then 3 else 1
def mrI (face : Bool) (mr : MRc) (c : Nat) : Int32 := if c = 1200 then nI mr.1 else if c = 1202 then mAc face mr.1 mr.2.1 else if c = 1208 then nI mr.2.2.2.2.2.2.2.1.length else if c = 1214 then nI mr.2.2.2.2.2.1 else if c = 1215 then (if mr.2.2.2.2.2.2.1 = 0 then -2 else nI (mr.2.2.2.2.2.2.1 - 1)) else if c = 1213 then 0 else if c = 1220 then 0 else -2
def mrB (mr : MRc) (c : Nat) : Bool := if c = 1203 then mr.2.2.1 else if c = 1204 then mr.2.2.2.1 else if c = 1205 then mr.2.2.2.2.1 else false
def mrL (T : Nat → Tk) (mr : MRc) (c : Nat) : Int64 := if c = 1201 then (if mr.1 < 2 then lN (T mr.2.2.2.2.2.1).2.1 else 0) else if mr.2.2.2.2.2.2.1 = 0 then 0 else lN (tyT T (mr.2.2.2.2.2.2.1 - 1))
/-- member q is as it was read -/
def MRec (s : Sg) (T : Nat → Tk) (L q kk : Nat) (face : Bool) (mr : MRc) (lo hi : Nat) : Prop := MB s q kk (mrI face mr) (mrB mr) (mrL T mr) (if isT mr.2.2.2.2.2.2.2.2.2.2 = true then nI mr.2.2.2.2.2.2.2.2.1 else -2) (if isT mr.2.2.2.2.2.2.2.2.2.2 = true then nI mr.2.2.2.2.2.2.2.2.2.1 else -2) (s.I 1218 q 0) ∧ PmP s s T q 0 mr.2.2.2.2.2.2.2.1 ∧ LTr s T L mr.2.2.2.2.2.2.2.2.2.2 lo hi (s.I 1218 q 0) ∧ (mr.2.2.2.2.2.2.2.2.2.2 = nl ∨ isT mr.2.2.2.2.2.2.2.2.2.2 = true)
/-- what reading a member leaves -/
def MeP (σ s : Sg) (b : Nat) (B : Nat → Nat) (n q kk nm t m : Nat) (z : MRc × Nat) : Prop := Fl (pMb b q kk) σ s ∧ Pn s ∧ s.I 1117 kk 0 = nI (nm + 1) ∧ ∃ m' r', LT s b B n z.2 0 m' r' ∧ m ≤ m' ∧ m' + t ≤ m + z.2 ∧ MRec s (yTok B n) z.2 q kk (σ.B 1102 kk 0) z.1 m m' ∧ ∀ j, j < m → NdS σ s j
theorem PmP.to {s u : Sg} {T : Nat → Tk} {q : Nat} {ps : List (Nat × Nat)} (h : PmP s s T q 0 ps) (hc : ∀ c j, 1207 < c → c ≤ 1211 → u.I c q j = s.I c q j ∧ u.L c q j = s.L c q j) : PmP u u T q 0 ps := sorry
section MX
variable {σ s u : Sg} {b n q kk nm t m r : Nat} {B : Nat → Nat} {fI : Nat → Int32} {fB : Nat → Bool} {fL : Nat → Int64} {x y z : Int32}
/-- its tree is read -/
theorem MX.tree (h : MX σ s b B n q kk nm t m r fI fB fL x y z) (hq : 396 * b ≤ q ∧ q < 396 * b + 396) {a : Tr × Nat} {v : Int32} (hL : LPv b B n s t 0 m m true a v u) : ∃ m' r', Fl (pMb b q kk) σ (sI (sI u 1218 q 0 v) 1217 q 0 (u.I 1507 0 0)) ∧ Pn (sI (sI u 1218 q 0 v) 1217 q 0 (u.I 1507 0 0)) ∧ (sI (sI u 1218 q 0 v) 1217 q 0 (u.I 1507 0 0)).I 1117 kk 0 = nI (nm + 1) ∧ LT (sI (sI u 1218 q 0 v) 1217 q 0 (u.I 1507 0 0)) b B n a.2 0 m' r' ∧ m ≤ m' ∧ m' + t ≤ m + a.2 ∧ MB (sI (sI u 1218 q 0 v) 1217 q 0 (u.I 1507 0 0)) q kk fI fB fL x (nI a.2) v ∧ LTr (sI (sI u 1218 q 0 v) 1217 q 0 (u.I 1507 0 0)) (yTok B n) a.2 a.1 m m' v ∧ isT a.1 = true ∧ (∀ j, j < m → NdS σ (sI (sI u 1218 q 0 v) 1217 q 0 (u.I 1507 0 0)) j) ∧ ∀ c j, 1207 < c → c ≤ 1211 → (sI (sI u 1218 q 0 v) 1217 q 0 (u.I 1507 0 0)).I c q j = s.I c q j ∧ (sI (sI u 1218 q 0 v) 1217 q 0 (u.I 1507 0 0)).L c q j = s.L c q j := sorry
end MX
section SPX
variable {l : Launch} {G : Gl}
/-- a member's block -/
theorem sp_X5_block (hG : GOK G) {σ s : Sg} {d b n q kk nm t m r f : Nat} {B : Nat → Nat} {fI : Nat → Int32} {fB : Nat → Bool} {fL : Nat → Int64} {x y z : Int32} (hd : 180 ≤ d) (h : MX σ s b B n q kk nm t m r fI fB fL x y z) (hm : m ≤ t) (hq : 396 * b ≤ q ∧ q < 396 * b + 396) (hf : 12 * 701 + 7 ≤ f) : CT l G yX5_block (ws_ yX5_block cX5_block 2 none) d [.ref (G.adr 5 0), rv G 2 (some q)] s (oC G b (yTok B n) s (pp (yTok B n) f 21 t 0 nl) (fun a o w => o = .returned none ∧ Fl (pMb b q kk) σ w ∧ Pn w ∧ w.I 1117 kk 0 = nI (nm + 1) ∧ ∃ m' r', LT w b B n a.2 0 m' r' ∧ m ≤ m' ∧ m' + t ≤ m + a.2 ∧ MB w q kk fI fB fL (nI t) (nI a.2) (w.I 1218 q 0) ∧ LTr w (yTok B n) a.2 a.1 m m' (w.I 1218 q 0) ∧ isT a.1 = true ∧ (∀ j, j < m → NdS σ w j) ∧ ∀ c j, 1207 < c → c ≤ 1211 → w.I c q j = s.I c q j ∧ w.L c q j = s.L c q j)) := sorry
end SPX
