/-! Judging, LinkHouse: the constants of all classes. -/
def csB (τ : Sg) (m : Nat) : Bool := decide (τ.I 1200 m 0 = 0) && (τ.B 1203 m 0 && (τ.B 1204 m 0 && decide (τ.L 1207 m 0 = 1)))
noncomputable def csV (τ : Sg) (k m : Nat) (x : Tr) : Option Int32 := if csB τ m = true then jCs τ k x else none
def csS (τ : Sg) (m : Nat) (o : Option Int32) : Sg := match o with
  | some v => sB (sI τ 1213 m 0 v) 1212 m 0 true
  | none => τ
/-- the snapshot with the constants of n members of class k from j on; of n classes from i on -/
noncomputable def csF (k : Nat) (tx : Nat → Tr) : Nat → Nat → Sg → Sg
  | 0, _, τ => τ
  | n + 1, j, τ => csF k tx n (j + 1) (csS τ (33 * k + j) (csV τ k (33 * k + j) (tx j)))
noncomputable def csA (b : Nat) (tr : Nat → Nat → Tr) : Nat → Nat → Sg → Sg
  | 0, _, τ => τ
  | n + 1, i, τ => csA b tr n (i + 1) (csF (12 * b + i) (tr i) (nMe τ (12 * b + i)) 0 τ)
def pK2 (c _i : Nat) : Bool := rg 1211 1213 c
theorem pK2_no {c i : Nat} (h : c ≤ 1211 ∨ 1213 < c) : pK2 c i = false := sorry
theorem csS_fl {τ : Sg} {m : Nat} {o : Option Int32} : Fl pK2 τ (csS τ m o) := sorry
theorem csF_fl {k : Nat} {tx : Nat → Tr} : ∀ (n j : Nat) (τ : Sg), Fl pK2 τ (csF k tx n j τ) := sorry
theorem csA_fl {b : Nat} {tr : Nat → Nat → Tr} : ∀ (n i : Nat) (τ : Sg), Fl pK2 τ (csA b tr n i τ) := sorry
theorem stat_sI {s τ : Sg} {c i j : Nat} {v : Int32} (h : stat s = stat τ) : stat (sI s c i j v) = stat (sI τ c i j v) := sorry
theorem stat_sB {s τ : Sg} {c i j : Nat} {v : Bool} (h : stat s = stat τ) : stat (sB s c i j v) = stat (sB τ c i j v) := sorry
theorem csB_e {s τ : Sg} {m : Nat} (h : stat s = stat τ) : csB s m = csB τ m := sorry
theorem csV_e {s τ : Sg} {k m : Nat} {x : Tr} (h : stat s = stat τ) : csV s k m x = csV τ k m x := sorry
theorem MOK_k2 {τ s : Sg} (hF : Fl pK2 τ s) (h : MOK τ) : MOK s := sorry
theorem nMe_k2 {τ s : Sg} {k : Nat} (hF : Fl pK2 τ s) : nMe s k = nMe τ k := sorry
section SPX
variable {l : Launch} {G : Gl} {d : Nat} {β : Type}
theorem JL.cs {τ0 s : Sg} {b n r nk m : Nat} {B : Nat → Nat} {v : Int32} (h : JL τ0 s b B n r nk) (hm : 396 * b ≤ m ∧ m < 396 * b + 396) : JL τ0 (sB (sI s 1213 m 0 v) 1212 m 0 true) b B n r nk := sorry
/-- what is known of the trees of the members of class 12 * b + i -/
def TrK (τ0 τ : Sg) (T : Nat → Tk) (L : Nat) (k : Nat) (tx : Nat → Tr) : Prop := ∀ j, j < nMe τ k → ∃ lo hi, hi ≤ lo + 702 ∧ LTr τ0 T L (tx j) lo hi (τ.I 1218 (33 * k + j) 0) ∧ (τ.I 1200 (33 * k + j) 0 = 0 → tx j = nl ∨ ∃ a e, wt (tx j) 0 1 a e)
theorem sp_X6_constants (hG : GOK G) {τ0 τ s : Sg} {b n r nk i L : Nat} {B : Nat → Nat} {tx : Nat → Tr} (hd : 776 ≤ d) (hJ : JL τ0 s b B n r nk) (he : stat s = stat τ) (hM : MOK τ) (hi : i < nk) (hLr : L ≤ r) (hT : TrK τ0 τ (yTok B n) L (12 * b + i) tx) (h603 : s.R 1603 0 0 = some (12 * b + i)) : CT l G yX6_constants (ws_ yX6_constants cX6_constants 3 none) d [.ref (G.adr 6 0)] s (rV (fun u => JL τ0 u b B n r nk ∧ stat u = stat (csF (12 * b + i) tx (nMe τ (12 * b + i)) 0 τ))) := sorry
/-- class by class -/
theorem ja_309 (hG : GOK G) {τ0 τ : Sg} {b n r nk L : Nat} {B : Nat → Nat} {r1 : Option Nat} {Q : Outcome → Sg → Prop} {tr : Nat → Nat → Tr} (hd : 776 ≤ d) (hM : MOK τ) (hLr : L ≤ r) (hT : ∀ i, i < nk → TrK τ0 τ (yTok B n) L (12 * b + i) (tr i)) (hN : ∀ s, JL τ0 s b B n r nk → stat s = stat (csA b tr nk 0 τ) → ∃ m, wq_X6_all_345 l G d 0 r1 Q m 0 s) : ∀ (m i : Nat) (u τ1 : Sg), i + m = nk → JL τ0 u b B n r nk → stat u = stat τ1 → Fl pK2 τ τ1 → csA b tr m i τ1 = csA b tr nk 0 τ → wq_X6_all_309 l G d 0 r1 Q (m + 1) (nI i) u := sorry
end SPX
