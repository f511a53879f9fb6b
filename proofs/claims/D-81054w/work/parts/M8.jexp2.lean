/-! Judging, LinkHouse: an E, all kinds but numbers one behind the other. -/
theorem ckC_e {σ s : Sg} {k t : Nat} {xo : Option Nat} {nm : Int64} {ts : List Int64} (h : stat s = stat σ) : ckC s k xo nm ts t = ckC σ k xo nm ts t := sorry
theorem ckF_e {σ s : Sg} {k t : Nat} {xo : Option Nat} {nm : Int64} (h : stat s = stat σ) : ckF s k xo nm t = ckF σ k xo nm t := sorry
theorem ckU_e {σ s : Sg} {k t t2 : Nat} {st : Bool} {xo : Option Nat} {nm : Int64} {ts : List Int64} (h : stat s = stat σ) : ckU s k st xo nm ts t t2 = ckU σ k st xo nm ts t t2 := sorry
/-- a part of a node was judged -/
def ChX (s : Sg) (a e lo hi N : Nat) (x : Tr) (v : Int32) : Prop := ∃ a1 e1 lo1 hi1, a ≤ a1 ∧ e1 ≤ e ∧ lo ≤ lo1 ∧ hi1 ≤ hi ∧ (N < lo1 ∨ hi1 ≤ N) ∧ LAn s a1 e1 x lo1 hi1 v
theorem ChX.fin {s s2 : Sg} {a e lo hi N : Nat} {x : Tr} {v : Int32} (h : ChX s a e lo hi N x v) (hF : FrQ s s2 N) : LAn s2 a e x lo hi v := sorry
theorem frT {s : Sg} {N : Nat} {ty : Int64} : FrQ s (sL s 1606 0 N ty) N := sorry
theorem anT {s : Sg} {N : Nat} {ty : Int64} {bb : Lb} (h : s.R 1607 0 N = none) (hk : ¬ (bb.1 = 4 ∨ bb.1 = 6 ∨ bb.1 = 17 ∨ bb.1 = 31 ∨ bb.1 = 36)) : AnN (sL s 1606 0 N ty) N (an bb ty 0 0 0) := sorry
theorem fr0 {σ : Sg} {N : Nat} : FrQ σ (sI (sR (sR (sL σ 1606 0 N 0) 1607 0 N none) 1608 0 N none) 1609 0 N (-2)) N ∧ AnQ (sI (sR (sR (sL σ 1606 0 N 0) 1607 0 N none) 1608 0 N none) 1609 0 N (-2)) N 0 none none (-2) := sorry
theorem wt_lt {x : Tr} {w a e : Nat} (h : wt x 0 w a e) : a < e := sorry
theorem wt_le : ∀ {y : Tr} {w a e : Nat}, wt y 1 w a e → a ≤ e := sorry
theorem oJ_V {α : Type} {G : Gl} {b : Nat} {T : Nat → Tk} {σ : Sg} {r : PR α} {K : α → Outcome → Sg → Prop} (hK : ∀ a o s, K a o s → o = .returned none) {o : Outcome} {s : Sg} (h : oJ G b T σ r K o s) : oV (fun s => oJ G b T σ r K (.returned none) s) (fun x s => oJ G b T σ r K (.threw x) s) o s := sorry
section SPX
variable {l : Launch} {G : Gl} {d : Nat} {b n r k : Nat} {B : Nat → Nat} {st : Bool} {Lc : List (Int64 × Int64 × Nat)}
theorem ck_E (hG : GOK G) {L sz : Nat} {bb : Lb} {u : Unit} {x y : Tr} (hL : L ≤ r) (hd : 84 ≤ d) (hx : 11 ≤ bb.1 → SpE l G d b B n r k st Lc L x) (hy : twy bb.1 = true → SpE l G d b B n r k st Lc L y) (hA : thy bb.1 = true → SpA l G d b B n r k st Lc L y ∧ SpA l G (d - 1) b B n r k st Lc L y) (hnc : ¬ (bb.1 = 12 ∨ bb.1 = 14 ∨ bb.1 = 15 ∨ bb.1 = 16)) : SpE l G (d + 1) b B n r k st Lc L (.inner sz bb u x y) := sorry
end SPX
