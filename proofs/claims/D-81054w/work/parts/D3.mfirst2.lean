/-! The model reads an E: a unit's first part; the whole group. -/
section SPX
variable {l : Launch} {G : Gl}
theorem pHt_no {T : Nat → Tk} {q t : Nat} (h : ¬ (T t).1 = q) (h9 : ¬ (T t).1 = 999) : bnd (.ok t) (pHt T q) = .ok t := sorry
theorem pHt_yes {T : Nat → Tk} {q t : Nat} (h : (T t).1 = q) (h9 : ¬ (T t).1 = 999) : bnd (.ok t) (pHt T q) = pTa t := sorry
set_option maxHeartbeats 1000000 in
theorem mx_4 (hG : GOK G) (hZ : SOK G) {B : Nat → Nat} {n : Nat} (f : Nat) (h5 : ∀ f', f' < f → ME5 l G B n f') (h6 : ∀ f', f' < f → ME6 l G B n f') (h8 : ∀ f', f' < f → ME8 l G B n f') : ME4 l G B n f := sorry
/-- the whole group -/
theorem mx_all (hG : GOK G) (hZ : SOK G) {B : Nat → Nat} {n : Nat} : ∀ f, ME0 l G B n f ∧ ME1 l G B n f ∧ ME2 l G B n f ∧ ME3 l G B n f ∧ ME4 l G B n f ∧ ME5 l G B n f := sorry
end SPX
