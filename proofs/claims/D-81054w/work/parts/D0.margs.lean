/-! The model reads arguments. -/
/-- the columns of reading behind node k2, what is next to it among them -/
def pEx (s e1 k2 c j : Nat) : Bool := pE s e1 c j || (Nat.beq c 2180 && Nat.beq j (s * 1700 + k2))
theorem pEx_no {s e1 k2 c j : Nat} (h1 : pE s e1 c j = false) (h2 : ¬ (c = 2180 ∧ j = s * 1700 + k2)) : pEx s e1 k2 c j = false := sorry
theorem pE_pEx {s e1 k2 : Nat} : ∀ c j, pE s e1 c j = true → pEx s e1 k2 c j = true := sorry
theorem pEx_pE {s e0 e1 k2 : Nat} (h : e0 ≤ e1) (h2 : e0 ≤ k2) (h3 : k2 < 1700) : ∀ c j, pEx s e1 k2 c j = true → pE s e0 c j = true := sorry
/-- what the rest of a row leaves, behind node k2 -/
def oRw (st : Sg) (s : Nat) (B : Nat → Nat) (n w e1 k2 : Nat) (r : PR Nat) (R : PR (Tr × Nat)) (u : Sg) : Prop := ∃ e2, FJ (pEx s e1 k2) st u ∧ PS u s B n w e2 (bnd R (fun a => .ok a.2)) ∧ e1 ≤ e2 ∧ (∀ c, R = .ok c → isP c.1 = false ∧ MTr u s (yTok B n) c.1 e1 e2 (u.I 2180 0 (s * 1700 + k2))) ∧ (∀ t, r = .ok t → (∀ c, R = .ok c → t ≤ c.2 ∧ e2 + t ≤ e1 + c.2) ∧ (∀ z, R = .error z → e2 ≤ cap w)) ∧ (∀ z, r = .error z → e2 = e1 ∧ Fld u (.error z))
section SPX
variable {l : Launch} {G : Gl}
theorem mx_5 (hG : GOK G) (hZ : SOK G) {B : Nat → Nat} {n : Nat} (f : Nat) (h0 : ∀ f', f' < f → ME0 l G B n f') : ME5 l G B n f := sorry
end SPX
