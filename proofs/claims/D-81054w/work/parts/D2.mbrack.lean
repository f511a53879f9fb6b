/-! The model reads an E: what stands in brackets; a unit's first part. -/
theorem NU.w' {σ st : Sg} {s n w w' e k e1 : Nat} {B : Nat → Nat} {r : PR Nat} {fI : Nat → Int32} {fL : Nat → Int64} (h : NU σ st s B n w e k e1 r fI fL) : NU σ (sI st 2189 0 0 (nI w')) s B n w' e k e1 r fI fL := sorry
theorem one_w {σ : Sg} {v : Int32} : FJ (fun c _ => Nat.beq c 2189) σ (sI σ 2189 0 0 v) := sorry
theorem one_w_no {c : Nat} (h : c ≠ 2189) : Nat.beq c 2189 = false := sorry
section SPX
variable {l : Launch} {G : Gl}
set_option maxHeartbeats 1000000 in
theorem mx_8 (hG : GOK G) (hZ : SOK G) {B : Nat → Nat} {n : Nat} (f : Nat) (h0 : ∀ f', f' < f → ME0 l G B n f') (h3 : ∀ f', f' < f → ME3 l G B n f') : ME8 l G B n f := sorry
end SPX
