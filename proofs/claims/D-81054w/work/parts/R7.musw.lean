/-! The model lays the uses of every E. -/
section SPX
variable {l : Launch} {G : Gl} {τ : Sg} {b k n L : Nat} {B : Nat → Nat}
/-- an E, along its left parts -/
def WU (l : Launch) (G : Gl) (τ : Sg) (b k : Nat) (B : Nat → Nat) (n L : Nat) (x : Tr) : Prop := ∀ (d lo hi w a e : Nat) (v : Int32), wt x 0 w a e → gdE τ x → e ≤ L → hi ≤ 1700 → 4 * ht x + 20 ≤ d → ∀ (u : Sg) (U : List Us), JU τ u b k U → MTg u b (NdA τ u (yTok B n)) x lo hi v → (addL U (ndE τ k x [])).length < 1800 → ∀ (P P0 N : Nat) (x1 : Int32) (Q : Outcome → Sg → Prop), u.I 2208 0 0 = nI P → P + (hi - lo) ≤ 1703 → P0 ≤ P → (∀ s, RU τ u s b k (yTok B n) P a e lo hi U x [] v → wq_X11_usesE_98 l G d 0 x1 Q N (nI P0) s) → ∃ M, wq_X11_usesE_7 l G d 0 x1 Q M (nI P0) v u
theorem WU.E (hG : GOK G) {x : Tr} (h : WU l G τ b k B n L x) {d : Nat} (hd : 4 * ht x + 21 ≤ d) : SpUm l G d τ b k B n L x := sorry
theorem FrU_pa {u : Sg} {b pa pe lo hi P : Nat} {X v : Int32} : FrU u (sI (sI u 2207 0 P X) 2208 0 0 v) b pa pe lo hi := sorry
theorem FrU_pt {u : Sg} {b pa pe lo hi : Nat} {v : Int32} : FrU u (sI u 2208 0 0 v) b pa pe lo hi := sorry
theorem MS_p {u : Sg} {b k c j : Nat} {U : List Us} {v : Int32} (h : MS u b k U) (hc : c = 2207 ∨ c = 2208 ∨ c = 2187) : MS (sI u c 0 j v) b k U := sorry
set_option maxHeartbeats 1000000 in
theorem WU_n (hG : GOK G) (hB : BOK B n) (hNE : NEt (yTok B n) L) {sz : Nat} {bb : Lb} {uu : Unit} {x y : Tr} (hx : 11 ≤ bb.1 → WU l G τ b k B n L x) (hyE : twy bb.1 = true → ∀ d, 4 * ht y + 21 ≤ d → SpUm l G d τ b k B n L y) (hyA : thy bb.1 = true → ∀ d, 4 * ht y + 22 ≤ d → SpUa l G d τ b k B n L y) : WU l G τ b k B n L (.inner sz bb uu x y) := sorry
/-- THE MODEL LAYS THE USES OF EVERY E AS ndE SAYS -/
theorem mu_all (hG : GOK G) (hB : BOK B n) (hNE : NEt (yTok B n) L) : ∀ (x : Tr), (1 ≤ kdO x ∧ kdO x ≤ 20 → WU l G τ b k B n L x) ∧ (isRw x → ∀ d, 4 * ht x + 21 ≤ d → LpUa l G d τ b k B n L x) := sorry
end SPX
