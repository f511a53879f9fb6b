/-! LinkHouse: a maker's body. -/
theorem LTr_tl {σ : Sg} {T : Nat → Tk} {L N w a e : Nat} {x : Tr} (hw : wt x 2 w a e) (h30 : kdO x = 30) (hT : LTr σ T L x 0 1410 (nI N)) (hN : N < 1410) : (σ.I 1511 0 N = -2 ∧ tlS x = false) ∨ ∃ n1 K, σ.I 1511 0 N = nI n1 ∧ n1 < 1410 ∧ σ.I 1509 0 n1 = nI K ∧ K < 100 ∧ (tlS x = true ↔ K = 38) := sorry
theorem prU_M {τ : Sg} {k mm : Nat} (hp : pmL τ mm = []) : prU τ k mm [] = prM τ k := sorry
section SPX
variable {l : Launch} {G : Gl} {d : Nat} {τ σ : Sg} {b k n0 p q m n r L a e : Nat} {U : List Us} {B : Nat → Nat} {x : Tr}
theorem lb_maker0 (hG : GOK G) (hd : 4 * ht x + 110 ≤ d) (h : LBh τ σ b k n0 p q m U B n r L x a e) (h2 : τ.I 1200 m 0 = 2) : CT l G yX6_makerBody (ws_ yX6_makerBody cX6_makerBody 6 none) d [.ref (G.adr 6 0), rv G 2 (some m)] σ (oJ G b (yTok B n) σ (bdJ τ k m x) (fun z o s => o = .returned none ∧ RBd τ σ s b k n0 p q m U (ndM τ k m 0 z.1) z.1 z.2.2)) := sorry
theorem lb_maker (hG : GOK G) (hd : 4 * ht x + 115 ≤ d) (h : LBh τ σ b k n0 p q m U B n r L x a e) (h2 : τ.I 1200 m 0 = 2) : CT l G yX6_body (ws_ yX6_body cX6_body 2 none) d [.ref (G.adr 6 0)] σ (oJ G b (yTok B n) σ (bdJ τ k m x) (fun z o s => o = .returned none ∧ RBd τ σ s b k n0 p q m U (ndM τ k m 0 z.1) z.1 z.2.2)) := sorry
end SPX
