/-! Judging, LinkHouse: the bridges of a class. -/
theorem brF_app {τ : Sg} {k m : Nat} : ∀ (xs ys : List Nat) (Bs : BrL), brF τ k m (xs ++ ys) Bs = bnd (brF τ k m xs Bs) fun Bs' => brF τ k m ys Bs' := sorry
theorem pBr_up {k T n n' : Nat} (h : n ≤ n') : ∀ c i, pBr k T n c i = true → pBr k T n' c i = true := sorry
theorem pBr_pJ {b k T n : Nat} (hk : 12 * b ≤ k ∧ k < 12 * b + 12) (hT : T + n ≤ 33) : ∀ c i, pBr k T n c i = true → pJ b c i = true := sorry
theorem BI.mx {τ σ ρ : Sg} {k T : Nat} {Bs : BrL} {p : Nat → Nat → Bool} (h : BI τ σ k T Bs) (hp : ∀ c i, p c i = true → 1303 < c ∧ c ≤ 1313) : BI τ (mix p σ ρ) k T Bs := sorry
section SPX
variable {l : Launch} {G : Gl} {d : Nat}
/-- bridges from m for what stands above it in class c -/
theorem sp_X6_bridgesTo (hG : GOK G) {τ σ : Sg} {b n r k T jm c : Nat} {Bs : BrL} {B : Nat → Nat} (hd : 5 ≤ d) (hL : LRd τ b B n r) (hr : r ≤ 702) (hK : BK τ k T) (hkb : 12 * b ≤ k ∧ k < 12 * b + 12) (hB : BI τ σ k T Bs) (h603 : σ.R 1603 0 0 = some k) (hjm : jm < T) (hms : τ.I 1200 (33 * k + jm) 0 = 1) (hc : c < cnt 1) (hck : ¬ c = k) (hof : OfK τ c) (hT : TkB (τ.I 1124 k 0) r) : CT l G yX6_bridgesTo (ws_ yX6_bridgesTo cX6_bridgesTo 5 none) d [.ref (G.adr 6 0), rv G 2 (some (33 * k + jm)), rv G 1 (some c)] σ (oJ G b (yTok B n) τ (brF τ k (33 * k + jm) (abC τ k (33 * k + jm) c) Bs) (fun Bs' o s => o = .returned none ∧ BI τ s k T Bs' ∧ s.R 1603 0 0 = some k ∧ ∀ x i j, 1303 < x → x ≤ 1313 → s.R x i j = σ.R x i j)) := sorry
end SPX
