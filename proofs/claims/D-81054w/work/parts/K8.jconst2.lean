/-! Judging, LinkHouse: constants of all classes. -/
section SPX
variable {l : Launch} {G : Gl} {β : Type}
theorem sp_X6_isConstant (hG : GOK G) {σ : Sg} {b n r k L : Nat} {B : Nat → Nat} (hL : LRd σ b B n r) (hr : r ≤ 702) (hLr : L ≤ r) (hW : WOK σ 1) (hS : Shp σ) (hM : MOK σ) (h603 : σ.R 1603 0 0 = some k) (hk : k < cnt 1) : ∀ (x : Tr) (lo hi d w0 a0 e0 : Nat) (v : Int32) (ρ : Sg), ht x + 71 ≤ d → LTr σ (yTok B n) L x lo hi v → wt x 0 w0 a0 e0 → CT l G yX6_isConstant (ws_ yX6_isConstant cX6_isConstant 4 (some .boolean)) d [.ref (G.adr 6 0), .int v] (mix pCs σ ρ) (rC σ (jCs σ k x)) := sorry
end SPX
