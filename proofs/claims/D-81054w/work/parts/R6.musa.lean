/-! The model's uses of an E: every E. -/
section SPX
variable {l : Launch} {G : Gl} {d : Nat} {τ : Sg} {b k n L : Nat} {B : Nat → Nat}
theorem plA_A {τ u : Sg} {T : Nat → Tk} {bb : Lb} {X n : Nat} {B : Nat → Nat} (hB : BOK B n) (h : NdA τ u (yTok B n) bb X) : plA u X = (yTok B n bb.2.1).2.2.1 := sorry
/-- params that a node keeps -/
theorem PmY_of {τ u : Sg} {X m k k' : Nat} (hU : JgU τ u k) (hS : JMs τ k') (hk : JMs τ k' = JMs τ k) (h : KpP τ u X m) (hm : LivU τ (wKs τ 1) m) : PmY u X 0 (pmL τ m) := sorry
theorem UsN_n {τ s : Sg} {b k X : Nat} {UF : List Us} {bb : Lb} (h : (1 ≤ bb.1 ∧ bb.1 ≤ 3) ∨ (12 ≤ bb.1 ∧ bb.1 ≤ 16) ∨ bb.1 = 20 ∨ (bb.1 = 4 ∧ bb.2.2.2.2.2.2.2.1 = 0)) : UsN τ s b k UF bb X := sorry
theorem mu_leaf (hG : GOK G) {u : Sg} {P lo hi kk e sz w : Nat} {bb : Lb} {uu : Unit} {x y : Tr} {U : List Us} (hd : 6 ≤ d) (hC : CU τ u b k B n L P lo hi kk e bb y U) (hk : 1 ≤ bb.1 ∧ bb.1 ≤ 11) (hw : wt (Std.DTreeMap.Internal.Impl.inner sz bb uu x y) 0 w bb.2.1 e) (hL : (addL U (ndE τ k (.inner sz bb uu x y) [])).length < 1800) (hx : bb.1 = 11 → SpUm l G d τ b k B n L x ∧ gdE τ x ∧ (MTg u b (NdA τ u (yTok B n)) x lo kk (u.I 2177 0 (b * 1700 + kk)) ∨ MTg u b (NdA τ u (yTok B n)) x (kk + 1) hi (u.I 2177 0 (b * 1700 + kk)))) (hy : thy bb.1 = true → SpUa l G d τ b k B n L y ∧ gdE τ y ∧ MTg u b (NdA τ u (yTok B n)) y (kk + 1) hi (u.I 2178 0 (b * 1700 + kk))) : CT l G yX11_usesLeaf (ws_ yX11_usesLeaf cX11_usesLeaf 2 none) (d + 1) [.ref (G.adr 11 0), .int (nI (b * 1700 + kk))] u (rV (fun s => RU τ u s b k (yTok B n) P bb.2.1 e lo hi U (.inner sz bb uu x y) [] (nI (b * 1700 + kk)))) := sorry
end SPX
