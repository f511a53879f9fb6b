/-! Judging, the model: an E without a left part, all kinds. -/
section SPX
variable {l : Launch} {G : Gl} {d : Nat} {τ : Sg} {b k n L : Nat} {st : Bool} {Lc : List (Int64 × Int64 × Nat)} {B : Nat → Nat}
set_option maxHeartbeats 1000000 in
theorem mj_leaf (hG : GOK G) (hd : 16 ≤ d) {u : Sg} {P lo hi kk e sz w : Nat} {bb : Lb} {uu : Unit} {x y : Tr} (hC : CX τ u b k st Lc B n L P lo hi kk e bb) (hk : bb.1 ≤ 11) (hlb : bb.1 = 6 ∨ bb.1 = 7 → bb.2.2.2.1 = bb.2.1) (hw : wt (Std.DTreeMap.Internal.Impl.inner sz bb uu x y) 0 w bb.2.1 e) (hx : bb.1 = 11 → SpEm l G d τ b k st Lc B n L x ∧ (MTg u b (NdC u (yTok B n)) x lo kk (u.I 2177 0 (b * 1700 + kk)) ∨ MTg u b (NdC u (yTok B n)) x (kk + 1) hi (u.I 2177 0 (b * 1700 + kk)))) (hy : thy bb.1 = true → SpAm l G d τ b k st Lc B n L y ∧ SpAm l G (d + 1) τ b k st Lc B n L y ∧ MTg u b (NdC u (yTok B n)) y (kk + 1) hi (u.I 2178 0 (b * 1700 + kk))) : CT l G yX11_leaf (ws_ yX11_leaf cX11_leaf 2 (some .long)) (d + 1 + 1) [.ref (G.adr 11 0), .int (nI (b * 1700 + kk))] u (fun o s => ∃ vv, o = .returned (some (.long vv)) ∧ RL τ u s b (yTok B n) P bb.2.1 e lo hi (b * 1700 + kk) (ckE τ k st Lc (.inner sz bb uu x y)) vv) := sorry
end SPX
