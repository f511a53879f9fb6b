/-! Judging, the model: an E without a left part. -/
theorem swL {z : Int} {K : Nat} {P0 P1 P2 P3 P4 P5 P6 D : Prop} (hz : z = K) (h0 : K = 0 → P0) (h1 : K = 1 → P1) (h2 : K = 2 → P2) (h3 : K = 3 → P3) (h4 : K = 4 → P4) (h5 : K = 5 → P5) (h6 : K = 6 → P6) (hD : 6 < K → D) : (z = 0 → P0) ∧ (z = 1 → P1) ∧ (z = 2 → P2) ∧ (z = 3 → P3) ∧ (z = 4 → P4) ∧ (z = 5 → P5) ∧ (z = 6 → P6) ∧ ((z < 0 ∨ 6 < z) → D) := sorry
theorem kFac_m {τ s : Sg} {k : Nat} {nm : Int64} (hK : MK1 τ s k) (hn : TyC nm) : fany (fun j => decide (s.L 2130 0 (4 * cM k + j) = tM nm)) (nFc τ k) 0 = kFac τ k nm := sorry
theorem ckK_f {τ : Sg} {k c t : Nat} {nm : Int64} (h : ckK τ k nm t = .ok c) : wFind τ 1 nm = some c := sorry
section SPX
variable {l : Launch} {G : Gl} {d : Nat} {τ : Sg} {b k n L : Nat} {st : Bool} {Lc : List (Int64 × Int64 × Nat)} {B : Nat → Nat}
set_option maxHeartbeats 1000000 in
theorem mj_more (hG : GOK G) (hd : 14 ≤ d) {u : Sg} {P lo hi kk e sz w : Nat} {bb : Lb} {uu : Unit} {x y : Tr} (hC : CX τ u b k st Lc B n L P lo hi kk e bb) (hk : 8 ≤ bb.1 ∧ bb.1 ≤ 11) (hw : wt (Std.DTreeMap.Internal.Impl.inner sz bb uu x y) 0 w bb.2.1 e) (hx : bb.1 = 11 → SpEm l G d τ b k st Lc B n L x ∧ (MTg u b (NdC u (yTok B n)) x lo kk (u.I 2177 0 (b * 1700 + kk)) ∨ MTg u b (NdC u (yTok B n)) x (kk + 1) hi (u.I 2177 0 (b * 1700 + kk)))) (hy : thy bb.1 = true → SpAm l G d τ b k st Lc B n L y ∧ MTg u b (NdC u (yTok B n)) y (kk + 1) hi (u.I 2178 0 (b * 1700 + kk))) : CT l G yX11_leafOfMore (ws_ yX11_leafOfMore cX11_leafOfMore 5 (some .long)) (d + 1) [.ref (G.adr 11 0), .int (nI (b * 1700 + kk))] u (fun o s => ∃ vv, o = .returned (some (.long vv)) ∧ RL τ u s b (yTok B n) P bb.2.1 e lo hi (b * 1700 + kk) (ckE τ k st Lc (.inner sz bb uu x y)) vv) := sorry
end SPX
