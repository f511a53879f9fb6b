/-! Judging, the model: an E over its left part. -/
theorem swO {z : Int} {K : Nat} {P1 P2 P3 P4 D : Prop} (hz : z = K) (h1 : K = 11 → P1) (h2 : K = 12 → P2) (h3 : K = 13 → P3) (h4 : K = 14 → P4) (hD : 14 < K ∨ K < 11 → D) : (z = 11 → P1) ∧ (z = 12 → P2) ∧ (z = 13 → P3) ∧ (z = 14 → P4) ∧ ((z < 11 ∨ 14 < z) → D) := sorry
theorem wFits_int {τ : Sg} {t : Int64} : wFits τ 1 t 1 = decide (t = 1) := sorry
theorem isC_o {t : Int64} (h : TyOK t) : isCb (tM t) = (isOb t && !decide (t = 2)) := sorry
theorem TyOK_C {t : Int64} (h : TyOK t) (hb : (isOb t && !decide (t = 2)) = true) : TyC t := sorry
section SPX
variable {l : Launch} {G : Gl} {d : Nat} {τ : Sg} {b k n L : Nat} {st : Bool} {Lc : List (Int64 × Int64 × Nat)} {B : Nat → Nat}
set_option maxHeartbeats 1000000 in
theorem mj_over (hG : GOK G) (hd : 16 ≤ d) {u : Sg} {P lo hi kk e sz w : Nat} {bb : Lb} {uu : Unit} {x y x' : Tr} (hC : CX τ u b k st Lc B n L P lo hi kk e bb) (hk : 12 ≤ bb.1 ∧ bb.1 ≤ 20) (hw : wt (Std.DTreeMap.Internal.Impl.inner sz bb uu x y) 0 w bb.2.1 e) (ex : ckE τ k st Lc x = .ok x') (hM : MTg u b (NdA τ u (yTok B n)) x' lo kk (u.I 2177 0 (b * 1700 + kk)) ∨ MTg u b (NdA τ u (yTok B n)) x' (kk + 1) hi (u.I 2177 0 (b * 1700 + kk))) (hyE : twy bb.1 = true → SpEm l G d τ b k st Lc B n L y ∧ MTg u b (NdC u (yTok B n)) y (kk + 1) hi (u.I 2178 0 (b * 1700 + kk))) (hyA : thy bb.1 = true → SpAm l G (d + 1) τ b k st Lc B n L y ∧ MTg u b (NdC u (yTok B n)) y (kk + 1) hi (u.I 2178 0 (b * 1700 + kk))) {vx : Int32} (evx : vx = u.I 2177 0 (b * 1700 + kk)) : CT l G yX11_overLeft (ws_ yX11_overLeft cX11_overLeft 5 (some .long)) (d + 1 + 1) [.ref (G.adr 11 0), .int (nI (b * 1700 + kk)), .int vx, .long (tM (tyO x'))] u (fun o s => ∃ vv, o = .returned (some (.long vv)) ∧ RL τ u s b (yTok B n) P bb.2.1 e lo hi (b * 1700 + kk) (ckE τ k st Lc (.inner sz bb uu x y)) vv) := sorry
end SPX
