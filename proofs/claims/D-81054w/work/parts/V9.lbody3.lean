/-! LinkHouse: a method's body, a start. -/
section SPX
variable {l : Launch} {G : Gl} {d : Nat} {τ σ : Sg} {b k n0 p q m n r L a e : Nat} {U : List Us} {B : Nat → Nat} {x : Tr}
/-- a judged block, ready to be written -/
theorem lb_ready {s1 s2 : Sg} {w sn : Nat} {Lc : Lcs} {z : Tr × Lcs × Nat} (hB : BW τ σ b k n0 p q U B n r) (hL : LivU τ (wKs τ 1) m) (h4 : σ.R 1604 0 0 = some m) (hF1 : Fl pSt σ s1) (hT : LTr σ (yTok B n) L x 0 1410 (τ.I 1218 m 0)) (hLr : L ≤ r) (he7 : e ≤ 700) (hwh : whl x) (hw : wt x 2 w a e) (hlg : LcG Lc) (hl4 : Lc.length ≤ 4) (hs5 : sn ≤ 5) (hj : ckS τ k (bSt τ m) (τ.I 1200 m 0) (τ.L 1207 m 0) x 2 Lc sn = .ok z) (hF2 : FrS s1 s2 a e 0 1410) (hA : LAn s2 a e z.1 0 1410 (τ.I 1218 m 0)) : WSt τ (sI s2 1219 m 0 (nI p)) b k n0 p q U B n r (τ.L 1207 m 0) ∧ LWt (sI s2 1219 m 0 (nI p)) (yTok B n) r z.1 (τ.I 1218 m 0) ∧ wt z.1 2 w a e ∧ gdS τ k (τ.I 1200 m 0) (τ.L 1207 m 0) z.1 ∧ okT k z.1 ∧ okS z.1 ∧ smT x z.1 := sorry
/-- what a block's body leaves -/
theorem lb_fin {s2 s5 : Sg} {x' : Tr} {sn' : Nat} {R : List Us} (hm : m < 6402) (h0 : ¬ τ.I 1200 m 0 = 0) (hne : ¬ (τ.I 1200 m 0 = 1 ∧ isLf x' = true)) (hbr : τ.B 1206 m 0 = false) (hF : Fl pSt σ s2) (h14 : s2.I 1614 0 0 = nI sn') (hR : RWs (sI s2 1219 m 0 (nI p)) s5 b k n0 p q U R (fun ix => mkCd τ k m x' ix ++ (cdS τ k ix (fsW τ k) x' (p + (mkCd τ k m x' fun _ => 0).length) ++ [24, 0])) (fun ix => hdS τ k ix (fsW τ k) x' (p + (mkCd τ k m x' fun _ => 0).length))) (eR : R = ndM τ k m 0 x') : RBd τ σ s5 b k n0 p q m U (ndM τ k m 0 x') x' sn' := sorry
theorem mkCd_no {x' : Tr} {ix : Us → Int32} (h : ¬ τ.I 1200 m 0 = 2) : mkCd τ k m x' ix = [] := sorry
theorem bMk_no (h : ¬ τ.I 1200 m 0 = 2) : bMk τ k m x = .ok () := sorry
theorem bdJ_m (h0 : ¬ τ.I 1200 m 0 = 0) : bdJ τ k m x = (bnd (pmK τ m (nPa τ m) 0 [] (bSn τ m)) fun q => bnd (bMk τ k m x) fun _ => bnd (bS0 τ k m x q) fun p => bnd (bEd τ k m x) fun _ => .ok p) := sorry
theorem bSn_le : bSn τ m ≤ 1 := sorry
/-- a method -/
theorem lb_meth (hG : GOK G) (hd : 4 * ht x + 110 ≤ d) (h : LBh τ σ b k n0 p q m U B n r L x a e) (h1 : τ.I 1200 m 0 = 1) : CT l G yX6_body (ws_ yX6_body cX6_body 2 none) d [.ref (G.adr 6 0)] σ (oJ G b (yTok B n) σ (bdJ τ k m x) (fun z o s => o = .returned none ∧ RBd τ σ s b k n0 p q m U (ndM τ k m 0 z.1) z.1 z.2.2)) := sorry
/-- a start -/
theorem lb_start (hG : GOK G) (hd : 4 * ht x + 110 ≤ d) (h : LBh τ σ b k n0 p q m U B n r L x a e) (h3 : τ.I 1200 m 0 = 3) (hn0 : nPa τ m = 0) : CT l G yX6_body (ws_ yX6_body cX6_body 2 none) d [.ref (G.adr 6 0)] σ (oJ G b (yTok B n) σ (bdJ τ k m x) (fun z o s => o = .returned none ∧ RBd τ σ s b k n0 p q m U (ndM τ k m 0 z.1) z.1 z.2.2)) := sorry
end SPX
