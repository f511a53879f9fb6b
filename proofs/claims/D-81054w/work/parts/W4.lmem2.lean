/-! LinkHouse: any member's body. -/
/-- the columns of a member's body, its class's -/
def pMx (b m c i : Nat) : Bool := rg 1303 1313 c || (rg 1601 1617 c || (pWs b c i || decide ((c = 1219 ∨ c = 1220) ∧ i = m)))
theorem pMx_iff {b m c i : Nat} : pMx b m c i = true ↔ (1303 < c ∧ c ≤ 1313) ∨ (1601 < c ∧ c ≤ 1617) ∨ pWs b c i = true ∨ ((c = 1219 ∨ c = 1220) ∧ i = m) := sorry
theorem pMx_no {b m c i : Nat} (h : ¬ ((1303 < c ∧ c ≤ 1313) ∨ (1601 < c ∧ c ≤ 1617) ∨ (1699 < c ∧ c ≤ 1704) ∨ (1199 < c ∧ c ≤ 1222 ∧ 6402 ≤ i) ∨ (2008 < c ∧ c ≤ 2013) ∨ ((c = 1219 ∨ c = 1220) ∧ i = m))) : pMx b m c i = false := sorry
theorem pBw_pMx {b m : Nat} : ∀ c i, pBw b m c i = true → pMx b m c i = true := sorry
/-- what a member's body leaves -/
def RMb (τ σ s : Sg) (b k n0 p q m t : Nat) (U : List Us) (x : Tr) (ln : Nat) : Prop := Fl (pMx b m) σ s ∧ LW s 0 b k (addL U (ndM τ k m t x)) n0 ∧ (s.I 2011 b 0 = nI (p + (cdX τ k m t x p fun _ => 0).length) ∧ ∀ j, j < p → s.I 2010 b j = σ.I 2010 b j) ∧ ((∀ ix, (hdX τ k m x p ix).length = (hdX τ k m x p fun _ => 0).length) ∧ s.I 2013 b 0 = nI (q + (hdX τ k m x p fun _ => 0).length) ∧ ∀ j, j < 4 * q → s.I 2012 b j = σ.I 2012 b j) ∧ DnB τ s b k n0 m t x p q ln (addL U (ndM τ k m t x))
/-- locals of a member -/
noncomputable def lnX (τ : Sg) (k m : Nat) (x0 : Tr) : Nat := if τ.B 1206 m 0 = true then nPa τ m + 1 else jn τ k m x0
/-- the judged tree of any member -/
noncomputable def jtX (τ : Sg) (k m : Nat) (x0 : Tr) : Tr := if τ.B 1206 m 0 = true then .leaf else jt τ k m x0
/-- the check of any member -/
noncomputable def bdX (τ : Sg) (k m : Nat) (x0 : Tr) : PR Unit := if τ.B 1206 m 0 = true then .ok () else bnd (bdJ τ k m x0) fun _ => .ok ()
theorem max_nI {a b : Nat} (ha : a < 2 ^ 31) (hb : b < 2 ^ 31) : (if nI a < nI b then nI b else nI a) = nI (max a b) := sorry
theorem jn_lt {τ : Sg} {k m r L a e : Nat} {x : Tr} (hO : OkW τ) (h : LBs τ k m r L x a e) : jn τ k m x ≤ 1000 := sorry
/-- what any member must meet -/
def LBx (τ : Sg) (k m t r L : Nat) (x : Tr) (a e : Nat) : Prop := (τ.B 1206 m 0 = true → LBb τ k m t) ∧ (τ.B 1206 m 0 = false → LBs τ k m r L x a e ∧ t = 0)
theorem BW.of_rm {τ σ s : Sg} {b k n0 p q m t ln n r : Nat} {U : List Us} {B : Nat → Nat} {x : Tr} (hB : BW τ σ b k n0 p q U B n r) (h : RMb τ σ s b k n0 p q m t U x ln) : BW τ s b k n0 (p + (cdX τ k m t x p fun _ => 0).length) (q + (hdX τ k m x p fun _ => 0).length) (addL U (ndM τ k m t x)) B n r := sorry
section SPX
variable {l : Launch} {G : Gl} {d : Nat} {τ σ : Sg} {b k n0 p q m t n r L a e : Nat} {U : List Us} {B : Nat → Nat} {x : Tr}
theorem lm_body (hG : GOK G) (hd : 1700 ≤ d) (hB : BW τ σ b k n0 p q U B n r) (hm : 33 * k ≤ m ∧ m < 33 * k + 33) (hX : LBx τ k m t r L x a e) (hkW : k ∈ wKs τ 1) (h4 : σ.R 1604 0 0 = some m) (h5 : σ.B 1605 0 0 = bSt τ m) (hlc : LcS σ []) (h14 : σ.I 1614 0 0 = nI (bSn τ m)) (h19 : σ.I 1219 m 0 = -2) (h20 : σ.I 1220 m 0 = 0) (hT : τ.B 1206 m 0 = false → LTr σ (yTok B n) L x 0 1410 (τ.I 1218 m 0)) (h1 : (addL U (ndM τ k m t (jtX τ k m x))).length ≤ 1000) (h2 : p + clX τ k m t (jtX τ k m x) p ≤ 6000) (h3 : q + (hdX τ k m (jtX τ k m x) p fun _ => 0).length ≤ 100) {K : Sg → Prop} {Q : Outcome → Sg → Prop} {σ0 : Sg} {kk : Unit → PR Unit} {K0 : Unit → Outcome → Sg → Prop} (hF0 : Fl (pJ b) σ0 σ) (hQ : oJ G b (yTok B n) σ0 (bnd (bdX τ k m x) kk) K0 = Q) (hK : ∀ s, oJ G b (yTok B n) σ0 (kk ()) K0 = Q → (∃ s1, s1.R 1604 0 0 = some m ∧ (∃ v1 v2 : Int32, s1.I 1220 m 0 = v1 ∧ s1.I 1614 0 0 = v2 ∧ s = sI s1 1220 m 0 (if v1 < v2 then v2 else v1))) → RMb τ σ s b k n0 p q m t U (jtX τ k m x) (lnX τ k m x) → K s) : CT l G yX6_body (ws_ yX6_body cX6_body 2 none) d [.ref (G.adr 6 0)] σ (oV (fun σ_1 => ∃ k_4 : Nat, (σ_1.R 1604 0 0) = some k_4 ∧ (k_4 < cnt 2 → (CT l G yJ_max (ws_ yJ_max cJ_max 2 (some .int)) d [.int (σ_1.I 1220 k_4 0), .int (σ_1.I 1614 0 0)] σ_1 (oI (fun v_8 σ_7 => K (sI σ_7 1220 k_4 0 v_8)) (fun x σ => Q (.threw x) σ))))) (fun x σ => Q (.threw x) σ)) := sorry
end SPX
