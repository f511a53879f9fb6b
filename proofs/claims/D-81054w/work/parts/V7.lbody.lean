/-! LinkHouse: a member's body; its code in plain terms. -/
/-- the maker above that is called where none is told -/
noncomputable def mdM (τ : Sg) (k : Nat) : Nat := (jMkO τ k (wPar τ 1 k) []).getD 0
/-- what stands ahead of a maker's body -/
noncomputable def mkCd (τ : Sg) (k m : Nat) (x : Tr) (ix : Us → Int32) : List Int32 := if τ.I 1200 m 0 = 2 ∧ tlS x = false then spC τ k (mdM τ k) ix .leaf ++ frC (fsW τ k) else []
/-- the code of a member that is no bridge; x its judged tree -/
noncomputable def cdM (τ : Sg) (k m : Nat) (x : Tr) (p : Nat) (ix : Us → Int32) : List Int32 :=
  if τ.I 1200 m 0 = 0 then (if isLf x = true ∨ τ.B 1212 m 0 = true then [] else cdE τ k ix x ++ ([if τ.B 1203 m 0 = true then 26 else 27, τ.I 1221 m 0] ++ [24, 0]))
  else if τ.I 1200 m 0 = 1 ∧ isLf x = true then []
  else mkCd τ k m x ix ++ (cdS τ k ix (fsW τ k) x (p + (mkCd τ k m x (fun _ => 0)).length) ++ [24, 0])
noncomputable def hdM (τ : Sg) (k m : Nat) (x : Tr) (p : Nat) (ix : Us → Int32) : List Ctc :=
  if τ.I 1200 m 0 = 0 then [] else hdS τ k ix (fsW τ k) x (p + (mkCd τ k m x (fun _ => 0)).length)
/-- a member has code -/
def hsC (τ : Sg) (m : Nat) (x : Tr) : Bool := if τ.I 1200 m 0 = 0 then !(isLf x || τ.B 1212 m 0) else !(decide (τ.I 1200 m 0 = 1) && isLf x)
/-- the places that writing takes -/
noncomputable def cdL (τ : Sg) (k m : Nat) (x : Tr) (p : Nat) : Nat := if τ.I 1200 m 0 = 0 ∧ τ.B 1212 m 0 = true then (cdE τ k (fun _ => 0) x).length else (cdM τ k m x p (fun _ => 0)).length
/-- the columns of a body -/
def pBw (b m c i : Nat) : Bool := pSt c i || (pWs b c i || decide (c = 1219 ∧ i = m))
theorem pBw_iff {b m c i : Nat} : pBw b m c i = true ↔ pSt c i = true ∨ pWs b c i = true ∨ (c = 1219 ∧ i = m) := sorry
theorem pBw_no {b m c i : Nat} (h : ¬ ((1303 < c ∧ c ≤ 1313) ∨ (1605 < c ∧ c ≤ 1617) ∨ (1699 < c ∧ c ≤ 1704) ∨ (1199 < c ∧ c ≤ 1222 ∧ 6402 ≤ i) ∨ (2008 < c ∧ c ≤ 2013) ∨ (c = 1219 ∧ i = m))) : pBw b m c i = false := sorry
/-- what a body leaves -/
def RBd (τ σ s : Sg) (b k n0 p q m : Nat) (U : List Us) (R : List Us) (x : Tr) (sn : Nat) : Prop := Fl (pBw b m) σ s ∧ LW s 0 b k (addL U R) n0 ∧ (s.I 1614 0 0 = nI sn ∧ s.I 1219 m 0 = if hsC τ m x = true then nI p else -2) ∧ ((∀ ix, (cdM τ k m x p ix).length = (cdM τ k m x p fun _ => 0).length) ∧ s.I 2011 b 0 = nI (p + (cdM τ k m x p fun _ => 0).length) ∧ ∀ j, j < p → s.I 2010 b j = σ.I 2010 b j) ∧ ((∀ ix, (hdM τ k m x p ix).length = (hdM τ k m x p fun _ => 0).length) ∧ s.I 2013 b 0 = nI (q + (hdM τ k m x p fun _ => 0).length) ∧ ∀ j, j < 4 * q → s.I 2012 b j = σ.I 2012 b j) ∧ ∀ UF, Pre (addL U R) UF → CdA s b p (cdM τ k m x p (ixF UF n0)) ∧ HdA s b q (hdM τ k m x p (ixF UF n0))
theorem RBd.of {τ σ s1 s : Sg} {b k n0 p q m : Nat} {U R : List Us} {x : Tr} {sn : Nat} {v : Int32} {C : (Us → Int32) → List Int32} {H : (Us → Int32) → List Ctc} (hm : m < 6402) (hF : Fl pSt σ s1) (h14 : s1.I 1614 0 0 = nI sn) (hR : RWs (sI s1 1219 m 0 v) s b k n0 p q U R C H) (hv : v = if hsC τ m x = true then nI p else -2) (hC : ∀ ix, C ix = cdM τ k m x p ix) (hH : ∀ ix, H ix = hdM τ k m x p ix) : RBd τ σ s b k n0 p q m U R x sn := sorry
/-- a member whose body is to be judged and written -/
def LBh (τ σ : Sg) (b k n0 p q m : Nat) (U : List Us) (B : Nat → Nat) (n r L : Nat) (x : Tr) (a e : Nat) : Prop := BW τ σ b k n0 p q U B n r ∧ (LivU τ (wKs τ 1) m ∧ τ.B 1206 m 0 = false) ∧ (σ.R 1604 0 0 = some m ∧ σ.B 1605 0 0 = bSt τ m ∧ LcS σ [] ∧ σ.I 1614 0 0 = nI (bSn τ m) ∧ σ.I 1219 m 0 = -2) ∧ (L ≤ r ∧ e ≤ 700 ∧ PmW τ m r) ∧ (LTr σ (yTok B n) L x 0 1410 (τ.I 1218 m 0) ∧ whl x ∧ ht x ≤ 1000) ∧ ((τ.I 1200 m 0 = 0 → x = .leaf ∨ ∃ w, wt x 0 w a e) ∧ (¬ τ.I 1200 m 0 = 0 → x = .leaf ∨ (kdO x = 30 ∧ ∃ w, wt x 2 w a e)) ∧ (τ.I 1200 m 0 = 3 → ¬ x = .leaf)) ∧ ((τ.I 1200 m 0 = 0 ∨ τ.I 1200 m 0 = 1 ∨ τ.I 1200 m 0 = 2 ∨ τ.I 1200 m 0 = 3) ∧ (τ.I 1200 m 0 = 2 → ∃ pp, wPar τ 1 k = some pp) ∧ (τ.B 1212 m 0 = true → τ.I 1200 m 0 = 0)) ∧ (τ.I 1214 m 0 = -2 ∨ (τ.I 1214 m 0 = nI (tkN (τ.I 1214 m 0)) ∧ tkN (τ.I 1214 m 0) < r)) ∧ (τ.I 1124 k 0 = nI (tkN (τ.I 1124 k 0)) ∧ tkN (τ.I 1124 k 0) < r) ∧ (¬ τ.I 1200 m 0 = 2 → τ.I 1200 m 0 = 1 → ¬ τ.I 1214 m 0 = -2) ∧ ∀ z : Tr × Lcs × Nat, bdJ τ k m x = .ok z → (addL U (ndM τ k m 0 z.1)).length ≤ 1000 ∧ p + cdL τ k m z.1 p ≤ 6000 ∧ q + (hdM τ k m z.1 p fun _ => 0).length ≤ 100
theorem LTr_no {σ : Sg} {T : Nat → Tk} {L lo hi : Nat} {x : Tr} {v : Int32} (h : LTr σ T L x lo hi v) : v = -2 ↔ x = .leaf := sorry
theorem wt0_nl {x : Tr} {w a e : Nat} (h : wt x 0 w a e) : isLf x = false := sorry
theorem smT_lf {x x' : Tr} (h : smT x x') : isLf x' = isLf x := sorry
section SPX
variable {l : Launch} {G : Gl} {d : Nat} {τ σ : Sg} {b k n0 p q m n r L a e : Nat} {U : List Us} {B : Nat → Nat} {x : Tr}
/-- a field -/
theorem lb_field (hG : GOK G) (hd : 3 * ht x + 100 ≤ d) (h : LBh τ σ b k n0 p q m U B n r L x a e) (h0 : τ.I 1200 m 0 = 0) : CT l G yX6_body (ws_ yX6_body cX6_body 2 none) d [.ref (G.adr 6 0)] σ (oJ G b (yTok B n) σ (bdJ τ k m x) (fun z o s => o = .returned none ∧ RBd τ σ s b k n0 p q m U (ndM τ k m 0 z.1) z.1 (if isLf x = true then bSn τ m else z.2.2))) := sorry
end SPX
