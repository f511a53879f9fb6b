/-! THE HOUSE: a build is picked (LinkHouse). -/
section RNW
variable {l : Launch} {G : Gl} {d : Nat} {σ s t τ : Sg} {M : MSt} {p : Nat → Nat → Bool}
theorem MRm.fl (h : MRm s M) (hF : Fl p s t) (h1 : ∀ c, 1800 < c → c ≤ 1803 → p c 1 = false) (h2 : ∀ c, 1901 < c → c ≤ 1912 → p c 0 = false) : MRm t M := sorry
theorem MMm.fl (h : MMm τ s M) (hF : Fl p s t) (h1 : p 2192 0 = false) (h2 : ∀ c, 2231 < c → c ≤ 2236 → p c 0 = false) (h3 : ∀ c, 2247 < c → c ≤ 2253 → p c 0 = false) (h4 : p 2263 0 = false ∧ p 2268 0 = false ∧ p 2269 0 = false) : MMm τ t M := sorry
theorem wLy_fl (hF : Fl p s t) (h0 : ∀ c, 1004 < c → c ≤ 1008 → p c 0 = false) (h1 : ∀ x, p 2007 x = false ∧ p 2009 x = false) (h2 : ∀ k, p 1100 k = false) : wLy t = wLy s := sorry
/-- the columns that renewing changes -/
def pRn (c i : Nat) : Bool := decide (c = 1026) || (pLw c i || pBg c i)
theorem pRn_no {c i : Nat} (h : c ≤ 1025 ∨ (1026 < c ∧ c < 1128) ∨ (1128 < c ∧ c ≤ 1301) ∨ (1303 < c ∧ c ≤ 1800) ∨ (1803 < c ∧ c ≤ 1901) ∨ (1909 < c) ∨ c = 1905 ∨ c = 1906 ∨ c = 1908) : pRn c i = false := sorry
/-- what is left when LinkHouse is renewed -/
def RnL (s : Sg) (M : MSt) (t : Sg) : Prop := Fl pRn s t ∧ WLs t 0 (wLy s) ∧ (∀ (j k : Nat), (wLy s)[j]? = some k → t.I 1128 k 0 = nI j) ∧ (∀ b i, b < hN s → i < hKs s b → ¬ (12 * b + i) ∈ wLy s → t.I 1128 (12 * b + i) 0 = -2) ∧ MRm t (frM M) ∧ t.I 1026 0 0 = 0
theorem sp_X0_renew (hG : GOK G) (hd : 4 ≤ d) (hH : HOK s) (h93 : ¬ s.L 1100 192 0 = s.L 1100 193 0) (hM : MRm s M) : CT l G yX0_renew (ws_ yX0_renew cX0_renew 1 none) d [.ref (G.adr 0 0)] s (rV (RnL s M)) := sorry
/-- what may be picked -/
def pkO (s : Sg) (x y : Int32) : Prop := inN 5 x = true ∧ (y = -2 ∨ ∃ b, hB s x y = some b)
/-- the state in which another build is picked -/
abbrev pkS (s : Sg) (x y : Int32) : Sg := sI s 1008 0 x.toNatClampNeg y
theorem HOK.pick (h : HOK s) {x y : Int32} (hp : pkO s x y) : HOK (pkS s x y) := sorry
theorem sp_X0_pick (hG : GOK G) (hd : 5 ≤ d) (hH : HOK s) (h93 : ¬ s.L 1100 192 0 = s.L 1100 193 0) (hM : MRm s M) (x y : Int32) : CT l G yX0_pick (ws_ yX0_pick cX0_pick 4 (some .int)) d [.ref (G.adr 0 0), .int x, .int y] s (fun o t => (pkO s x y ∧ o = .returned (some (.int (s.I 1008 0 x.toNatClampNeg))) ∧ RnL (pkS s x y) M t) ∨ (¬ pkO s x y ∧ o = .returned (some (.int (-1))) ∧ t = s)) := sorry
end RNW
