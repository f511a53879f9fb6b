/-! LinkHouse's uses: what is needed. -/
def pLv (b w c i : Nat) : Bool := decide ((1699 < c ∧ c ≤ 1704 ∧ ((1000 * b ≤ i ∧ i < 1000 * b + 1000) ∨ i = 16000 + w)) ∨ (1199 < c ∧ c ≤ 1222 ∧ ((6402 + 1000 * b ≤ i ∧ i < 6402 + (1000 * b + 1000)) ∨ i = 6402 + (16000 + w))) ∨ (c = 2009 ∧ i = b))
theorem pLv_iff {b w c i : Nat} : pLv b w c i = true ↔ ((1699 < c ∧ c ≤ 1704 ∧ ((1000 * b ≤ i ∧ i < 1000 * b + 1000) ∨ i = 16000 + w)) ∨ (1199 < c ∧ c ≤ 1222 ∧ ((6402 + 1000 * b ≤ i ∧ i < 6402 + (1000 * b + 1000)) ∨ i = 6402 + (16000 + w))) ∨ (c = 2009 ∧ i = b)) := sorry
theorem pLv_no {b w c i : Nat} (h : ¬ ((1699 < c ∧ c ≤ 1704 ∧ ((1000 * b ≤ i ∧ i < 1000 * b + 1000) ∨ i = 16000 + w)) ∨ (1199 < c ∧ c ≤ 1222 ∧ ((6402 + 1000 * b ≤ i ∧ i < 6402 + (1000 * b + 1000)) ∨ i = 6402 + (16000 + w))) ∨ (c = 2009 ∧ i = b))) : pLv b w c i = false := sorry
/-- while LinkHouse writes class k of build b -/
def LW (σ : Sg) (w b k : Nat) (U : List Us) (n0 : Nat) : Prop := (σ.R 1602 w 0 = some b ∧ σ.R 1603 w 0 = some k ∧ w < 2 ∧ b < 16 ∧ k < cnt 1) ∧ LUt σ b U ∧ UNd U ∧ (σ.I 1119 k 0 = nI n0 ∧ n0 ≤ U.length ∧ ∀ i q, U[i]? = some q → (q.1 = k ↔ n0 ≤ i)) ∧ Shp σ
theorem LW.e_add {U : List Us} {k n0 : Nat} {r : Us} (h : ∀ i q, U[i]? = some q → (q.1 = k ↔ n0 ≤ i)) (hn : n0 ≤ U.length) (hr : r.1 = k) : ∀ i q, (addU U r)[i]? = some q → (q.1 = k ↔ n0 ≤ i) := sorry
section SPX
variable {l : Launch} {G : Gl} {d : Nat} {σ s1 : Sg} {w b k n0 : Nat} {U : List Us} {r : Us}
/-- the fresh use is laid: it is kept -/
theorem lw_use (hG : GOK G) (hd : 5 ≤ d) (hW : LW σ w b k U n0) (hF : Fl (pL1 (16000 + w)) σ s1) (hS1 : Shp s1) (uY : LUr s1 (16000 + w) r) (hr : UOK r) (cr : UCn r) (hrk : r.1 = k) (hL : (addU U r).length ≤ 1000) : CT l G yX6_useOf (ws_ yX6_useOf cX6_useOf 4 (some .int)) d [rv G 10 (some b), rv G 1 (some k), rv G 7 (some (16000 + w))] s1 (rI (nI (uIx (addU U r) r - n0)) (fun s => Fl (pLv b w) σ s ∧ LW s w b k (addU U r) n0)) := sorry
/-- emit -/
def pEm (b c i : Nat) : Bool := decide ((c = 2010 ∨ c = 2011) ∧ i = b)
theorem pEm_iff {b c i : Nat} : pEm b c i = true ↔ ((c = 2010 ∨ c = 2011) ∧ i = b) := sorry
theorem sp_X6_emit (hG : GOK G) {p : Nat} {x1 x2 : Int32} (hd : 1 ≤ d) (hw : w < cnt 6) (hb : b < 16) (h1 : σ.R 1602 w 0 = some b) (h11 : σ.I 2011 b 0 = nI p) (hp : p + 2 ≤ 6000) : CT l G yX6_emit (ws_ yX6_emit cX6_emit 3 none) d [.ref (G.adr 6 w), .int x1, .int x2] σ (rV (fun s => Fl (pEm b) σ s ∧ s.I 2011 b 0 = nI (p + 2) ∧ s.I 2010 b p = x1 ∧ s.I 2010 b (p + 1) = x2 ∧ ∀ j, ¬ j = p → ¬ j = p + 1 → s.I 2010 b j = σ.I 2010 b j)) := sorry
end SPX
