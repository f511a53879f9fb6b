/-! LinkHouse's uses: a use is kept once. -/
def pLu (b c i : Nat) : Bool := decide ((1699 < c ∧ c ≤ 1704 ∧ 1000 * b ≤ i ∧ i < 1000 * b + 1000) ∨ (1199 < c ∧ c ≤ 1222 ∧ 6402 + 1000 * b ≤ i ∧ i < 6402 + (1000 * b + 1000)) ∨ (c = 2009 ∧ i = b))
theorem pLu_iff {b c i : Nat} : pLu b c i = true ↔ ((1699 < c ∧ c ≤ 1704 ∧ 1000 * b ≤ i ∧ i < 1000 * b + 1000) ∨ (1199 < c ∧ c ≤ 1222 ∧ 6402 + 1000 * b ≤ i ∧ i < 6402 + (1000 * b + 1000)) ∨ (c = 2009 ∧ i = b)) := sorry
theorem pLu_no {b c i : Nat} (h : ¬ ((1699 < c ∧ c ≤ 1704 ∧ 1000 * b ≤ i ∧ i < 1000 * b + 1000) ∨ (1199 < c ∧ c ≤ 1222 ∧ 6402 + 1000 * b ≤ i ∧ i < 6402 + (1000 * b + 1000)) ∨ (c = 2009 ∧ i = b))) : pLu b c i = false := sorry
/-- one row of uses -/
def pL1 (X c i : Nat) : Bool := decide ((1699 < c ∧ c ≤ 1704 ∧ i = X) ∨ (1199 < c ∧ c ≤ 1222 ∧ i = 6402 + X))
theorem pL1_iff {X c i : Nat} : pL1 X c i = true ↔ ((1699 < c ∧ c ≤ 1704 ∧ i = X) ∨ (1199 < c ∧ c ≤ 1222 ∧ i = 6402 + X)) := sorry
theorem pL1_no {X c i : Nat} (h : ¬ ((1699 < c ∧ c ≤ 1704 ∧ i = X) ∨ (1199 < c ∧ c ≤ 1222 ∧ i = 6402 + X))) : pL1 X c i = false := sorry
/-- LinkHouse's uses of build b -/
def LUt (σ : Sg) (b : Nat) (U : List Us) : Prop := σ.I 2009 b 0 = nI U.length ∧ ∀ i r, U[i]? = some r → UOK r ∧ UCn r ∧ LUr σ (1000 * b + i) r
theorem LUr.fl {σ s : Sg} {X : Nat} {r : Us} {p : Nat → Nat → Bool} (h : LUr σ X r) (hF : Fl p σ s) (h1 : ∀ c, 1699 < c → c ≤ 1704 → p c X = false) (h2 : ∀ c, 1199 < c → c ≤ 1222 → p c (6402 + X) = false) : LUr s X r := sorry
theorem nI_sb {a b : Nat} (h : b ≤ a) : nI a - nI b = nI (a - b) := sorry
section SPX
variable {l : Launch} {G : Gl} {d : Nat} {σ : Sg}
theorem sp_X7_become (hG : GOK G) (hS : Shp σ) {X Y k : Nat} {r : Us} (hd : 3 ≤ d) (hX : X < cnt 7) (hY : Y < cnt 7) (hk : k < cnt 1) (hne : ¬ X = Y) (uY : LUr σ Y r) (hr : r.1 = k) : CT l G yX7_become (ws_ yX7_become cX7_become 3 none) d [.ref (G.adr 7 X), .ref (G.adr 7 Y), rv G 1 (some k)] σ (rV (fun s => Fl (pL1 X) σ s ∧ LUr s X r ∧ Shp s)) := sorry
end SPX
