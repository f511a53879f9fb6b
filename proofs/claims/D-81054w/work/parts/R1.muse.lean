/-! The model's uses: a use is kept once. -/
/-- a use in order -/
def UOK (r : Us) : Prop := (r.1 < cnt 1 ∧ 1 ≤ r.2.1 ∧ r.2.1 ≤ 19) ∧ TyC r.2.2.1 ∧ ((r.2.1 = 17 → TyC r.2.2.2.1) ∧ (¬ r.2.1 = 17 → r.2.2.2.1 = 0)) ∧ ((3 ≤ r.2.1 ∧ r.2.1 ≤ 12 → TyOK r.2.2.2.2.2.1 ∧ ¬ r.2.2.2.2.2.1 = 2) ∧ (¬ (3 ≤ r.2.1 ∧ r.2.1 ≤ 12) → r.2.2.2.2.2.1 = 0)) ∧ r.2.2.2.2.2.2.1.length ≤ 4 ∧ ∀ t, t ∈ r.2.2.2.2.2.2.1 → TyOK t
/-- it stands in the model's row X -/
def MUr (σ : Sg) (X : Nat) (r : Us) : Prop := σ.I 2219 0 X = nI r.2.1 ∧ σ.I 2220 0 X = nI (cM r.1) ∧ σ.L 2221 0 X = tM r.2.2.1 ∧ σ.L 2222 0 X = r.2.2.2.2.1 ∧ σ.L 2223 0 X = (if 3 ≤ r.2.1 ∧ r.2.1 ≤ 12 then tM r.2.2.2.2.2.1 else 0) ∧ σ.I 2224 0 X = nI r.2.2.2.2.2.2.1.length ∧ (∀ i t, r.2.2.2.2.2.2.1[i]? = some t → σ.L 2225 0 (4 * X + i) = tM t) ∧ σ.L 2226 0 X = (if r.2.1 = 17 then tM r.2.2.2.1 else 0) ∧ σ.I 2227 0 X = r.2.2.2.2.2.2.2
/-- the model's uses of slot b -/
def MUt (σ : Sg) (b : Nat) (U : List Us) : Prop := σ.I 2218 0 b = nI U.length ∧ ∀ i r, U[i]? = some r → UOK r ∧ MUr σ (1800 * b + i) r
theorem us_eq {r q : Us} (hr : UOK r) (hq : UOK q) (e1 : r.1 = q.1) (e2 : r.2.1 = q.2.1) (e3 : tM r.2.2.1 = tM q.2.2.1) (e4 : r.2.2.2.2.1 = q.2.2.2.2.1) (e5 : (if 3 ≤ r.2.1 ∧ r.2.1 ≤ 12 then tM r.2.2.2.2.2.1 else 0) = (if 3 ≤ q.2.1 ∧ q.2.1 ≤ 12 then tM q.2.2.2.2.2.1 else 0)) (e6 : (if r.2.1 = 17 then tM r.2.2.2.1 else 0) = (if q.2.1 = 17 then tM q.2.2.2.1 else 0)) (e7 : r.2.2.2.2.2.2.2 = q.2.2.2.2.2.2.2) (e8 : r.2.2.2.2.2.2.1 = q.2.2.2.2.2.2.1) : r = q := sorry
theorem us_lt : ∀ b, b < 17 → nI (1800 * b + 0) - 1 < nI b * 1800 := sorry
theorem us_m : ∀ b, b < 17 → nI b * 1800 = nI (b * 1800) := sorry
theorem nI_am (a : Nat) : nI (a + 1) + (-1) = nI a := sorry
theorem us_p {σ : Sg} {X : Nat} {ps : List Int64} (h : ∀ i t, ps[i]? = some t → σ.L 2225 0 (4 * X + i) = tM t) {j : Nat} (hj : j < ps.length) : σ.L 2225 0 (4 * X + j) = tM ps[j] := sorry
section SPX
variable {l : Launch} {G : Gl} {d : Nat} {σ : Sg}
theorem sp_X11_keepUse (hG : GOK G) {b k : Nat} {U : List Us} {r : Us} {x1 : Int32} (hd : 1 ≤ d) (hb : b < 17) (h19 : σ.I 2119 0 0 = nI b) (h09 : σ.I 2209 0 0 = nI (cM k)) (hT : MUt σ b U) (hL : U.length < 1800) (hN : UNd U) (hE : UTl U k) (hr : UOK r) (hk : r.1 = k) (hX : MUr σ (1800 * b + U.length) r) (e1 : x1 = nI (1800 * b + U.length)) : CT l G yX11_keepUse (ws_ yX11_keepUse cX11_keepUse 5 (some .int)) d [.ref (G.adr 11 0), .int x1] σ (rI (nI (1800 * b + uIx (addU U r) r)) (fun s => (r ∈ U ∧ s = σ) ∨ (¬ r ∈ U ∧ s = sI σ 2218 0 b (nI (U.length + 1))))) := sorry
end SPX
