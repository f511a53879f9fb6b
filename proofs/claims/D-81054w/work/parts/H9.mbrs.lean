/-! Judging, the model: the bridges of a class. -/
def brMm (τ : Sg) (k m : Nat) (Bs : BrL) : PR BrL := brF τ k m (AbL τ k m) Bs
def brNm (τ : Sg) (k m : Nat) (Bs : BrL) : PR BrL := if brQ τ m = true then brMm τ k m Bs else .ok Bs
def brAm (τ : Sg) (k : Nat) : Nat → Nat → BrL → PR BrL
  | 0, _, Bs => .ok Bs
  | n + 1, j, Bs => bnd (brNm τ k (33 * k + j) Bs) fun Bs' => brAm τ k n (j + 1) Bs'
/-- the columns of n bridges of class C, behind T members; faults, marks, rows -/
def pBm (C T n x j : Nat) : Bool := pAg x j || decide ((x = 2141 ∧ j = C) ∨ (2141 < x ∧ x ≤ 2168 ∧ ¬ (2155 < x ∧ x ≤ 2159) ∧ 34 * C + T ≤ j ∧ j < 34 * C + T + n) ∨ (x = 2156 ∧ 4 * (34 * C + T) ≤ j ∧ j < 4 * (34 * C + T + n)))
theorem pBm_iff {C T n x j : Nat} : pBm C T n x j = true ↔ pAg x j = true ∨ ((x = 2141 ∧ j = C) ∨ (2141 < x ∧ x ≤ 2168 ∧ ¬ (2155 < x ∧ x ≤ 2159) ∧ 34 * C + T ≤ j ∧ j < 34 * C + T + n) ∨ (x = 2156 ∧ 4 * (34 * C + T) ≤ j ∧ j < 4 * (34 * C + T + n))) := sorry
theorem pBm_no {C T n x j : Nat} (h : x ≤ 2119 ∨ (2121 < x ∧ x ≤ 2192) ∨ (2196 < x ∧ x ≤ 2202) ∨ 2205 < x) (h2 : ¬ ((x = 2141 ∧ j = C) ∨ (2141 < x ∧ x ≤ 2168 ∧ ¬ (2155 < x ∧ x ≤ 2159) ∧ 34 * C + T ≤ j ∧ j < 34 * C + T + n) ∨ (x = 2156 ∧ 4 * (34 * C + T) ≤ j ∧ j < 4 * (34 * C + T + n)))) : pBm C T n x j = false := sorry
theorem pAg_pBm {C T n : Nat} : ∀ x j, pAg x j = true → pBm C T n x j = true := sorry
theorem pBm_up {C T n n' : Nat} (h : n ≤ n') : ∀ x j, pBm C T n x j = true → pBm C T n' x j = true := sorry
theorem pNq_pBm {C T n : Nat} : ∀ x j, pNq C (34 * C + (T + n)) x j = true → pBm C T (n + 1) x j = true := sorry
/-- classes and the world, but not members -/
def scB (c : Nat) : Bool := rg 2104 2118 c || (rg 2122 2140 c || rg 2168 2192 c)
theorem scB_iff {c : Nat} (h : scB c = true) : (2104 < c ∧ c ≤ 2118) ∨ (2122 < c ∧ c ≤ 2140) ∨ (2168 < c ∧ c ≤ 2192) := sorry
theorem stP_FJ {p : Nat → Bool} {q : Nat → Nat → Bool} {σ s : Sg} (hF : FJ q σ s) (h : ∀ c j, p c = true → q c j = false) : stP p s = stP p σ := sorry
theorem mLp_B {σ : Sg} {nm : Int64} : ∀ n k, mLp (stP scB σ) nm n k = mLp σ nm n k := sorry
theorem mFnd_B {σ : Sg} {nm : Int64} : mFnd (stP scB σ) nm = mFnd σ nm := sorry
theorem MWd_B {τ σ : Sg} {w : Nat} {U : List Nat} : MWd τ (stP scB σ) w U ↔ MWd τ σ w U := sorry
theorem MK1_B {τ σ : Sg} {c : Nat} : MK1 τ (stP scB σ) c ↔ MK1 τ σ c := sorry
theorem stB {σ s : Sg} {C T n : Nat} (h : FJ (pBm C T n) σ s) : stP scB s = stP scB σ := sorry
theorem MSg.fj {τ σ s : Sg} {m q : Nat} {p : Nat → Nat → Bool} (h : MSg τ σ m q) (hF : FJ p σ s) (hp : ∀ x, 2141 < x → x ≤ 2168 → ¬ (2155 < x ∧ x ≤ 2159) → p x q = false) (hp2 : ∀ i, i < 4 → p 2156 (4 * q + i) = false) : MSg τ s m q := sorry
theorem MM.fj {τ σ s : Sg} {m q : Nat} {p : Nat → Nat → Bool} (h : MM τ σ m q) (hF : FJ p σ s) (hp : ∀ x, 2141 < x → x ≤ 2168 → ¬ (2155 < x ∧ x ≤ 2159) → p x q = false) (hp2 : ∀ i, i < 4 → p 2156 (4 * q + i) = false) : MM τ s m q := sorry
/-- q is a bridge from m, of result t, in the model -/
def NMq (τ σ : Sg) (q m : Nat) (t : Int64) : Prop := MSg (sL τ 1207 m 0 t) σ m q ∧ (σ.I 2142 0 q = 1 ∧ σ.I 2143 0 q = 0 ∧ σ.I 2144 0 q = τ.I 1202 m 0 ∧ σ.I 2160 0 q = (-2) ∧ σ.I 2161 0 q = (-2) ∧ σ.I 2165 0 q = 0 ∧ σ.I 2167 0 q = (-2) ∧ σ.I 2168 0 q = τ.I 1208 m 0) ∧ (σ.B 2145 0 q = τ.B 1203 m 0 ∧ σ.B 2146 0 q = false ∧ σ.B 2147 0 q = false ∧ σ.B 2149 0 q = true ∧ σ.B 2150 0 q = false ∧ σ.B 2164 0 q = false) ∧ σ.L 2166 0 q = tM (τ.L 1207 m 0)
theorem NMq.fj {τ σ s : Sg} {q m : Nat} {t : Int64} {p : Nat → Nat → Bool} (h : NMq τ σ q m t) (hF : FJ p σ s) (hp : ∀ x, 2141 < x → x ≤ 2168 → ¬ (2155 < x ∧ x ≤ 2159) → p x q = false) (hp2 : ∀ i, i < 4 → p 2156 (4 * q + i) = false) : NMq τ s q m t := sorry
/-- the bridges of class k so far, in the model -/
def BM (τ σ0 σ : Sg) (k T : Nat) (Bs : BrL) : Prop := FJ (pBm (cM k) T Bs.length) σ0 σ ∧ SIv σ ∧ σ.I 2141 0 (cM k) = nI (T + Bs.length) ∧ Bs.length ≤ 12 ∧ ∀ i p, Bs[i]? = some p → NMq τ σ (34 * cM k + T + i) p.1 p.2 ∧ ∃ j, j < T ∧ p.1 = 33 * k + j ∧ τ.I 1200 p.1 0 = 1 ∧ τ.B 1206 p.1 0 = false
theorem BM.ag {τ σ0 σ s : Sg} {k T : Nat} {Bs : BrL} (h : BM τ σ0 σ k T Bs) (hF : FJ pAg σ s) (hI : SIv s) : BM τ σ0 s k T Bs := sorry
/-- a bridge is laid for o already: just those from m count -/
theorem brS_any {τ σ0 σ : Sg} {k T j c i : Nat} {Bs : BrL} (hK : BK τ k T) (h : BM τ σ0 σ k T Bs) (hj : j < T) (hA : mAlk τ (33 * c + i) (33 * k + j) = true) : Bs.any (fun p => brS τ p (33 * c + i)) = Bs.any (fun p => decide (p.1 = 33 * k + j) && decide (p.2 = τ.L 1207 (33 * c + i) 0)) := sorry
