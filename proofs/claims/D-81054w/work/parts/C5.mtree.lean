/-! Trees in the model's node tables. -/
/-- LinkHouse's kind of a node as one of the model -/
def mNk (k : Nat) : Nat := if k < 12 then k - 1 else if k = 12 then 18 else if k = 13 then 19 else if k = 14 then 15 else if k = 15 then 16 else if k = 16 then 17 else if k = 17 then 12 else if k = 18 then 13 else if k = 19 then 14 else if k = 20 then 11 else k - 10
/-- has a name; a class -/
def nmk (k : Nat) : Bool := (decide (4 ≤ k) && decide (k ≤ 9)) || (k == 17 || (k == 18 || (k == 31 || k == 36)))
def clk (k : Nat) : Bool := (decide (6 ≤ k) && decide (k ≤ 8)) || (k == 10 || (k == 11 || (k == 19 || k == 36)))
/-- the node at place X has what b says -/
def NdC (σ : Sg) (T : Nat → Tk) (b : Lb) (X : Nat) : Prop := σ.I 2170 0 X = nI (mNk b.1) ∧ σ.I 2171 0 X = nI (T b.2.1).2.2.1 ∧ (nmk b.1 = true → σ.L 2174 0 X = lN b.2.2.2.2.1 ∧ σ.I 2172 0 X = nI (T b.2.2.1).2.2.1) ∧ (clk b.1 = true → σ.L 2175 0 X = lN (b.2.2.2.2.2.1 + 2305843009213693952) ∧ σ.I 2173 0 X = nI (T (if b.1 = 8 then b.2.1 else b.2.2.2.1)).2.2.1) ∧ (b.1 = 8 → σ.I 2179 0 X = nI (T b.2.2.2.1).2.2.1) ∧ (b.1 = 31 → σ.L 2176 0 X = tM (lN b.2.2.2.2.2.1) ∧ σ.I 2173 0 X = nI (T b.2.2.2.1).2.2.1) ∧ (b.1 = 1 → σ.I 2181 0 X = nI b.2.2.2.2.2.1) ∧ σ.I 2182 0 X = -2 ∧ σ.I 2185 0 X = 0 ∧ σ.I 2187 0 X = -2 ∧ σ.I 2188 0 X = -2
/-- the tree x hangs at v: its nodes are from lo on, below hi -/
def MTr (σ : Sg) (s : Nat) (T : Nat → Tk) : Tr → Nat → Nat → Int32 → Prop
  | .leaf, _, _, v => v = -2
  | .inner _ b _ x y, lo, hi, v => ∃ k, v = nI (s * 1700 + k) ∧ k < 1700 ∧
    ((b.1 = 0 ∧ lo ≤ k ∧ isT x = true ∧ isP y = false ∧ ∃ mid, k < mid ∧ mid ≤ hi ∧ MTr σ s T x lo mid v ∧ MTr σ s T y mid hi (σ.I 2180 0 (s * 1700 + k))) ∨
     (b.1 = 41 ∧ isP x = false ∧ isP y = false ∧ MTr σ s T x lo hi (σ.I 2178 0 (s * 1700 + k)) ∧ MTr σ s T y lo hi (σ.I 2179 0 (s * 1700 + k))) ∨
     (¬ b.1 = 0 ∧ ¬ b.1 = 41 ∧ lo ≤ k ∧ k < hi ∧ b.1 < 100 ∧ isP x = false ∧ (isP y = true → b.1 = 32 ∨ b.1 = 33) ∧ NdC σ T b (s * 1700 + k) ∧
      (MTr σ s T x lo k (σ.I 2177 0 (s * 1700 + k)) ∨ MTr σ s T x (k + 1) hi (σ.I 2177 0 (s * 1700 + k))) ∧
      (isP y = false → MTr σ s T y (k + 1) hi (σ.I 2178 0 (s * 1700 + k))) ∧ (isP y = true → MTr σ s T y (k + 1) hi v)))
/-- the node at X is the same, but for what is next -/
def NdE (σ st : Sg) (X : Nat) : Prop := ∀ c, 2169 < c → c ≤ 2188 → c ≠ 2180 → st.I c 0 X = σ.I c 0 X ∧ st.L c 0 X = σ.L c 0 X
theorem NdC.to {σ st : Sg} {T : Nat → Tk} {b : Lb} {X : Nat} (h : NdC σ T b X) (hE : NdE σ st X) : NdC st T b X := sorry
theorem MTr.mv {σ st : Sg} {s : Nat} {T : Nat → Tk} (hs : s < 16) : ∀ (x : Tr) (lo hi lo' hi' : Nat) (v : Int32), lo' ≤ lo → hi ≤ hi' → (∀ j, (lo ≤ j ∧ j < hi) ∨ (isP x = true ∧ v = nI (s * 1700 + j) ∧ j < 1700) → NdE σ st (s * 1700 + j)) → (∀ j, lo ≤ j → j < hi → (isT x = true → ¬ (v = nI (s * 1700 + j) ∧ j < 1700)) → st.I 2180 0 (s * 1700 + j) = σ.I 2180 0 (s * 1700 + j)) → MTr σ s T x lo hi v → MTr st s T x lo' hi' v := sorry
/-- moved along a frame that keeps its nodes -/
theorem MTr.fj {σ st : Sg} {s : Nat} {T : Nat → Tk} {p : Nat → Nat → Bool} (hs : s < 16) {x : Tr} {lo hi lo' hi' : Nat} {v : Int32} (h : MTr σ s T x lo hi v) (hP : isP x = false) (h1 : lo' ≤ lo) (h2 : hi ≤ hi') (hF : FJ p σ st) (hp : ∀ c j, 2169 < c → c ≤ 2188 → lo ≤ j → j < hi → p c (s * 1700 + j) = false) : MTr st s T x lo' hi' v := sorry
/-- a tree's root -/
theorem MTr.root {σ : Sg} {s : Nat} {T : Nat → Tk} {lo hi : Nat} {x : Tr} {v : Int32} (h : MTr σ s T x lo hi v) (hT : isT x = true) : ∃ k, v = nI (s * 1700 + k) ∧ lo ≤ k ∧ k < hi ∧ k < 1700 ∧ σ.I 2171 0 (s * 1700 + k) = nI (T (trT x)).2.2.1 := sorry
/-- the columns of reading an E or S, of the nodes from e0 on -/
def pE (s e0 c j : Nat) : Bool := pG c j || (Nat.beq c 2189 || pNd s e0 c j)
theorem pE_iff {s e0 c j : Nat} : pE s e0 c j = true ↔ (2119 < c ∧ c ≤ 2122) ∨ c = 2189 ∨ (c = 2169 ∧ j = s) ∨ (2169 < c ∧ c ≤ 2188 ∧ s * 1700 + e0 ≤ j ∧ j < s * 1700 + 1700) := sorry
theorem pE_no {s e0 c j : Nat} (h : ¬ ((2119 < c ∧ c ≤ 2122) ∨ c = 2189 ∨ (c = 2169 ∧ j = s) ∨ (2169 < c ∧ c ≤ 2188 ∧ s * 1700 + e0 ≤ j ∧ j < s * 1700 + 1700))) : pE s e0 c j = false := sorry
theorem pG_pE {s e0 : Nat} : ∀ c j, pG c j = true → pE s e0 c j = true := sorry
theorem pNd_pE {s e0 : Nat} : ∀ c j, pNd s e0 c j = true → pE s e0 c j = true := sorry
theorem pE_up {s e0 e1 : Nat} (h : e0 ≤ e1) : ∀ c j, pE s e1 c j = true → pE s e0 c j = true := sorry
/-- no node, or one of slot s below e -/
def NV (s e : Nat) (v : Int32) : Prop := v = -2 ∨ ∃ k, k < e ∧ v = nI (s * 1700 + k)
theorem NV.up {s e e' : Nat} {v : Int32} (h : NV s e v) (he : e ≤ e') : NV s e' v := sorry
/-- how many nodes there can be when it is doomed -/
def cap (w : Nat) : Nat := 702 + 12 * (13 - w)
/-- what reading a tree leaves: v is where it hangs -/
def oEv (σ : Sg) (s : Nat) (B : Nat → Nat) (n w e : Nat) (r0 : PR Nat) (r : PR (Tr × Nat)) (k : Nat) (row : Bool) (v : Int32) (st : Sg) : Prop := ∃ e', FJ (pE s e) σ st ∧ PS st s B n w e' (bnd r (fun a => .ok a.2)) ∧ NV s e' v ∧ e ≤ e' ∧ (∀ a, r = .ok a → isP a.1 = false ∧ MTr st s (yTok B n) a.1 e e' v ∧ (row = false → isT a.1 = true ∧ ∀ j, v = nI (s * 1700 + j) → j < 1700 → st.I 2180 0 (s * 1700 + j) = -2)) ∧ (∀ t, r0 = .ok t → (∀ a, r = .ok a → t ≤ a.2 ∧ e' + t ≤ e + a.2) ∧ (∀ z, r = .error z → e' ≤ cap w + k)) ∧ (∀ z, r0 = .error z → e' = e ∧ Fld st (.error z))
def oEm (σ : Sg) (s : Nat) (B : Nat → Nat) (n w e : Nat) (r0 : PR Nat) (r : PR (Tr × Nat)) (k : Nat) (row : Bool) (o : Outcome) (st : Sg) : Prop := ∃ v, o = .returned (some (.int v)) ∧ oEv σ s B n w e r0 r k row v st
