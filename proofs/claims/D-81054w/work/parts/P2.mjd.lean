/-! Judging, the model: frames; trees as they were read, and as they were judged. -/
theorem sI_y {σ : Sg} {c c0 i X Y : Nat} {v : Int32} (h : ¬ Y = X) : (sI σ c0 i X v).I c i Y = σ.I c i Y := sorry
theorem sL_y {σ : Sg} {c c0 i X Y : Nat} {v : Int64} (h : ¬ Y = X) : (sL σ c0 i X v).L c i Y = σ.L c i Y := sorry
/-- the columns that judging an E may change -/
def pJd (c _j : Nat) : Bool := decide ((2119 < c ∧ c ≤ 2121) ∨ (2192 < c ∧ c ≤ 2198) ∨ (2206 < c ∧ c ≤ 2208) ∨ (2214 < c ∧ c ≤ 2217) ∨ c = 2176 ∨ c = 2179 ∨ (2180 < c ∧ c ≤ 2186))
theorem pJd_iff {c j : Nat} : pJd c j = true ↔ ((2119 < c ∧ c ≤ 2121) ∨ (2192 < c ∧ c ≤ 2198) ∨ (2206 < c ∧ c ≤ 2208) ∨ (2214 < c ∧ c ≤ 2217) ∨ c = 2176 ∨ c = 2179 ∨ (2180 < c ∧ c ≤ 2186)) := sorry
theorem pJd_no {c j : Nat} (h : ¬ ((2119 < c ∧ c ≤ 2121) ∨ (2192 < c ∧ c ≤ 2198) ∨ (2206 < c ∧ c ≤ 2208) ∨ (2214 < c ∧ c ≤ 2217) ∨ c = 2176 ∨ c = 2179 ∨ (2180 < c ∧ c ≤ 2186))) : pJd c j = false := sorry
/-- those of one node: no path, no type -/
def pJn (c _j : Nat) : Bool := decide ((2119 < c ∧ c ≤ 2121) ∨ (2192 < c ∧ c ≤ 2198) ∨ (2214 < c ∧ c ≤ 2217) ∨ c = 2179 ∨ (2180 < c ∧ c ≤ 2186))
theorem pJn_iff {c j : Nat} : pJn c j = true ↔ ((2119 < c ∧ c ≤ 2121) ∨ (2192 < c ∧ c ≤ 2198) ∨ (2214 < c ∧ c ≤ 2217) ∨ c = 2179 ∨ (2180 < c ∧ c ≤ 2186)) := sorry
theorem pJn_no {c j : Nat} (h : ¬ ((2119 < c ∧ c ≤ 2121) ∨ (2192 < c ∧ c ≤ 2198) ∨ (2214 < c ∧ c ≤ 2217) ∨ c = 2179 ∨ (2180 < c ∧ c ≤ 2186))) : pJn c j = false := sorry
theorem pJn_pJd : ∀ c j, pJn c j = true → pJd c j = true := sorry
/-- those that are not of nodes either -/
def pJm (c _j : Nat) : Bool := decide ((2119 < c ∧ c ≤ 2121) ∨ (2192 < c ∧ c ≤ 2198) ∨ (2214 < c ∧ c ≤ 2217))
theorem pJm_iff {c j : Nat} : pJm c j = true ↔ ((2119 < c ∧ c ≤ 2121) ∨ (2192 < c ∧ c ≤ 2198) ∨ (2214 < c ∧ c ≤ 2217)) := sorry
theorem pJm_no {c j : Nat} (h : ¬ ((2119 < c ∧ c ≤ 2121) ∨ (2192 < c ∧ c ≤ 2198) ∨ (2214 < c ∧ c ≤ 2217))) : pJm c j = false := sorry
theorem pJm_pJn : ∀ c j, pJm c j = true → pJn c j = true := sorry
/-- those of searching alone -/
def pJq (c _j : Nat) : Bool := decide ((2192 < c ∧ c ≤ 2198) ∨ (2214 < c ∧ c ≤ 2217))
theorem pJq_iff {c j : Nat} : pJq c j = true ↔ ((2192 < c ∧ c ≤ 2198) ∨ (2214 < c ∧ c ≤ 2217)) := sorry
theorem pJq_no {c j : Nat} (h : ¬ ((2192 < c ∧ c ≤ 2198) ∨ (2214 < c ∧ c ≤ 2217))) : pJq c j = false := sorry
theorem pJq_pJm : ∀ c j, pJq c j = true → pJm c j = true := sorry
theorem pMe_pJq : ∀ c j, pMe c j = true → pJq c j = true := sorry
theorem pFL_pJq : ∀ c i j, pJq c j = false → pFL c i = false := sorry
theorem pN_pJq : ∀ c i j, pJq c j = false → pN c i = false := sorry
/-- what is found of nodes alone -/
def pJv (c _j : Nat) : Bool := decide (c = 2179 ∨ (2180 < c ∧ c ≤ 2186))
theorem pJv_iff {c j : Nat} : pJv c j = true ↔ (c = 2179 ∨ (2180 < c ∧ c ≤ 2186)) := sorry
theorem pJv_no {c j : Nat} (h : ¬ (c = 2179 ∨ (2180 < c ∧ c ≤ 2186))) : pJv c j = false := sorry
theorem pJv_pJn : ∀ c j, pJv c j = true → pJn c j = true := sorry
theorem pFt_pJm : ∀ c j, pFt c j = true → pJm c j = true := sorry
theorem pMe_pJm : ∀ c j, pMe c j = true → pJm c j = true := sorry
theorem pFL_pJm : ∀ c i j, pJm c j = false → pFL c i = false := sorry
theorem pN_pJm : ∀ c i j, pJm c j = false → pN c i = false := sorry
/-- the model's columns of classes and members, and what stands in the world -/
def scC (c : Nat) : Bool := rg 2104 2118 c || (rg 2122 2165 c || rg 2189 2192 c)
theorem scC_iff {c : Nat} (h : scC c = true) : (2104 < c ∧ c ≤ 2118) ∨ (2122 < c ∧ c ≤ 2165) ∨ (2189 < c ∧ c ≤ 2192) := sorry
theorem MWd_C {τ σ s : Sg} {w : Nat} {U : List Nat} (e : stP scC s = stP scC σ) (h : MWd τ σ w U) : MWd τ s w U := sorry
theorem JgU_C {τ σ s : Sg} {k : Nat} (e : stP scC s = stP scC σ) (h : JgU τ σ k) : JgU τ s k := sorry
theorem stC_jd {σ s : Sg} (h : FJ pJd σ s) : stP scC s = stP scC σ := sorry
/-- what judging may change of the node at X is the same -/
def AnM (σ s : Sg) (X : Nat) : Prop := (∀ c, 2175 < c → c ≤ 2185 → s.I c 0 X = σ.I c 0 X ∧ s.L c 0 X = σ.L c 0 X) ∧ ∀ i, i < 4 → s.L 2186 0 (4 * X + i) = σ.L 2186 0 (4 * X + i)
theorem AnM.refl {σ : Sg} {X : Nat} : AnM σ σ X := sorry
theorem AnM.trans {σ s u : Sg} {X : Nat} (h : AnM σ s X) (k : AnM s u X) : AnM σ u X := sorry
theorem AnM_fj {σ s : Sg} {p : Nat → Nat → Bool} {X : Nat} (h : FJ p σ s) (hp : ∀ c j, 2175 < c → c ≤ 2186 → p c j = false) : AnM σ s X := sorry
theorem AnM_jm {σ s : Sg} {X : Nat} (h : FJ pJm σ s) : AnM σ s X := sorry
abbrev plA (σ : Sg) (X : Nat) : Nat := (σ.I 2171 0 X).toNatClampNeg
theorem plA_jd {σ s : Sg} {X : Nat} (h : FJ pJd σ s) : plA s X = plA σ X := sorry
/-- only nodes from lo on, below hi, at places from pa on, below pe -/
def FrJ (σ s : Sg) (b pa pe lo hi : Nat) : Prop := FJ pJd σ s ∧ ∀ X, ¬ (b * 1700 + lo ≤ X ∧ X < b * 1700 + hi ∧ pa ≤ plA σ X ∧ plA σ X < pe) → AnM σ s X
theorem FrJ.refl {σ : Sg} {b pa pe lo hi : Nat} : FrJ σ σ b pa pe lo hi := sorry
theorem FrJ.trans {σ s u : Sg} {b pa pe lo hi : Nat} (h : FrJ σ s b pa pe lo hi) (k : FrJ s u b pa pe lo hi) : FrJ σ u b pa pe lo hi := sorry
theorem FrJ.up {σ s : Sg} {b pa pe lo hi pa' pe' lo' hi' : Nat} (h : FrJ σ s b pa pe lo hi) (h1 : pa' ≤ pa) (h2 : pe ≤ pe') (h3 : lo' ≤ lo) (h4 : hi ≤ hi') : FrJ σ s b pa' pe' lo' hi' := sorry
theorem FrJ_jm {σ s : Sg} {b pa pe lo hi : Nat} (h : FJ pJm σ s) : FrJ σ s b pa pe lo hi := sorry
/-- only the node at X, and neither its type nor the path -/
def FrN (σ s : Sg) (X : Nat) : Prop := FJ pJn σ s ∧ ∀ Y, ¬ Y = X → AnM σ s Y
theorem FrN.trans {σ s u : Sg} {X : Nat} (h : FrN σ s X) (k : FrN s u X) : FrN σ u X := sorry
theorem FrN_jm {σ s : Sg} {X : Nat} (h : FJ pJm σ s) : FrN σ s X := sorry
theorem FrN.J {σ s : Sg} {X b pa pe lo hi : Nat} (h : FrN σ s X) (h1 : b * 1700 + lo ≤ X) (h2 : X < b * 1700 + hi) (h3 : pa ≤ plA σ X) (h4 : plA σ X < pe) : FrJ σ s b pa pe lo hi := sorry
/-- a type is laid -/
theorem FrJ_ty {σ : Sg} {X b pa pe lo hi : Nat} {t : Int64} (h1 : b * 1700 + lo ≤ X) (h2 : X < b * 1700 + hi) (h3 : pa ≤ plA σ X) (h4 : plA σ X < pe) : FrJ σ (sL σ 2176 0 X t) b pa pe lo hi := sorry
/-- a tree hangs at v; its nodes, from lo on, below hi, are as N says -/
def MTg (σ : Sg) (s : Nat) (N : Lb → Nat → Prop) : Tr → Nat → Nat → Int32 → Prop
  | .leaf, _, _, v => v = -2
  | .inner _ b _ x y, lo, hi, v => ∃ k, v = nI (s * 1700 + k) ∧ k < 1700 ∧
    ((b.1 = 0 ∧ MTg σ s N x lo hi v ∧ MTg σ s N y lo hi (σ.I 2180 0 (s * 1700 + k))) ∨
     (b.1 = 41 ∧ MTg σ s N x lo hi (σ.I 2178 0 (s * 1700 + k)) ∧ MTg σ s N y lo hi (σ.I 2179 0 (s * 1700 + k))) ∨
     (¬ b.1 = 0 ∧ ¬ b.1 = 41 ∧ lo ≤ k ∧ k < hi ∧ N b (s * 1700 + k) ∧
      (11 ≤ b.1 → MTg σ s N x lo k (σ.I 2177 0 (s * 1700 + k)) ∨ MTg σ s N x (k + 1) hi (σ.I 2177 0 (s * 1700 + k))) ∧
      ((twy b.1 || thy b.1) = true → MTg σ s N y (k + 1) hi (σ.I 2178 0 (s * 1700 + k))) ∧ (b.1 = 32 ∨ b.1 = 33 → MTg σ s N y (k + 1) hi v)))
theorem MTg.up {σ : Sg} {s : Nat} {N : Lb → Nat → Prop} : ∀ (x : Tr) (lo hi lo' hi' : Nat) (v : Int32), lo' ≤ lo → hi ≤ hi' → MTg σ s N x lo hi v → MTg σ s N x lo' hi' v := sorry
theorem tt_P {k : Nat} (h : (twy k || thy k) = true) : ¬ (k = 32 ∨ k = 33) := sorry
theorem MTr.g {σ : Sg} {s : Nat} {T : Nat → Tk} : ∀ (x : Tr) (m w a e lo hi : Nat) (v : Int32), wt x m w a e → MTr σ s T x lo hi v → MTg σ s (NdC σ T) x lo hi v := sorry
/-- moved, where its nodes are moved -/
theorem MTg.pl {σ st : Sg} {s : Nat} {N N' : Lb → Nat → Prop} (hs : s < 16) (hP : ∀ c X, c = 2177 ∨ c = 2178 ∨ c = 2180 → st.I c 0 X = σ.I c 0 X) : ∀ (x : Tr) (m w a e lo hi : Nat) (v : Int32), wt x m w a e → (∀ (b : Lb) X, s * 1700 + lo ≤ X → X < s * 1700 + hi → a ≤ b.2.1 → b.2.1 < e → N b X → N' b X ∧ (b.1 = 32 ∨ b.1 = 33 → st.I 2179 0 X = σ.I 2179 0 X)) → (m = 4 → ∀ k, v = nI (s * 1700 + k) → k < 1700 → st.I 2179 0 (s * 1700 + k) = σ.I 2179 0 (s * 1700 + k)) → MTg σ s N x lo hi v → MTg st s N' x lo hi v := sorry
/-- of a node, what was read: kind, place, name, class -/
def NdT (σ : Sg) (T : Nat → Tk) (b : Lb) (X : Nat) : Prop := σ.I 2170 0 X = nI (mNk b.1) ∧ σ.I 2171 0 X = nI (T b.2.1).2.2.1 ∧ (nmk b.1 = true → σ.L 2174 0 X = lN b.2.2.2.2.1 ∧ σ.I 2172 0 X = nI (T b.2.2.1).2.2.1) ∧ (clk b.1 = true → σ.L 2175 0 X = lN (b.2.2.2.2.2.1 + 2305843009213693952) ∧ σ.I 2173 0 X = nI (T (if b.1 = 8 then b.2.1 else b.2.2.2.1)).2.2.1)
theorem NdC.t {σ : Sg} {T : Nat → Tk} {b : Lb} {X : Nat} (h : NdC σ T b X) : NdT σ T b X := sorry
theorem NdT.jd {σ s : Sg} {T : Nat → Tk} {b : Lb} {X : Nat} (h : NdT σ T b X) (hF : FJ pJd σ s) : NdT s T b X := sorry
theorem NdC.jd {σ s : Sg} {T : Nat → Tk} {b : Lb} {X : Nat} (h : NdC σ T b X) (hF : FJ pJd σ s) (hA : AnM σ s X) : NdC s T b X := sorry
/-- how a field is meant -/
def fMn (τ : Sg) (f : Nat) : Int32 := if τ.B 1212 f 0 = true then -10 else if τ.B 1203 f 0 = true then -11 else -12
/-- a member that lives, its params -/
def LvP (τ : Sg) (m : Nat) : Prop := LivU τ (wKs τ 1) m ∧ nPa τ m ≤ 4
/-- of a node, what was found, but its type -/
def NdV (τ σ : Sg) (b : Lb) (X : Nat) : Prop := (b.1 = 1 → σ.I 2181 0 X = nI b.2.2.2.2.2.1) ∧ (b.1 = 31 → σ.L 2176 0 X = tM (lN b.2.2.2.2.2.1)) ∧
  (b.1 = 4 → b.2.2.2.2.2.2.2.1 = 0 → σ.I 2182 0 X = nI b.2.2.2.2.2.2.2.2.1 ∧ σ.L 2184 0 X = tM b.2.2.2.2.2.2.1) ∧
  (b.1 = 4 ∨ b.1 = 6 ∨ b.1 = 17 → ¬ b.2.2.2.2.2.2.2.1 = 0 → σ.I 2182 0 X = fMn τ (b.2.2.2.2.2.2.2.1 - 1) ∧ σ.I 2181 0 X = τ.I 1213 (b.2.2.2.2.2.2.2.1 - 1) 0 ∧ σ.L 2183 0 X = tM (τ.L 1100 (b.2.2.2.2.2.2.2.2.1 - 1) 0) ∧ σ.L 2184 0 X = tM b.2.2.2.2.2.2.1 ∧ σ.I 2179 0 X = nI (mM (b.2.2.2.2.2.2.2.1 - 1)) ∧ LvP τ (b.2.2.2.2.2.2.2.1 - 1)) ∧
  (b.1 = 5 ∨ b.1 = 7 ∨ b.1 = 8 ∨ b.1 = 9 ∨ b.1 = 18 → σ.I 2182 0 X = bI (τ.B 1203 (b.2.2.2.2.2.2.2.1 - 1) 0) ∧ σ.L 2183 0 X = tM (τ.L 1100 (b.2.2.2.2.2.2.2.2.1 - 1) 0) ∧ σ.L 2184 0 X = tM b.2.2.2.2.2.2.1 ∧ KpP τ σ X (b.2.2.2.2.2.2.2.1 - 1) ∧ LvP τ (b.2.2.2.2.2.2.2.1 - 1)) ∧
  (b.1 = 10 ∨ b.1 = 38 → KpP τ σ X (b.2.2.2.2.2.2.2.1 - 1) ∧ LvP τ (b.2.2.2.2.2.2.2.1 - 1)) ∧
  (b.1 = 31 ∨ b.1 = 36 → σ.I 2182 0 X = nI b.2.2.2.2.2.2.2.2.1)
/-- a node that was judged -/
def NdA (τ σ : Sg) (T : Nat → Tk) (b : Lb) (X : Nat) : Prop := NdT σ T b X ∧ NdV τ σ b X ∧ (b.1 ≤ 20 → σ.L 2176 0 X = tM b.2.2.2.2.2.2.1 ∧ TyOK b.2.2.2.2.2.2.1)
theorem KpP.an {τ σ s : Sg} {X m : Nat} (h : KpP τ σ X m) (hm : nPa τ m ≤ 4) (hA : AnM σ s X) : KpP τ s X m := sorry
theorem NdA.jd {τ σ s : Sg} {T : Nat → Tk} {b : Lb} {X : Nat} (h : NdA τ σ T b X) (hF : FJ pJd σ s) (hA : AnM σ s X) : NdA τ s T b X := sorry
theorem jd_ptr {σ s : Sg} (hF : FJ pJd σ s) : ∀ c X, c = 2177 ∨ c = 2178 ∨ c = 2180 → s.I c 0 X = σ.I c 0 X := sorry
/-- a tree that is not judged yet, when others were -/
theorem MTg.jc {σ s : Sg} {b m w a e lo hi pa pe lo2 hi2 L n : Nat} {B : Nat → Nat} {x : Tr} {v : Int32} (hb : b < 16) (hB : BOK B n) (hN : NEt (yTok B n) L) (he : e ≤ L) (hw : wt x m w a e) (hm : ¬ m = 4) (h : MTg σ b (NdC σ (yTok B n)) x lo hi v) (hF : FrJ σ s b pa pe lo2 hi2) (hd : hi ≤ lo2 ∨ hi2 ≤ lo ∨ pe ≤ (yTok B n a).2.2.1 ∨ (yTok B n e).2.2.1 ≤ pa) : MTg s b (NdC s (yTok B n)) x lo hi v := sorry
/-- a tree that was judged, when others are -/
theorem MTg.ja {τ σ s : Sg} {b m w a e lo hi pa pe lo2 hi2 L n : Nat} {B : Nat → Nat} {x : Tr} {v : Int32} (hb : b < 16) (hB : BOK B n) (hN : NEt (yTok B n) L) (he : e ≤ L) (hw : wt x m w a e) (hm : ¬ m = 4) (h : MTg σ b (NdA τ σ (yTok B n)) x lo hi v) (hF : FrJ σ s b pa pe lo2 hi2) (hd : hi ≤ lo2 ∨ hi2 ≤ lo ∨ pe ≤ (yTok B n a).2.2.1 ∨ (yTok B n e).2.2.1 ≤ pa) : MTg s b (NdA τ s (yTok B n)) x lo hi v := sorry
/-- locals that are known -/
def LcM (u : Sg) (Lc : List (Int64 × Int64 × Nat)) : Prop := u.I 2214 0 0 = nI Lc.length ∧ Lc.length ≤ 720 ∧ ∀ (j : Nat) (c : Int64 × Int64 × Nat), Lc[j]? = some c → u.L 2212 0 j = c.1 ∧ u.L 2213 0 j = tM c.2.1 ∧ TyOK c.2.1 ∧ ¬ c.2.1 = 2
/-- the model while it judges a body of class k -/
def JM (τ u : Sg) (b k : Nat) (st : Bool) (Lc : List (Int64 × Int64 × Nat)) : Prop := JgU τ u k ∧ (PmA τ ∧ (∀ x, x ∈ wKs τ 1 → MkP τ x) ∧ ((∀ m, LivU τ (wKs τ 1) m → ¬ τ.L 1207 m 0 = 2) ∧ ∀ c, c ∈ wKs τ 1 → τ.B 1104 c 0 = true → τ.B 1105 c 0 = false) ∧ ∀ x nm ts, x ∈ wKs τ 1 → (jCds τ k x nm ts).length ≤ 432) ∧ u.I 2209 0 0 = nI (cM k) ∧ u.B 2211 0 0 = st ∧ LcM u Lc ∧ b < 16
theorem JM.fj {τ u s : Sg} {b k : Nat} {st : Bool} {Lc : List (Int64 × Int64 × Nat)} (h : JM τ u b k st Lc) (hF : FJ pJd u s) : JM τ s b k st Lc := sorry
theorem JM.lv {τ u : Sg} {b k m : Nat} {st : Bool} {Lc : List (Int64 × Int64 × Nat)} (h : JM τ u b k st Lc) (hm : LivU τ (wKs τ 1) m) : LvP τ m := sorry
