/-! The model's uses of a class: frames. -/
def pUz (b c j : Nat) : Bool := decide ((2186 < c ∧ c ≤ 2188) ∨ (2206 < c ∧ c ≤ 2210) ∨ (c = 2167 ∧ 408 * b ≤ j ∧ j < 408 * b + 408) ∨ (c = 2218 ∧ j = b) ∨ (2218 < c ∧ c ≤ 2227 ∧ ¬ c = 2225 ∧ 1800 * b ≤ j ∧ j < 1800 * b + 1800) ∨ (c = 2225 ∧ 7200 * b ≤ j ∧ j < 7200 * b + 7200))
theorem pUz_iff {b c j : Nat} : pUz b c j = true ↔ ((2186 < c ∧ c ≤ 2188) ∨ (2206 < c ∧ c ≤ 2210) ∨ (c = 2167 ∧ 408 * b ≤ j ∧ j < 408 * b + 408) ∨ (c = 2218 ∧ j = b) ∨ (2218 < c ∧ c ≤ 2227 ∧ ¬ c = 2225 ∧ 1800 * b ≤ j ∧ j < 1800 * b + 1800) ∨ (c = 2225 ∧ 7200 * b ≤ j ∧ j < 7200 * b + 7200)) := sorry
theorem pUz_no {b c j : Nat} (h : ¬ ((2186 < c ∧ c ≤ 2188) ∨ (2206 < c ∧ c ≤ 2210) ∨ c = 2167 ∨ (2217 < c ∧ c ≤ 2227))) : pUz b c j = false := sorry
theorem pUe_pUz {b : Nat} : ∀ c j, pUe b c j = true → pUz b c j = true := sorry
/-- only nodes from lo on, below hi, at places from pa on, below pe -/
def FrW (σ s : Sg) (b pa pe lo hi : Nat) : Prop := FJ (pUz b) σ s ∧ ∀ X, ¬ (b * 1700 + lo ≤ X ∧ X < b * 1700 + hi ∧ pa ≤ plA σ X ∧ plA σ X < pe) → s.I 2187 0 X = σ.I 2187 0 X ∧ s.I 2188 0 X = σ.I 2188 0 X
theorem plA_uz {σ s : Sg} {X b : Nat} (h : FJ (pUz b) σ s) : plA s X = plA σ X := sorry
theorem FrW.refl {σ : Sg} {b pa pe lo hi : Nat} : FrW σ σ b pa pe lo hi := sorry
theorem FrW.trans {σ s u : Sg} {b pa pe lo hi : Nat} (h : FrW σ s b pa pe lo hi) (k : FrW s u b pa pe lo hi) : FrW σ u b pa pe lo hi := sorry
theorem FrW.up {σ s : Sg} {b pa pe lo hi pa' pe' lo' hi' : Nat} (h : FrW σ s b pa pe lo hi) (h1 : pa' ≤ pa) (h2 : pe ≤ pe') (h3 : lo' ≤ lo) (h4 : hi ≤ hi') : FrW σ s b pa' pe' lo' hi' := sorry
theorem MTg.uz {τ σ s : Sg} {b b' m w a e lo hi : Nat} {T : Nat → Tk} {x : Tr} {v : Int32} (hb : b < 16) (hw : wt x m w a e) (h : MTg σ b (NdA τ σ T) x lo hi v) (hF : FJ (pUz b') σ s) : MTg s b (NdA τ s T) x lo hi v := sorry
theorem MTg.usz {τ σ s : Sg} {b k m w a e lo hi pa pe lo2 hi2 L n : Nat} {UF : List Us} {B : Nat → Nat} {x : Tr} {v : Int32} (hb : b < 16) (hB : BOK B n) (hN : NEt (yTok B n) L) (he : e ≤ L) (hw : wt x m w a e) (h : MTg σ b (NdU τ σ (yTok B n) b k UF) x lo hi v) (hF : FrW σ s b pa pe lo2 hi2) (hd : hi ≤ lo2 ∨ hi2 ≤ lo ∨ pe ≤ (yTok B n a).2.2.1 ∨ (yTok B n e).2.2.1 ≤ pa) : MTg s b (NdU τ s (yTok B n) b k UF) x lo hi v := sorry
theorem MTs.usz {τ σ s : Sg} {b k pa pe lo2 hi2 L n : Nat} {UF : List Us} {B : Nat → Nat} (hb : b < 16) (hB : BOK B n) (hN : NEt (yTok B n) L) (hF : FrW σ s b pa pe lo2 hi2) : ∀ (x : Tr) (m w a e lo hi : Nat) (v : Int32), m = 2 ∨ m = 3 ∨ m = 4 ∨ m = 6 → e ≤ L → wt x m w a e → (hi ≤ lo2 ∨ hi2 ≤ lo ∨ pe ≤ (yTok B n a).2.2.1 ∨ (yTok B n e).2.2.1 ≤ pa) → MTs τ σ (yTok B n) b k UF x lo hi v → MTs τ s (yTok B n) b k UF x lo hi v := sorry
theorem FrU.W {σ s : Sg} {b pa pe lo hi : Nat} (h : FrU σ s b pa pe lo hi) : FrW σ s b pa pe lo hi := sorry
theorem FrW_0 {σ s : Sg} {b c j pa pe lo hi : Nat} {v : Int32} (h : FrW σ s b pa pe lo hi) (hc : c = 2209 ∨ c = 2210 ∨ c = 2208 ∨ (c = 2167 ∧ 408 * b ≤ j ∧ j < 408 * b + 408)) : FrW σ (sI s c 0 j v) b pa pe lo hi := sorry
theorem JgU_uz {τ σ s : Sg} {b k : Nat} (h : JgU τ σ k) (hF : FJ (pUz b) σ s) : JgU τ s k := sorry
theorem JU.ofz {τ σ s : Sg} {b k : Nat} {U U' : List Us} (h : JU τ σ b k U) (hM : MS s b k U') (hF : FJ (pUz b) σ s) : JU τ s b k U' := sorry
/-- the maker above of a maker that does not tell it -/
noncomputable def prM (τ : Sg) (k : Nat) : List Us := match wPar τ 1 k with
  | none => []
  | some p => if τ.L 1100 p 0 = 6927257 then [] else [(k, 2, τ.L 1100 p 0, 0, 0, 0, [], 0)]
/-- the uses of a member m; x its judged tree; t what a bridge calls -/
noncomputable def ndM (τ : Sg) (k m t : Nat) (x : Tr) : List Us := if τ.B 1206 m 0 = true then brU τ k m t else if τ.I 1200 m 0 = 0 then (if isLf x = true then [] else if τ.B 1212 m 0 = true then ndE τ k x [] else ndE τ k x [] ++ fitU k (tyO x) (τ.L 1207 m 0)) else (if τ.I 1200 m 0 = 2 ∧ tlS x = false then prM τ k else []) ++ ndS τ k (τ.L 1207 m 0) x
/-- a member whose uses are to be laid -/
def UmH (τ u : Sg) (T : Nat → Tk) (L b k m t : Nat) (x : Tr) (a e : Nat) : Prop := LivU τ (wKs τ 1) m ∧ e ≤ L ∧
  (τ.B 1206 m 0 = true → LivU τ (wKs τ 1) t ∧ τ.L 1201 t 0 = τ.L 1201 m 0 ∧ pmL τ t = pmL τ m ∧ (τ.L 1207 t 0 = τ.L 1207 m 0 ∨ τ.L 1207 t 0 = 2 ∨ (TyC (τ.L 1207 t 0) ∧ TyC (τ.L 1207 m 0))) ∧ u.L 2166 0 (mM m) = tM (τ.L 1207 t 0)) ∧
  (τ.B 1206 m 0 = false → τ.I 1200 m 0 = 0 → MTg u b (NdA τ u T) x 0 1700 (u.I 2160 0 (mM m)) ∧ ((x = .leaf ∧ τ.B 1212 m 0 = false) ∨ ∃ w, wt x 0 w a e ∧ gdE τ x ∧ (τ.B 1212 m 0 = true → csT τ x) ∧ wFits τ 1 (tyO x) (τ.L 1207 m 0) = true)) ∧
  (τ.B 1206 m 0 = false → ¬ τ.I 1200 m 0 = 0 → MTg u b (NdA τ u T) x 0 1700 (u.I 2161 0 (mM m)) ∧ (x = .leaf ∨ (kdO x = 30 ∧ ∃ w, wt x 2 w a e ∧ gdS τ k (τ.I 1200 m 0) (τ.L 1207 m 0) x)) ∧ (τ.I 1200 m 0 = 2 → ¬ wPar τ 1 k = none))
/-- a member whose uses are laid -/
def UmD (τ s : Sg) (T : Nat → Tk) (b k m t : Nat) (x : Tr) (UF : List Us) : Prop :=
  (τ.B 1206 m 0 = true → s.I 2167 0 (mM m) = nI (1800 * b + uIx UF (uL τ k (brV τ k m) (τ.L 1100 k 0) t))) ∧
  (τ.B 1206 m 0 = false → τ.I 1200 m 0 = 0 → τ.B 1212 m 0 = false → MTg s b (NdU τ s T b k UF) x 0 1700 (s.I 2160 0 (mM m))) ∧
  (τ.B 1206 m 0 = false → ¬ τ.I 1200 m 0 = 0 → MTs τ s T b k UF x 0 1700 (s.I 2161 0 (mM m)) ∧ (τ.I 1200 m 0 = 2 → tlS x = false → ∀ p, wPar τ 1 k = some p → s.I 2167 0 (mM m) = if τ.L 1100 p 0 = 6927257 then -2 else nI (1800 * b + uIx UF (k, 2, τ.L 1100 p 0, 0, 0, 0, [], 0))))
