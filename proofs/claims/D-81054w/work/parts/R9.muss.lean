/-! The uses of an S in the model's tables. -/
def UsS (τ σ : Sg) (b k : Nat) (UF : List Us) (bb : Lb) (x : Tr) (X : Nat) : Prop :=
  (bb.1 = 36 → σ.I 2187 0 X = nI (1800 * b + uIx UF (uC k 15 (lN bb.2.2.2.2.2.1)))) ∧
  (bb.1 = 38 → ∀ p, wPar τ 1 k = some p → σ.I 2187 0 X = if τ.L 1100 p 0 = 6927257 then -2 else nI (1800 * b + uIx UF (uM τ k (τ.L 1100 p 0) (mB bb)))) ∧
  (bb.1 = 40 → ∀ r, ptU τ k x = [r] → σ.I 2187 0 X = nI (1800 * b + uIx UF r))
/-- an S hangs at v, its uses are laid -/
def MTs (τ σ : Sg) (T : Nat → Tk) (b k : Nat) (UF : List Us) : Tr → Nat → Nat → Int32 → Prop
  | .leaf, _, _, v => v = -2
  | .inner _ bb _ x y, lo, hi, v => ∃ kk, v = nI (b * 1700 + kk) ∧ kk < 1700 ∧
    ((bb.1 = 0 ∧ MTs τ σ T b k UF x lo hi v ∧ MTs τ σ T b k UF y lo hi (σ.I 2180 0 (b * 1700 + kk))) ∨
     (bb.1 = 41 ∧ MTs τ σ T b k UF x lo hi (σ.I 2178 0 (b * 1700 + kk)) ∧ MTs τ σ T b k UF y lo hi (σ.I 2179 0 (b * 1700 + kk))) ∨
     (¬ bb.1 = 0 ∧ ¬ bb.1 = 41 ∧ lo ≤ kk ∧ kk < hi ∧ NdA τ σ T bb (b * 1700 + kk) ∧ UsS τ σ b k UF bb x (b * 1700 + kk) ∧
      (bb.1 = 30 ∨ bb.1 = 36 → MTs τ σ T b k UF x lo kk (σ.I 2177 0 (b * 1700 + kk)) ∨ MTs τ σ T b k UF x (kk + 1) hi (σ.I 2177 0 (b * 1700 + kk))) ∧
      (31 ≤ bb.1 ∧ bb.1 ≤ 39 ∧ ¬ bb.1 = 36 → MTg σ b (NdU τ σ T b k UF) x lo kk (σ.I 2177 0 (b * 1700 + kk)) ∨ MTg σ b (NdU τ σ T b k UF) x (kk + 1) hi (σ.I 2177 0 (b * 1700 + kk))) ∧
      (bb.1 = 40 → ∃ X', σ.I 2177 0 (b * 1700 + kk) = nI X' ∧ X' < 27200 ∧ ((MTg σ b (NdA τ σ T) x lo kk (nI X') ∧ (kdO x = 17 → MTg σ b (NdU τ σ T b k UF) (ptO x) lo kk (σ.I 2177 0 X'))) ∨ (MTg σ b (NdA τ σ T) x (kk + 1) hi (nI X') ∧ (kdO x = 17 → MTg σ b (NdU τ σ T b k UF) (ptO x) (kk + 1) hi (σ.I 2177 0 X'))))) ∧
      (bb.1 = 40 → MTg σ b (NdU τ σ T b k UF) y (kk + 1) hi (σ.I 2178 0 (b * 1700 + kk))) ∧
      (bb.1 = 36 → MTs τ σ T b k UF y (kk + 1) hi (σ.I 2178 0 (b * 1700 + kk))) ∧ (bb.1 = 32 ∨ bb.1 = 33 → MTs τ σ T b k UF y (kk + 1) hi v)))
theorem wt_ptO {x : Tr} {w a e : Nat} (h : wt x 0 w a e) (hk : kdO x = 17) : ∃ e', e' ≤ e ∧ wt (ptO x) 0 w a e' := sorry
theorem fr_out {b lo hi lo2 hi2 kk pa pe p a' e' : Nat} (h1 : lo ≤ kk) (h2 : kk < hi) (hp : p = a') (hl : a' < e') (hd : hi ≤ lo2 ∨ hi2 ≤ lo ∨ pe ≤ a' ∨ e' ≤ pa) : ¬ (b * 1700 + lo2 ≤ b * 1700 + kk ∧ b * 1700 + kk < b * 1700 + hi2 ∧ pa ≤ p ∧ p < pe) := sorry
theorem MTs.us {τ σ s : Sg} {b k pa pe lo2 hi2 L n : Nat} {UF : List Us} {B : Nat → Nat} (hb : b < 16) (hB : BOK B n) (hN : NEt (yTok B n) L) (hF : FrU σ s b pa pe lo2 hi2) : ∀ (x : Tr) (m w a e lo hi : Nat) (v : Int32), m = 2 ∨ m = 3 ∨ m = 4 ∨ m = 6 → e ≤ L → wt x m w a e → (hi ≤ lo2 ∨ hi2 ≤ lo ∨ pe ≤ (yTok B n a).2.2.1 ∨ (yTok B n e).2.2.1 ≤ pa) → MTs τ σ (yTok B n) b k UF x lo hi v → MTs τ s (yTok B n) b k UF x lo hi v := sorry
/-- what laying the uses of an S leaves -/
def RUs (τ u s : Sg) (b k : Nat) (T : Nat → Tk) (P a e lo hi : Nat) (U : List Us) (mt : Int64) (x : Tr) (v : Int32) : Prop := FrU u s b (T a).2.2.1 (T e).2.2.1 lo hi ∧ (s.I 2208 0 0 = nI P ∧ PaS u s P) ∧ MS s b k (addL U (ndS τ k mt x)) ∧ ∀ UF, Pre (addL U (ndS τ k mt x)) UF → MTs τ s T b k UF x lo hi v
/-- the member at hand -/
def QmU (u : Sg) (qm : Nat) (mt : Int64) : Prop := u.I 2210 0 0 = nI qm ∧ qm < 7344 ∧ u.L 2153 0 qm = tM mt ∧ TyOK mt ∧ ¬ mt = 2
theorem QmU.fj {u s : Sg} {qm b : Nat} {mt : Int64} (h : QmU u qm mt) (hF : FJ (pUe b) u s) : QmU s qm mt := sorry
/-- constants are static; the first class's maker has no params -/
def UsH (τ : Sg) : Prop := (∀ m, LivU τ (wKs τ 1) m → τ.B 1212 m 0 = true → τ.B 1203 m 0 = true) ∧ ∀ m, LivU τ [192] m → nPa τ m = 0
section SPX
variable {l : Launch} {G : Gl} {d : Nat} {τ : Sg} {b k n L qm : Nat} {B : Nat → Nat} {ms : Int32} {mt : Int64}
def SpUs (l : Launch) (G : Gl) (d : Nat) (τ : Sg) (b k : Nat) (B : Nat → Nat) (n L qm : Nat) (ms : Int32) (mt : Int64) (x : Tr) : Prop := ∀ (u : Sg) (lo hi w a e P : Nat) (v : Int32) (U : List Us), JU τ u b k U → QmU u qm mt → MTg u b (NdA τ u (yTok B n)) x lo hi v → wt x 2 w a e → gdS τ k ms mt x → e ≤ L → hi ≤ 1700 → u.I 2208 0 0 = nI P → P + (hi - lo) ≤ 1703 → (addL U (ndS τ k mt x)).length < 1800 → CT l G yX11_usesS (ws_ yX11_usesS cX11_usesS 3 none) d [.ref (G.adr 11 0), .int v] u (rV (fun s => RUs τ u s b k (yTok B n) P a e lo hi U mt x v))
/-- the loop over a row of S's -/
def LpUs (l : Launch) (G : Gl) (d : Nat) (τ : Sg) (b k : Nat) (B : Nat → Nat) (n L qm : Nat) (ms : Int32) (mt : Int64) (x : Tr) : Prop := ∀ (u : Sg) (lo hi w a e P : Nat) (v x1 : Int32) (U : List Us) (Q : Outcome → Sg → Prop), JU τ u b k U → QmU u qm mt → MTg u b (NdA τ u (yTok B n)) x lo hi v → wt x 3 w a e → gdS τ k ms mt x → e ≤ L → hi ≤ 1700 → u.I 2208 0 0 = nI P → P + (hi - lo) ≤ 1703 → (addL U (ndS τ k mt x)).length < 1800 → (∀ s, RUs τ u s b k (yTok B n) P a e lo hi U mt x v → wq_X11_usesS_354 l G d 0 x1 Q s) → wq_X11_usesS_71 l G d 0 x1 Q ((tyL x).length + 1) v u
theorem LpUs_0 : LpUs l G d τ b k B n L qm ms mt .leaf := sorry
theorem LpUs_c {sz : Nat} {bb : Lb} {uu : Unit} {x y : Tr} (hB : BOK B n) (hNE : NEt (yTok B n) L) (h0 : bb.1 = 0) (hS : SpUs l G d τ b k B n L qm ms mt x) (hA : LpUs l G d τ b k B n L qm ms mt y) : LpUs l G d τ b k B n L qm ms mt (.inner sz bb uu x y) := sorry
end SPX
