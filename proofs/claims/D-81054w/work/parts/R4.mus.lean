/-! The model's uses of an E: frames, fields, calls. -/
def Pre (U W : List Us) : Prop := ∃ V, W = U ++ V
theorem Pre.refl {U : List Us} : Pre U U := sorry
theorem Pre.trans {U V W : List Us} (h : Pre U V) (k : Pre V W) : Pre U W := sorry
theorem Pre.len {U V : List Us} (h : Pre U V) : U.length ≤ V.length := sorry
theorem Pre.add {U : List Us} {r : Us} : Pre U (addU U r) := sorry
theorem Pre.addL {U R : List Us} : Pre U (addL U R) := sorry
theorem uIx_pre {U W : List Us} {r : Us} (h : Pre U W) (hr : r ∈ U) : uIx W r = uIx U r := sorry
/-- the columns of laying uses of trees -/
def pUe (b c j : Nat) : Bool := decide ((2186 < c ∧ c ≤ 2188) ∨ (2206 < c ∧ c ≤ 2208) ∨ (c = 2218 ∧ j = b) ∨ (2218 < c ∧ c ≤ 2227 ∧ ¬ c = 2225 ∧ 1800 * b ≤ j ∧ j < 1800 * b + 1800) ∨ (c = 2225 ∧ 7200 * b ≤ j ∧ j < 7200 * b + 7200))
theorem pUe_iff {b c j : Nat} : pUe b c j = true ↔ ((2186 < c ∧ c ≤ 2188) ∨ (2206 < c ∧ c ≤ 2208) ∨ (c = 2218 ∧ j = b) ∨ (2218 < c ∧ c ≤ 2227 ∧ ¬ c = 2225 ∧ 1800 * b ≤ j ∧ j < 1800 * b + 1800) ∨ (c = 2225 ∧ 7200 * b ≤ j ∧ j < 7200 * b + 7200)) := sorry
theorem pUe_no {b c j : Nat} (h : ¬ ((2186 < c ∧ c ≤ 2188) ∨ (2206 < c ∧ c ≤ 2208) ∨ (2217 < c ∧ c ≤ 2227))) : pUe b c j = false := sorry
theorem pUu_pUe {b : Nat} : ∀ c j, pUu b c j = true → pUe b c j = true := sorry
/-- only nodes from lo on, below hi, at places from pa on, below pe -/
def FrU (σ s : Sg) (b pa pe lo hi : Nat) : Prop := FJ (pUe b) σ s ∧ ∀ X, ¬ (b * 1700 + lo ≤ X ∧ X < b * 1700 + hi ∧ pa ≤ plA σ X ∧ plA σ X < pe) → s.I 2187 0 X = σ.I 2187 0 X ∧ s.I 2188 0 X = σ.I 2188 0 X
theorem plA_ue {σ s : Sg} {X b : Nat} (h : FJ (pUe b) σ s) : plA s X = plA σ X := sorry
theorem FrU.refl {σ : Sg} {b pa pe lo hi : Nat} : FrU σ σ b pa pe lo hi := sorry
theorem FrU.trans {σ s u : Sg} {b pa pe lo hi : Nat} (h : FrU σ s b pa pe lo hi) (k : FrU s u b pa pe lo hi) : FrU σ u b pa pe lo hi := sorry
theorem FrU.up {σ s : Sg} {b pa pe lo hi pa' pe' lo' hi' : Nat} (h : FrU σ s b pa pe lo hi) (h1 : pa' ≤ pa) (h2 : pe ≤ pe') (h3 : lo' ≤ lo) (h4 : hi ≤ hi') : FrU σ s b pa' pe' lo' hi' := sorry
theorem FrU_u {σ s : Sg} {b pa pe lo hi : Nat} (h : FJ (pUu b) σ s) : FrU σ s b pa pe lo hi := sorry
/-- a use is laid at the node X -/
theorem FrU_7 {σ : Sg} {X b pa pe lo hi : Nat} {v : Int32} (h1 : b * 1700 + lo ≤ X) (h2 : X < b * 1700 + hi) (h3 : pa ≤ plA σ X) (h4 : plA σ X < pe) : FrU σ (sI σ 2187 0 X v) b pa pe lo hi := sorry
theorem FrU_8 {σ : Sg} {X b pa pe lo hi : Nat} {v : Int32} (h1 : b * 1700 + lo ≤ X) (h2 : X < b * 1700 + hi) (h3 : pa ≤ plA σ X) (h4 : plA σ X < pe) : FrU σ (sI σ 2188 0 X v) b pa pe lo hi := sorry
theorem NdA.fjg {τ σ s : Sg} {T : Nat → Tk} {b : Lb} {X : Nat} {p : Nat → Nat → Bool} (h : NdA τ σ T b X) (hF : FJ p σ s) (hp : ∀ c j, 2169 < c → c ≤ 2186 → p c j = false) : NdA τ s T b X := sorry
/-- the uses of a node; UF: all uses of the build -/
def UsN (τ σ : Sg) (b k : Nat) (UF : List Us) (bb : Lb) (X : Nat) : Prop :=
  (bb.1 = 4 ∨ bb.1 = 6 ∨ bb.1 = 17 → ¬ bb.2.2.2.2.2.2.2.1 = 0 → σ.I 2187 0 X = nI (1800 * b + uIx UF (gtU τ k bb))) ∧
  (bb.1 = 5 ∨ bb.1 = 7 ∨ bb.1 = 8 ∨ bb.1 = 9 ∨ bb.1 = 18 → σ.I 2187 0 X = nI (1800 * b + uIx UF (uL τ k (clS τ bb) (τ.L 1100 (cB bb) 0) (mB bb)))) ∧
  (bb.1 = 10 → σ.I 2187 0 X = nI (1800 * b + uIx UF (uC k 1 (τ.L 1100 (cB bb) 0))) ∧ σ.I 2188 0 X = nI (1800 * b + uIx UF (uM τ k (τ.L 1100 (cB bb) 0) (mB bb)))) ∧
  (bb.1 = 11 → σ.I 2187 0 X = nI (1800 * b + uIx UF (uC k 13 (lN bb.2.2.2.2.2.1)))) ∧
  (bb.1 = 19 → σ.I 2187 0 X = nI (1800 * b + uIx UF (uC k 14 (lN bb.2.2.2.2.2.1))))
abbrev NdU (τ σ : Sg) (T : Nat → Tk) (b k : Nat) (UF : List Us) (bb : Lb) (X : Nat) : Prop := NdA τ σ T bb X ∧ UsN τ σ b k UF bb X
theorem UsN.e {τ σ s : Sg} {b k X : Nat} {UF : List Us} {bb : Lb} (h : UsN τ σ b k UF bb X) (h1 : s.I 2187 0 X = σ.I 2187 0 X) (h2 : s.I 2188 0 X = σ.I 2188 0 X) : UsN τ s b k UF bb X := sorry
theorem MTg.ue {τ σ s : Sg} {b b' m w a e lo hi : Nat} {T : Nat → Tk} {x : Tr} {v : Int32} (hb : b < 16) (hw : wt x m w a e) (h : MTg σ b (NdA τ σ T) x lo hi v) (hF : FJ (pUe b') σ s) : MTg s b (NdA τ s T) x lo hi v := sorry
theorem MTg.us {τ σ s : Sg} {b k m w a e lo hi pa pe lo2 hi2 L n : Nat} {UF : List Us} {B : Nat → Nat} {x : Tr} {v : Int32} (hb : b < 16) (hB : BOK B n) (hN : NEt (yTok B n) L) (he : e ≤ L) (hw : wt x m w a e) (h : MTg σ b (NdU τ σ (yTok B n) b k UF) x lo hi v) (hF : FrU σ s b pa pe lo2 hi2) (hd : hi ≤ lo2 ∨ hi2 ≤ lo ∨ pe ≤ (yTok B n a).2.2.1 ∨ (yTok B n e).2.2.1 ≤ pa) : MTg s b (NdU τ s (yTok B n) b k UF) x lo hi v := sorry
/-- while the uses of class k's trees are laid -/
def JU (τ σ : Sg) (b k : Nat) (U : List Us) : Prop := MS σ b k U ∧ JgU τ σ k ∧ JMs τ k ∧ wFind τ 1 (τ.L 1100 k 0) = some k
theorem JU.of {τ σ s : Sg} {b k : Nat} {U U' : List Us} (h : JU τ σ b k U) (hM : MS s b k U') (hF : FJ (pUe b) σ s) : JU τ s b k U' := sorry
theorem okC {τ σ : Sg} {k c : Nat} (hU : JgU τ σ k) (h : wFind τ 1 (τ.L 1100 c 0) = some c) : c < cnt 1 ∧ TyC (τ.L 1100 c 0) ∧ MK1 τ σ c := sorry
theorem okM {τ σ : Sg} {k m : Nat} (hU : JgU τ σ k) (hS : JMs τ k) (h : LivU τ (wKs τ 1) m) : (TyOK (τ.L 1207 m 0) ∧ ¬ τ.L 1207 m 0 = 2) ∧ nPa τ m ≤ 4 ∧ (pmL τ m).length ≤ 4 ∧ ∀ t, t ∈ pmL τ m → TyOK t := sorry
theorem uC_ok {k s : Nat} {c : Int64} (hk : k < cnt 1) (hs : s = 1 ∨ (13 ≤ s ∧ s ≤ 15) ∨ s = 18 ∨ s = 19) (hc : TyC c) : UOK (uC k s c) := sorry
theorem uF_ok {τ σ : Sg} {k k' s f : Nat} {c : Int64} (hU : JgU τ σ k') (hS : JMs τ k') (hk : k < cnt 1) (hs : 3 ≤ s ∧ s ≤ 6) (hc : TyC c) (hf : LivU τ (wKs τ 1) f) : UOK (uF τ k s c f) := sorry
theorem uY_ok {τ : Sg} {k f : Nat} {c : Int64} (hk : k < cnt 1) (hc : TyC c) : UOK (uY τ k c f) := sorry
theorem uL_ok {τ σ : Sg} {k k' s m : Nat} {c : Int64} (hU : JgU τ σ k') (hS : JMs τ k') (hk : k < cnt 1) (hs : 7 ≤ s ∧ s ≤ 12) (hc : TyC c) (hf : LivU τ (wKs τ 1) m) : UOK (uL τ k s c m) := sorry
theorem uM_ok {τ σ : Sg} {k k' m : Nat} {c : Int64} (hU : JgU τ σ k') (hS : JMs τ k') (hk : k < cnt 1) (hc : TyC c) (hf : LivU τ (wKs τ 1) m) : UOK (uM τ k c m) := sorry
section SPX
variable {l : Launch} {G : Gl} {d : Nat} {τ σ : Sg} {b k : Nat} {U : List Us} {T : Nat → Tk}
theorem fMn_c {τ : Sg} {f : Nat} : (fMn τ f = -10 ↔ τ.B 1212 f 0 = true) ∧ (τ.B 1212 f 0 = false → (fMn τ f = -12 ↔ τ.B 1203 f 0 = false)) ∧ ¬ 0 ≤ fMn τ f := sorry
theorem sp_fU3 (hG : GOK G) {X : Nat} {bb : Lb} {y : Tr} {x1 x2 : Int32} (hd : 3 ≤ d) (hX : X < 27200) (hJ : JU τ σ b k U) (hN : NdA τ σ T bb X) (hk : bb.1 = 4 ∨ bb.1 = 6 ∨ bb.1 = 17) (hm : ¬ bb.2.2.2.2.2.2.2.1 = 0) (hg : gdN τ bb y) (hL : U.length < 1800) (e1 : x1 = nI X) (e2 : x2 = 3) : CT l G yX11_fieldUse (ws_ yX11_fieldUse cX11_fieldUse 3 (some .int)) d [.ref (G.adr 11 0), .int x1, .int x2] σ (rI (nI (1800 * b + uIx (addU U (gtU τ k bb)) (gtU τ k bb))) (fun t => FJ (pUu b) σ t ∧ MS t b k (addU U (gtU τ k bb)))) := sorry
/-- a field that is put to -/
theorem sp_fU4 (hG : GOK G) {X : Nat} {bb : Lb} {y : Tr} {x1 x2 : Int32} (hd : 3 ≤ d) (hX : X < 27200) (hJ : JU τ σ b k U) (hN : NdA τ σ T bb X) (hk : bb.1 = 4 ∨ bb.1 = 6 ∨ bb.1 = 17) (hm : ¬ bb.2.2.2.2.2.2.2.1 = 0) (hg : gdN τ bb y) (hcs : τ.B 1212 (mB bb) 0 = true → τ.B 1203 (mB bb) 0 = true) (hL : U.length < 1800) (e1 : x1 = nI X) (e2 : x2 = 4) : CT l G yX11_fieldUse (ws_ yX11_fieldUse cX11_fieldUse 3 (some .int)) d [.ref (G.adr 11 0), .int x1, .int x2] σ (rI (nI (1800 * b + uIx (addU U (uF τ k (if τ.B 1203 (mB bb) 0 = true then 6 else 4) (τ.L 1100 (cB bb) 0) (mB bb))) (uF τ k (if τ.B 1203 (mB bb) 0 = true then 6 else 4) (τ.L 1100 (cB bb) 0) (mB bb)))) (fun t => FJ (pUu b) σ t ∧ MS t b k (addU U (uF τ k (if τ.B 1203 (mB bb) 0 = true then 6 else 4) (τ.L 1100 (cB bb) 0) (mB bb))))) := sorry
/-- a call -/
theorem sp_cU (hG : GOK G) {X : Nat} {bb : Lb} {y : Tr} {x1 : Int32} (hd : 4 ≤ d) (hX : X < 27200) (hJ : JU τ σ b k U) (hN : NdA τ σ T bb X) (hk : bb.1 = 5 ∨ bb.1 = 7 ∨ bb.1 = 8 ∨ bb.1 = 9 ∨ bb.1 = 18) (hg : gdN τ bb y) (hL : U.length < 1800) (e1 : x1 = nI X) : CT l G yX11_callUse (ws_ yX11_callUse cX11_callUse 5 (some .int)) d [.ref (G.adr 11 0), .int x1] σ (rI (nI (1800 * b + uIx (addU U (uL τ k (clS τ bb) (τ.L 1100 (cB bb) 0) (mB bb))) (uL τ k (clS τ bb) (τ.L 1100 (cB bb) 0) (mB bb)))) (fun t => FJ (pUu b) σ t ∧ MS t b k (addU U (uL τ k (clS τ bb) (τ.L 1100 (cB bb) 0) (mB bb))))) := sorry
end SPX
