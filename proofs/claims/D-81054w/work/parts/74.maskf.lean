/-! The model: askField, methodOf, askCalled, askSuper, askFaceSuper, askMethod -/
variable {φ : Sg}
abbrev aA (φ σ : Sg) (B : Nat) (r : Int32) (st : LSt) (f : Option Nat) (lk : List Nat) : Outcome → Sg → Prop := rI r (fun s => ∃ ρ', s = mix pA σ ρ' ∧ MA φ ρ' B st f lk)
/-- a use, and the model's -/
def MU (τ σ : Sg) (u u' b : Nat) : Prop := u' < 30600 ∧ u < cnt 7 ∧ τ.R 1701 u 0 = some b ∧ σ.I 2219 0 u' = τ.I 1700 u 0 ∧ σ.I 2220 0 u' = nI (cM b) ∧ (TyC (τ.L 1702 u 0) ∧ σ.L 2221 0 u' = tM (τ.L 1702 u 0))
def MUs (τ σ : Sg) (u u' : Nat) : Prop := σ.L 2222 0 u' = τ.L 1201 (6402 + u) 0 ∧ TyOK (τ.L 1207 (6402 + u) 0) ∧ ¬ τ.L 1207 (6402 + u) 0 = 2 ∧ σ.L 2223 0 u' = tM (τ.L 1207 (6402 + u) 0)
theorem LivU.mm {τ σ : Sg} (hM : MLk τ σ) {m : Nat} (h : LivU τ (wKs τ 0) m) : mOf τ m ∈ wKs τ 0 ∧ MM τ σ m (mM m) ∧ mM m / 34 = cM (mOf τ m) ∧ mM m < 7344 ∧ (∃ v, v ≤ 3 ∧ τ.I 1202 m 0 = nI v) ∧ (τ.I 1200 m 0 = 2 → τ.B 1203 m 0 = false) := sorry
noncomputable def flM (τ : Sg) (u b c : Nat) (st : LSt) (L : List Nat) (o : Option Nat) : MT := match o with
  | none => (4, st, none, none, L)
  | some m => (if (lLts τ b (mOf τ m) m c st).1 = true then flC τ u b m else 2, (lLts τ b (mOf τ m) m c st).2, some m, none, L)
section SPMT
variable {l : Launch} {G : Gl} {τ σ : Sg}
/-- the model's askField -/
theorem sp_X11_askField (hG : GOK G) (hM : MLk τ σ) {B d u u' b c : Nat} (hd : 141 ≤ d) (hb : b ∈ wKs τ 0) (hc : c ∈ wKs τ 0) (hu : MU τ σ u u' b) (hus : MUs τ σ u u') (hl : σ.B 2192 0 0 = true) {st : LSt} (hL : LOK st) (hC : LCL τ st) (hE : EVB B st) {ρ : Sg} (hf : MA φ ρ B st none []) {x y z : Int32} (hx : x = nI u') (hy : y = nI (cM c)) (hz : z = nI (cM b)) : CT l G yX11_askField (ws_ yX11_askField cX11_askField 7 (some .int)) d [.ref (G.adr 11 0), .int x, .int y, .int z] (mix pA σ ρ) (aA φ σ B (flR τ u b c st none).1 (flR τ u b c st none).2.1 (flR τ u b c st none).2.2.1 (flR τ u b c st none).2.2.2.2) := sorry
end SPMT
