/-! The model: askClass, ask -/
variable {φ : Sg}
abbrev aB (φ σ : Sg) (B : Nat) (r : Int32) (st : LSt) (f : Option Nat) (lk : List Nat) : Outcome → Sg → Prop := rI r (fun s => ∃ σ' ρ', s = mix pA σ' ρ' ∧ SgE σ σ' ∧ σ'.B 2192 0 0 = σ.B 2192 0 0 ∧ MA φ ρ' B st f lk)
def MUp (τ σ : Sg) (u u' : Nat) : Prop := σ.I 2224 0 u' = τ.I 1208 (6402 + u) 0 ∧ (∃ n, n ≤ 4 ∧ τ.I 1208 (6402 + u) 0 = nI n) ∧ ∀ j, j < nPa τ (6402 + u) → TyOK (τ.L 1209 (6402 + u) j) ∧ σ.L 2225 0 (4 * u' + j) = tM (τ.L 1209 (6402 + u) j)
/-- a use of sort v, and the model's -/
def MUx (τ σ : Sg) (u u' b v : Nat) : Prop := MU τ σ u u' b ∧ τ.I 1700 u 0 = nI v ∧ (1 ≤ v ∧ v ≤ 19) ∧ (2 ≤ v → v ≤ 12 → ∃ n, n ≤ 4 ∧ σ.I 2224 0 u' = nI n) ∧ ((v = 2 ∨ (7 ≤ v ∧ v ≤ 12)) → MUp τ σ u u') ∧ (3 ≤ v → v ≤ 12 → MUs τ σ u u') ∧ (7 ≤ v → v ≤ 12 → τ.I 1200 (6402 + u) 0 = 1) ∧ (v = 16 → σ.L 2222 0 u' = τ.L 1201 (6402 + u) 0 ∧ σ.I 2227 0 u' = τ.I 1213 (6402 + u) 0) ∧ (v = 17 → TyC (τ.L 1703 u 0) ∧ σ.L 2226 0 u' = tM (τ.L 1703 u 0)) ∧ (v = 18 → τ.L 1702 u 0 = τ.L 1107 b 0 ∧ τ.B 1102 b 0 = false) ∧ (v = 19 → ∃ j, j < nFc τ b ∧ τ.L 1702 u 0 = τ.L 1108 b j) ∧ (v = 11 → τ.B 1102 b 0 = false ∧ ¬ τ.L 1100 b 0 = 6927257) ∧ ¬ τ.I 1101 b 0 = 26
theorem MU.sg {τ σ σ' : Sg} {u u' b : Nat} (h : MU τ σ u u' b) (g : SgE σ σ') : MU τ σ' u u' b := sorry
theorem MUs.sg {τ σ σ' : Sg} {u u' : Nat} (h : MUs τ σ u u') (g : SgE σ σ') : MUs τ σ' u u' := sorry
theorem wLd_done {σ : Sg} {st : LSt} {k : Nat} (h : Ldd σ st k) : wLd σ k st = (0, st) := sorry
/-- classes are not final and bare at once -/
def MFB (τ : Sg) : Prop := ∀ c, c ∈ wKs τ 0 → τ.B 1104 c 0 = true → τ.B 1105 c 0 = false
theorem wLn_ev {σ : Sg} (hW : WOK σ 0) (hN : WNO σ) {nm : Int64} {B : Nat} {st : LSt} (hL : LOK st) (hC : LCL σ st) (h : EVB B st) : EVB B (wLn σ nm st).2 := sorry
section SPMT
variable {l : Launch} {G : Gl} {τ σ : Sg}
theorem aA.aB {σ σ' : Sg} {B : Nat} {r : Int32} {st : LSt} {f : Option Nat} {lk : List Nat} (g : SgE σ σ') (gb : σ'.B 2192 0 0 = σ.B 2192 0 0) {s : Sg} (h : ∃ ρ', s = mix pA σ' ρ' ∧ MA φ ρ' B st f lk) : aB φ σ B r st f lk (.returned (some (.int r))) s := sorry
/-- from the sign on: makers, fields, methods -/
theorem sp_sign (hG : GOK G) (hM : MLk τ σ) {B d u u' b c v : Nat} (hd : 141 ≤ d) (hu : MUx τ σ u u' b v) (hv1 : 2 ≤ v) (hv2 : v ≤ 12) (hl : σ.B 2192 0 0 = true) {st : LSt} (hL : LOK st) (hC : LCL τ st) (hE : EVB B st) (hc : Ldd τ st c) (hb : Ldd τ st b) {ρ : Sg} (hf : MA φ ρ B st none []) {n : Nat} (hn : n ≤ 4) (en : σ.I 2224 0 u' = nI n) (b2 : Bool) : ∀ (m j : Nat) (σ1 : Sg), j + m = n → SgE σ σ1 → σ1.B 2192 0 0 = σ.B 2192 0 0 → σ1.L 2151 0 7343 = σ.L 2222 0 u' → σ1.L 2153 0 7343 = σ.L 2223 0 u' → σ1.I 2155 0 7343 = σ.I 2224 0 u' → (∀ i, i < j → σ1.L 2156 0 (29372 + i) = σ.L 2225 0 (4 * u' + i)) → wq_X11_askClass_187 l G d 0 (nI u') b2 (aB φ σ B (rs3 τ u b c st).1 (rs3 τ u b c st).2.1 (mtN τ u (rs3 τ u b c st)) (rs3 τ u b c st).2.2.2.2) (m + 1) (nI (cM b)) (nI (cM c)) (τ.I 1700 u 0) (nI j) (mix pA σ1 ρ) := sorry
end SPMT
