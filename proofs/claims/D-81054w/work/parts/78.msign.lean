/-! The model: all but the sign; askFit, isStale -/
variable {φ : Sg}
def SgE (σ σ' : Sg) : Prop := (∀ c i j, (c = 2155 → j ≠ 7343) → σ'.I c i j = σ.I c i j) ∧ (∀ c i j, c ≠ 2192 → σ'.B c i j = σ.B c i j) ∧ (∀ c i j, (c = 2151 → j ≠ 7343) → (c = 2153 → j ≠ 7343) → (c = 2156 → j < 29372) → σ'.L c i j = σ.L c i j) ∧ ∀ c i j, σ'.R c i j = σ.R c i j
theorem SgE.refl {σ : Sg} : SgE σ σ := sorry
theorem SgE.trans {σ σ1 σ2 : Sg} (h : SgE σ σ1) (g : SgE σ1 σ2) : SgE σ σ2 := sorry
theorem SgE.i {σ σ' : Sg} (h : SgE σ σ') {c i j : Nat} (hc : c ≠ 2155) : σ'.I c i j = σ.I c i j := sorry
theorem SgE.l {σ σ' : Sg} (h : SgE σ σ') {c i j : Nat} (h1 : c ≠ 2151) (h2 : c ≠ 2153) (h3 : c ≠ 2156) : σ'.L c i j = σ.L c i j := sorry
theorem SgE.in {σ σ' : Sg} (h : SgE σ σ') {s : Nat} {nm : Int64} : mIn σ' s nm = mIn σ s nm := sorry
theorem SgE.lp {σ σ' : Sg} (h : SgE σ σ') {nm : Int64} : ∀ n k, mLp σ' nm n k = mLp σ nm n k := sorry
theorem SgE.fnd {σ σ' : Sg} (h : SgE σ σ') {nm : Int64} : mFnd σ' nm = mFnd σ nm := sorry
theorem SgE.mlk {τ σ σ' : Sg} (h : SgE σ σ') (hM : MLk τ σ) : MLk τ σ' := sorry
theorem u3_cond_n {α : Type} {p : Nat → Nat → Bool} {f g : Nat → Nat → Nat → α} {c i j : Nat} {v : α} (h : p c i = false) : u3 (fun c i j => cond (p c i) (g c i j) (f c i j)) c i j v = fun c' i' j' => cond (p c' i') (g c' i' j') (u3 f c i j v c' i' j') := sorry
theorem mix_sI_n {p : Nat → Nat → Bool} {σ ρ : Sg} {c i j : Nat} {v : Int32} (h : p c i = false) : sI (mix p σ ρ) c i j v = mix p (sI σ c i j v) ρ := sorry
theorem mix_sB_n {p : Nat → Nat → Bool} {σ ρ : Sg} {c i j : Nat} {v : Bool} (h : p c i = false) : sB (mix p σ ρ) c i j v = mix p (sB σ c i j v) ρ := sorry
theorem mix_sL_n {p : Nat → Nat → Bool} {σ ρ : Sg} {c i j : Nat} {v : Int64} (h : p c i = false) : sL (mix p σ ρ) c i j v = mix p (sL σ c i j v) ρ := sorry
section SPMT
variable {l : Launch} {G : Gl} {τ σ : Sg}
theorem FOK.pos {f : Int32} (h : FOK f) (h0 : ¬ f = 0) : ¬ f ≤ 0 := sorry
/-- the model finds and loads a class by its name -/
theorem sp_mload (hG : GOK G) (hM : MLk τ σ) {B d : Nat} (hd : 138 ≤ d) {nm : Int64} (hn : TyC nm) {st : LSt} (hL : LOK st) (hC : LCL τ st) (hE : EVB B st) {f : Option Nat} {lk : List Nat} {ρ : Sg} (hf : MA φ ρ B st f lk) {K : Int32 → Int32 → Sg → Prop} {Q : Outcome → Sg → Prop} (hK : ∀ ρ', MA φ ρ' B (wLn τ nm st).2 f lk → K (oN ((wFind τ 0 nm).map cM)) (wLn τ nm st).1 (mix pA σ ρ')) : CT l G yX11_find (ws_ yX11_find cX11_find 6 (some .int)) d [.ref (G.adr 11 0), .long (tM nm)] (mix pA σ ρ) (oI (fun v_2 σ_1 => ((¬ v_2 = (-2)) → (CT l G yX11_load (ws_ yX11_load cX11_load 4 (some .int)) d [.ref (G.adr 11 0), .int v_2] σ_1 (oI (fun v_4 σ_3 => K v_2 v_4 σ_3) (fun x σ => Q (.threw x) σ)))) ∧ ((v_2 = (-2)) → (K v_2 1 σ_1))) (fun x σ => Q (.threw x) σ)) := sorry
/-- the model's askFit -/
theorem sp_X11_askFit (hG : GOK G) (hM : MLk τ σ) {B d u u' b : Nat} (hd : 139 ≤ d) (hu : MU τ σ u u' b) (hu2 : TyC (τ.L 1703 u 0) ∧ σ.L 2226 0 u' = tM (τ.L 1703 u 0)) {st : LSt} (hL : LOK st) (hC : LCL τ st) (hE : EVB B st) {ρ : Sg} (hf : MA φ ρ B st none []) {x : Int32} (hx : x = nI u') : CT l G yX11_askFit (ws_ yX11_askFit cX11_askFit 5 (some .int)) d [.ref (G.adr 11 0), .int x] (mix pA σ ρ) (aA φ σ B (ftd τ u st).1 (ftd τ u st).2 none []) := sorry
/-- the model's isStale -/
theorem sp_X11_isStale (hG : GOK G) (hM : MLk τ σ) {B d u u' b : Nat} (hd : 5 ≤ d) (hu : MU τ σ u u' b) (hu2 : σ.L 2222 0 u' = τ.L 1201 (6402 + u) 0 ∧ σ.I 2227 0 u' = τ.I 1213 (6402 + u) 0) {st : LSt} {ρ : Sg} (hf : MA φ ρ B st none []) {x : Int32} (hx : x = nI u') : CT l G yX11_isStale (ws_ yX11_isStale cX11_isStale 4 (some .boolean)) d [.ref (G.adr 11 0), .int x] (mix pA σ ρ) (rZ (!decide (cpd τ u = 0)) (fun s => ∃ ρ', s = mix pA σ ρ' ∧ MA φ ρ' B st none [])) := sorry
end SPMT
