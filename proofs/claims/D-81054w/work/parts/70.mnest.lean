/-! The model: nest, nestsAreOne, isLetMember while linking -/
variable {φ : Sg}
def EVB (B : Nat) (st : LSt) : Prop := B = 0 → st.2.length + (zs st).length ≤ 268
theorem wLd_ev {σ : Sg} (hW : WOK σ 0) (hN : WNO σ) {k B : Nat} {st : LSt} (hk : k ∈ wKs σ 0) (hL : LOK st) (hC : LCL σ st) (h : EVB B st) : EVB B (wLd σ k st).2 := sorry
theorem wNsL_ev {σ : Sg} (hW : WOK σ 0) (hN : WNO σ) {k B : Nat} {st : LSt} (hL : LOK st) (hC : LCL σ st) (h : EVB B st) : EVB B (wNsL σ k st).2 := sorry
theorem lLts_ev {σ : Sg} (hW : WOK σ 0) (hN : WNO σ) {a c m x B : Nat} {st : LSt} (hL : LOK st) (hC : LCL σ st) (h : EVB B st) : EVB B (lLts σ a c m x st).2 := sorry
theorem MLd_mix {p : Nat → Nat → Bool} {τ σ ρ : Sg} (h : ∀ c i, scM c = true → p c i = false) (h31 : p 2231 0 = false) (hM : MLd τ σ) : MLd τ (mix p σ ρ) := sorry
theorem pB_s (c i : Nat) (h : scM c = true) : pB c i = false := sorry
def pNB (c i : Nat) : Bool := pN c i || pB c i
theorem pNB_s (c i : Nat) (h : scM c = true) : pNB c i = false := sorry
theorem sub_NNB (c i : Nat) (h : pN c i = true) : pNB c i = true := sorry
theorem sub_BNB (c i : Nat) (h : pB c i = true) : pNB c i = true := sorry
section SPMR
variable {l : Launch} {G : Gl} {τ σ : Sg}
theorem sr_X11_load (hG : GOK G) (hM : MLd τ σ) {B d k : Nat} (hd : 137 ≤ d) (hk : k ∈ wKs τ 0) {st : LSt} (hL : LOK st) (hC : LCL τ st) (hE : EVB B st) (hf : LSM φ σ B st) {x : Int32} (hx : x = nI (cM k)) : CT l G yX11_load (ws_ yX11_load cX11_load 4 (some .int)) d [.ref (G.adr 11 0), .int x] σ (rI (wLd τ k st).1 (fun s => ∃ ρ', s = mix pB σ ρ' ∧ LSM φ ρ' B (wLd τ k st).2)) := sorry
/-- the model's nest, while linking -/
theorem sp_X11_nest (hG : GOK G) (hM : MLd τ σ) {B d k : Nat} (hd : 138 ≤ d) (hk : k ∈ wKs τ 0) (hl : σ.B 2192 0 0 = true) {st : LSt} (hL : LOK st) (hC : LCL τ st) (hE : EVB B st) (hf : LSM φ σ B st) {x : Int32} (hx : x = nI (cM k)) : CT l G yX11_nest (ws_ yX11_nest cX11_nest 3 (some .int)) d [.ref (G.adr 11 0), .int x] σ (rI (nI (cM (wNsL τ k st).1)) (fun s => ∃ ρ', s = mix pB σ ρ' ∧ LSM φ ρ' B (wNsL τ k st).2)) := sorry
theorem wNsL_w {τ : Sg} {k : Nat} {st : LSt} (hk : k ∈ wKs τ 0) : (wNsL τ k st).1 ∈ wKs τ 0 := sorry
theorem LSM.mixB {ρ τ : Sg} {B : Nat} {st : LSt} (h : LSM φ τ B st) : LSM φ (mix pB ρ τ) B st := sorry
theorem sp_X11_nestsAreOne (hG : GOK G) (hM : MLd τ σ) {B d a c : Nat} (hd : 139 ≤ d) (ha : a ∈ wKs τ 0) (hc : c ∈ wKs τ 0) (hl : σ.B 2192 0 0 = true) {st : LSt} (hL : LOK st) (hC : LCL τ st) (hE : EVB B st) (hf : LSM φ σ B st) {x y : Int32} (hx : x = nI (cM a)) (hy : y = nI (cM c)) : CT l G yX11_nestsAreOne (ws_ yX11_nestsAreOne cX11_nestsAreOne 4 (some .boolean)) d [.ref (G.adr 11 0), .int x, .int y] σ (rZ (decide ((wNsL τ a st).1 = (wNsL τ c (wNsL τ a st).2).1)) (fun s => ∃ ρ', s = mix pB σ ρ' ∧ LSM φ ρ' B (wNsL τ c (wNsL τ a st).2).2)) := sorry
theorem LSM.mixN {ρ τ : Sg} {B : Nat} {st : LSt} (h : LSM φ ρ B st) : LSM φ (mix pN ρ τ) B st := sorry
theorem SIv.mixN {ρ τ : Sg} (h : SIv τ) : SIv (mix pN ρ τ) := sorry
theorem SIv.mixB {ρ τ : Sg} (h : SIv ρ) : SIv (mix pB ρ τ) := sorry
/-- the model's isLetMember, while linking -/
theorem sp_X11_isLetMember (hG : GOK G) (hM : MLd τ σ) {B d a c m m' n : Nat} (hd : 140 ≤ d) (ha : a ∈ wKs τ 0) (hc : c ∈ wKs τ 0) (hn : n ∈ wKs τ 0) (hm : MM τ σ m m') (hmc : m' / 34 = cM c) (hac : ∃ v, v ≤ 3 ∧ τ.I 1202 m 0 = nI v) (hmk : τ.I 1200 m 0 = 2 → τ.B 1203 m 0 = false) (hl : σ.B 2192 0 0 = true) (hs : SIv σ) {st : LSt} (hL : LOK st) (hC : LCL τ st) (hE : EVB B st) (hf : LSM φ σ B st) {x y z : Int32} (hx : x = nI m') (hy : y = nI (cM n)) (hz : z = nI (cM a)) : CT l G yX11_isLetMember (ws_ yX11_isLetMember cX11_isLetMember 6 (some .boolean)) d [.ref (G.adr 11 0), .int x, .int y, .int z] σ (rZ (lLts τ a c m n st).1 (fun s => ∃ ρ', s = mix pNB σ ρ' ∧ SIv ρ' ∧ LSM φ ρ' B (lLts τ a c m n st).2)) := sorry
end SPMR
