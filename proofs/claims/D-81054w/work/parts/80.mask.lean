/-! The model: askClass, ask -/
variable {φ : Sg}
section SPMT
variable {l : Launch} {G : Gl} {τ σ : Sg}
theorem ab_self {B : Nat} {r : Int32} {st : LSt} {f : Option Nat} {lk : List Nat} {ρ : Sg} (h : MA φ ρ B st f lk) : aB φ σ B r st f lk (.returned (some (.int r))) (mix pA σ ρ) := sorry
/-- the model's askClass, once the class is loaded: by sorts up to 15 -/
theorem sp_askC (hG : GOK G) (hM : MLk τ σ) (hFB : MFB τ) {B d u u' b c v : Nat} (hd : 141 ≤ d) (hu : MUx τ σ u u' b v) (hv2 : v ≤ 15 ∨ 18 ≤ v) (hl : σ.B 2192 0 0 = true) {st : LSt} (hL : LOK st) (hC : LCL τ st) (hE : EVB B st) (hc : Ldd τ st c) (hb : Ldd τ st b) {ρ : Sg} (hf : MA φ ρ B st none []) {r : MT} (hr : r = if v ≤ 15 then (if τ.I 1700 u 0 = 15 ∧ wIll τ c = false then (11, st, none, none, []) else if kOpn τ c b = true then rs3 τ u b c st else (2, st, none, none, [])) else (0, st, none, none, [])) (ho : 18 ≤ v → kOpn τ c b = true) : wq_X11_askClass_36 l G d 0 (nI u') false (aB φ σ B r.1 r.2.1 (mtN τ u r) r.2.2.2.2) (nI (cM b)) (nI (cM c)) 0 (mix pA σ ρ) := sorry
/-- what the model asks of a class comes to -/
noncomputable def asR (τ : Sg) (u b v : Nat) (st : LSt) : MT := if v ≤ 15 then rs2 τ u b (wLn τ (τ.L 1702 u 0) st) else (0, st, none, none, [])
theorem sp_X11_askClass (hG : GOK G) (hM : MLk τ σ) (hFB : MFB τ) {B d u u' b v : Nat} (hd : 142 ≤ d) (hu : MUx τ σ u u' b v) (hv2 : v ≤ 15 ∨ 18 ≤ v) (hl : σ.B 2192 0 0 = true) {st : LSt} (hL : LOK st) (hC : LCL τ st) (hE : EVB B st) (hb : Ldd τ st b) {ρ : Sg} (hf : MA φ ρ B st none []) {x : Int32} (hx : x = nI u') : CT l G yX11_askClass (ws_ yX11_askClass cX11_askClass 8 (some .int)) d [.ref (G.adr 11 0), .int x, .int (bI false)] (mix pA σ ρ) (aB φ σ B (asR τ u b v st).1 (asR τ u b v st).2.1 (mtN τ u (asR τ u b v st)) (asR τ u b v st).2.2.2.2) := sorry
end SPMT
