/-! The model: ask, clearSet, foretell -/
variable {φ : Sg}
theorem sB_s {σ : Sg} {c i j : Nat} {v : Bool} : (sB σ c i j v).B c i j = v := sorry
theorem MLk.link {τ σ : Sg} (h : MLk τ σ) (v : Bool) : MLk τ (sB σ 2192 0 0 v) := sorry
theorem MUx.link {τ σ : Sg} {u u' b w : Nat} (h : MUx τ σ u u' b w) (v : Bool) : MUx τ (sB σ 2192 0 0 v) u u' b w := sorry
section SPMT
variable {l : Launch} {G : Gl} {τ σ : Sg}
/-- the model's ask: what a use meets -/
theorem sp_X11_ask (hG : GOK G) (hM : MLk τ σ) (hFB : MFB τ) {B d u u' b v : Nat} (hd : 143 ≤ d) (hu : MUx τ σ u u' b v) (hb : b ∈ wKs τ 0) {st : LSt} (hL : LOK st) (hC : LCL τ st) (hE : EVB B st) (hf : LSM φ σ B st) (hs : SIv σ) {x : Int32} (hx : x = nI u') : CT l G yX11_ask (ws_ yX11_ask cX11_ask 6 (some .int)) d [.ref (G.adr 11 0), .int x, .int (bI false)] σ (aB φ σ B (rsR τ u b st).1 (rsR τ u b st).2.1 (mtN τ u (rsR τ u b st)) (rsR τ u b st).2.2.2.2) := sorry
theorem sp_X11_clearSet (hG : GOK G) {d B : Nat} (hd : 1 ≤ d) (hB : B = 0 ∨ B = 64) {x : Int32} (hx : x = nI B) : CT l G yX11_clearSet (ws_ yX11_clearSet cX11_clearSet 3 none) d [.ref (G.adr 11 0), .int x] σ (rV (fun s => ∃ ρ, s = mix pB σ ρ ∧ (∀ n, n < 64 → ρ.I 2232 0 (B + n) = (if n < 2 then 4 else 0) ∧ ρ.I 2233 0 (B + n) = 0) ∧ (∀ j, (j < B ∨ B + 64 ≤ j) → ρ.I 2232 0 j = σ.I 2232 0 j ∧ ρ.I 2233 0 j = σ.I 2233 0 j) ∧ ∀ c j, 2233 < c → ρ.I c 0 j = σ.I c 0 j)) := sorry
/-- the model's foretell -/
theorem sp_X11_foretell (hG : GOK G) (hM : MLk τ σ) (hFB : MFB τ) {d u u' b v : Nat} (hd : 144 ≤ d) (hu : MUx τ σ u u' b v) (hb : b ∈ wKs τ 0) (hs : SIv σ) {x : Int32} (hx : x = nI u') : CT l G yX11_foretell (ws_ yX11_foretell cX11_foretell 4 (some .int)) d [.ref (G.adr 11 0), .int x] σ (rI (rsR τ u b LS0).1 (fun s => ∃ σ' ρ', s = mix pA σ' ρ' ∧ SgE σ σ' ∧ σ'.B 2192 0 0 = σ.B 2192 0 0 ∧ SIv ρ' ∧ ρ'.I 2240 0 0 = oN ((mtN τ u (rsR τ u b LS0)).map mM) ∧ ρ'.I 2242 0 0 = nI (rsR τ u b LS0).2.2.2.2.length ∧ CRow ρ' 2241 (rsR τ u b LS0).2.2.2.2 ∧ (∀ j, j < 64 → ρ'.I 2232 0 j = σ.I 2232 0 j ∧ ρ'.I 2233 0 j = σ.I 2233 0 j) ∧ ρ'.I 2234 0 0 = σ.I 2234 0 0 ∧ (∀ j, ρ'.I 2235 0 j = σ.I 2235 0 j) ∧ ρ'.I 2236 0 0 = σ.I 2236 0 0)) := sorry
end SPMT
