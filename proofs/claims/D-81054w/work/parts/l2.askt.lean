/-! THE MODEL's MACHINE: a use is asked when its class is linked. -/
variable {φ : Sg}
section ASKT
variable {l : Launch} {G : Gl} {τ σ : Sg}
/-- what can be caught: askClass, without the look at what is let -/
theorem sp_askC15 (hG : GOK G) (hM : MLk τ σ) {B d u u' b : Nat} (hd : 142 ≤ d) (hu : MUx τ σ u u' b 15) {st : LSt} (hL : LOK st) (hC : LCL τ st) (hE : EVB B st) {ρ : Sg} (hf : MA φ ρ B st none []) : CT l G yX11_askClass (ws_ yX11_askClass cX11_askClass 8 (some .int)) d [.ref (G.adr 11 0), .int (nI u'), .int (bI true)] (mix pA σ ρ) (aB φ σ B (cbc τ u st).1 (cbc τ u st).2 none []) := sorry
/-- a fit, or what can be caught -/
noncomputable def lkV (τ : Sg) (u : Nat) (st : LSt) : Int32 × LSt := if τ.I 1700 u 0 = 17 then ftd τ u st else cbc τ u st
theorem sp_askT (hG : GOK G) (hM : MLk τ σ) {B d u u' b v : Nat} (hd : 143 ≤ d) (hu : MUx τ σ u u' b v) (hv : v = 15 ∨ v = 17) {st : LSt} (hL : LOK st) (hC : LCL τ st) (hE : EVB B st) (hb : Ldd τ st b) (hf : LSM φ σ B st) (hs : SIv σ) : CT l G yX11_ask (ws_ yX11_ask cX11_ask 6 (some .int)) d [.ref (G.adr 11 0), .int (nI u'), .int (bI true)] σ (aB φ σ B (lkV τ u st).1 (lkV τ u st).2 none []) := sorry
end ASKT
section ASKL
variable {l : Launch} {G : Gl} {d : Nat} {τ σ s t : Sg} {P : Pg} {M : MSt} {a ct tt ft k u : Nat} {st : Int32}
/-- .. while it runs -/
theorem sp_askL (hG : GOK G) (hd : 143 ≤ d) (hW : WQ τ σ P) (hI : MInv τ M) (nb : ¬ τ.I 1101 k 0 = 26) (hu : u < nUk τ k) (hv : τ.I 1700 (uAt τ k u) 0 = 15 ∨ τ.I 1700 (uAt τ k u) 0 = 17) (hl : Ldd τ M.ls k) (h : MQst τ σ M a st ct tt ft s) : CT l G yX11_ask (ws_ yX11_ask cX11_ask 6 (some .int)) d [.ref (G.adr 11 0), .int (nI (muA τ k u)), .int (bI true)] s (rI (lkV τ (uAt τ k u) M.ls).1 (fun t => MQst τ σ (M.wLs (lkV τ (uAt τ k u) M.ls).2) a st ct tt ft t ∧ KpA s t)) := sorry
end ASKL
