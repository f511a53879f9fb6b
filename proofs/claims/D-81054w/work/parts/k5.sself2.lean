/-! THE MODEL's MACHINE: X11_startSelf. -/
section SSG
variable {l : Launch} {G : Gl} {d D : Nat} {τ σ s : Sg} {P : Pg} {C : CalF} {S : StaF} {a ct tt ft k b n0 : Nat} {M : MSt}
theorem sp_startSelf (hG : GOK G) (hD : D + 37 ≤ d) (KS : ∀ nL, nL ≤ 260 → SkN l G D τ σ P C S a ct nL tt ft k b n0) (hX : StX τ σ P k b n0) (hk : KHw τ M k) (hI : MInv τ M) (h : MQst τ σ M a 0 ct tt ft s) : CT l G yX11_startSelf (ws_ yX11_startSelf cX11_startSelf 6 none) d [.ref (G.adr 11 0), .int (nI (cM k))] s (rV (fun t => SsR τ σ (stMs τ P C S k (nMe τ k) 0 (stCs τ k (nMe τ k) 0 M)) a ct tt ft t ∧ Kp ct tt ft s t)) := sorry
end SSG
