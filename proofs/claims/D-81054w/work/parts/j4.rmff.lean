/-! THE MODEL's MACHINE: fields are laid by a maker. -/
/-- E's of the fields of objects hang where they must -/
def FdX (τ σ : Sg) (P : Pg) (nL k b n0 : Nat) : Prop := ∀ j, j < nMe τ k → τ.I 1200 (33 * k + j) 0 = 0 → τ.B 1203 (33 * k + j) 0 = false → RMx σ b n0 (P.1 (33 * k + j)) (σ.I 2160 0 (34 * cM k + j)) ∧ scX nL [] (P.1 (33 * k + j))
section RMF
variable {l : Launch} {G : Gl} {d D : Nat} {τ σ s t g : Sg} {P : Pg} {C : CalF} {S : StaF} {a fr nL tt ft k b n0 : Nat} {M : MSt} {self : Int32} {x1 x5 : Int32} {Q : Outcome → Sg → Prop}
theorem cM_216 (hM : WMa τ P) (hk : k ∈ wKs τ 0) : cM k < 206 := sorry
/-- stopped -/
theorem rm_st (hM : WMa τ P) (hk : k ∈ wKs τ 0) {ct m : Nat} {st' x6 : Int32} (h : MQst τ σ M a st' ct tt ft s) (hn : ¬ st' = 0) (H : ∃ fu, wq_X11_runMaker_223 l G d 0 x1 self (nI fr) Q fu (nI (cM k)) x5 s) : wq_X11_runMaker_118 l G d 0 x1 self (nI fr) Q (m + 1) (nI (cM k)) x5 x6 s := sorry
theorem rm_ff (K : SkN l G D τ σ P C S a fr nL tt ft k b n0) (hd : D + 2 ≤ d) (hF : FdX τ σ P nL k b n0) (h0 : ¬ self = 0) : ∀ (n j : Nat) (M : MSt) (s : Sg), j + n = nMe τ k → KHw τ M k → vOk τ M (τ.L 1100 k 0) self → MInv τ M → MQst τ σ M a 0 (fr + nL) tt ft s → Kp (fr + nL) tt ft g s → (∀ t, RQm τ σ (ffF τ P C S k self n j M) a (fr + nL) tt ft t → Kp (fr + nL) tt ft g t → ∃ fu, wq_X11_runMaker_223 l G d 0 x1 self (nI fr) Q fu (nI (cM k)) x5 t) → wq_X11_runMaker_118 l G d 0 x1 self (nI fr) Q (n + 1) (nI (cM k)) x5 (nI j) s := sorry
end RMF
