/-! THE MODEL's MACHINE: a builtin is started. -/
section BIN
variable {l : Launch} {G : Gl} {d : Nat} {τ σ s : Sg} {P : Pg} {a ct tt ft k : Nat} {M : MSt} {st : Int32}
theorem nW_26 (hW : WOK τ 0) (hN : WNO τ) (hB : BIK τ) (hk : k ∈ wKs τ 0) (h26 : τ.I 1101 k 0 = 26) : nW τ k < 2 := sorry
/-- its state is 4 -/
theorem sp_stB (hG : GOK G) (hd : 1 ≤ d) (hW : WQ τ σ P) (hk : k ∈ wKs τ 0) (h26 : τ.I 1101 k 0 = 26) (h : MQst τ σ M a st ct tt ft s) : CT l G yX11_stateOf (ws_ yX11_stateOf cX11_stateOf 2 (some .int)) d [.ref (G.adr 11 0), .int (nI (cM k))] s (rI 4 (fun t => t = s)) := sorry
/-- starting it does nothing -/
theorem sp_st26 (hG : GOK G) (hd : 2 ≤ d) (hW : WQ τ σ P) (hk : k ∈ wKs τ 0) (h26 : τ.I 1101 k 0 = 26) (h : MQst τ σ M a 0 ct tt ft s) : CT l G yX11_start (ws_ yX11_start cX11_start 4 none) d [.ref (G.adr 11 0), .int (nI (cM k))] s (oQv τ σ (rzk M ()) a ct tt ft s) := sorry
end BIN
