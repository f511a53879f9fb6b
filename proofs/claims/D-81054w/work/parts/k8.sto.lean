/-! THE MODEL's MACHINE: the state of a class (while it runs). -/
section STO
variable {l : Launch} {G : Gl} {d : Nat} {τ σ s : Sg} {P : Pg} {a ct tt ft k : Nat} {M : MSt} {st : Int32}
theorem sp_stO (hG : GOK G) (hd : 1 ≤ d) (hW : WQ τ σ P) (hk : k ∈ wKs τ 0) (nb : ¬ τ.I 1101 k 0 = 26) (h : MQst τ σ M a st ct tt ft s) : CT l G yX11_stateOf (ws_ yX11_stateOf cX11_stateOf 2 (some .int)) d [.ref (G.adr 11 0), .int (nI (cM k))] s (rI (stE (M.ls.1 (nW τ k)) (M.lk (nW τ k)) (M.sr (nW τ k))) (fun t => t = s)) := sorry
end STO
