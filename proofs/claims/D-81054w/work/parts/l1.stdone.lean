/-! THE MODEL's MACHINE: a class that was started, or is, is started again; no level is left. -/
section STD
variable {l : Launch} {G : Gl} {d : Nat} {τ σ s : Sg} {P : Pg} {a ct tt ft k : Nat} {M : MSt}
theorem st_lk (hI : MInv τ M) (hk : k ∈ wKs τ 0) (nb : ¬ τ.I 1101 k 0 = 26) (h0 : ¬ M.sr (nW τ k) = 0) : M.ls.1 (nW τ k) = 1 ∧ M.lk (nW τ k) = 1 := sorry
/-- it was started, or is -/
theorem sp_stdn (hG : GOK G) (hd : 2 ≤ d) (hW : WQ τ σ P) (hI : MInv τ M) (hk : k ∈ wKs τ 0) (nb : ¬ τ.I 1101 k 0 = 26) (h0 : ¬ M.sr (nW τ k) = 0) (h : MQst τ σ M a 0 ct tt ft s) : CT l G yX11_start (ws_ yX11_start cX11_start 4 none) d [.ref (G.adr 11 0), .int (nI (cM k))] s (oQv τ σ (if M.sr (nW τ k) = 3 then rzf M 9 else rzk M ()) a ct tt ft s) := sorry
/-- a class that was not started has none of the states 3, 4, 7 -/
theorem stE_0 (hI : MInv τ M) (h0 : M.sr (nW τ k) = 0) : ¬ stE (M.ls.1 (nW τ k)) (M.lk (nW τ k)) (M.sr (nW τ k)) = 4 ∧ ¬ stE (M.ls.1 (nW τ k)) (M.lk (nW τ k)) (M.sr (nW τ k)) = 3 ∧ ¬ stE (M.ls.1 (nW τ k)) (M.lk (nW τ k)) (M.sr (nW τ k)) = 7 := sorry
/-- no level is left -/
theorem sp_st24 (hG : GOK G) (hd : 2 ≤ d) (hW : WQ τ σ P) (hI : MInv τ M) (hk : k ∈ wKs τ 0) (nb : ¬ τ.I 1101 k 0 = 26) (h0 : M.sr (nW τ k) = 0) (h : MQst τ σ M 24 0 ct tt ft s) : CT l G yX11_start (ws_ yX11_start cX11_start 4 none) d [.ref (G.adr 11 0), .int (nI (cM k))] s (oQv τ σ (rzf M 15) 24 ct tt ft s) := sorry
/-- starts of the last level -/
theorem st_0 (hG : GOK G) (hd : 2 ≤ d) (hW : WQ τ σ P) : StM l G d τ σ (fun k s => if τ.I 1101 k 0 = 26 then rzk s () else if s.sr (nW τ k) = 0 then rzf s 15 else if s.sr (nW τ k) = 3 then rzf s 9 else rzk s ()) 24 := sorry
end STD
