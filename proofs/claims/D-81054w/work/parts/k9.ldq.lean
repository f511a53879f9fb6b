/-! THE MODEL's MACHINE: a class is loaded (while it runs). -/
section LDQ
variable {l : Launch} {G : Gl} {d : Nat} {τ σ s : Sg} {P : Pg} {a ct tt ft k : Nat} {M : MSt} {st : Int32}
theorem pB_no {c i : Nat} (h : c ≤ 2231 ∨ 2236 < c) : pB c i = false := sorry
theorem sp_ldQ (hG : GOK G) (hd : 137 ≤ d) (hW : WQ τ σ P) (hI : MInv τ M) (hk : k ∈ wKs τ 0) (h : MQst τ σ M a st ct tt ft s) : CT l G yX11_load (ws_ yX11_load cX11_load 4 (some .int)) d [.ref (G.adr 11 0), .int (nI (cM k))] s (rI (wLd τ k M.ls).1 (fun t => MQst τ σ (M.wLs (wLd τ k M.ls).2) a st ct tt ft t ∧ KpA s t)) := sorry
end LDQ
