/-! LINKHOUSE's MACHINE RUNS EVERY S AS exS SAYS. -/
section SM5
variable {l : Launch} {G : Gl} {d : Nat} {σ : Sg} {P : Pg} {fl : Nat} {Q : Outcome → Sg → Prop} {C : CalF} {S : StaF}
variable {a : Nat} {S0 : Bw} {m k b : Nat} {ic : Bool} {fs rest : List Fr} {Γ : Nat → Int64} {st : Bool} {mt : Int64} {fsl : List Nat} {ff : Env → MSt → Rz Unit} {N : Nat}
theorem sim_S (H : SiC l G d σ P fl C S a S0 m k b fs rest) (X : SsC l G d σ fl Q a S0 m k b ic fs rest Γ st fsl ff N) (x : RT) : (¬ rOp x = 41 → SmS l G d σ fl Q C S a S0 m k b ic fs rest Γ st mt fsl ff N x) ∧ (rOp x = 41 → wtS σ k Γ st (nLo σ m) mt x → ∃ sz lb u yt ye, x = .inner sz lb u yt ye ∧ (¬ rOp yt = 41 ∧ wtS σ k Γ st (nLo σ m) mt yt ∧ SmS l G d σ fl Q C S a S0 m k b ic fs rest Γ st mt fsl ff N yt) ∧ (¬ rOp ye = 41 ∧ wtS σ k Γ st (nLo σ m) mt ye ∧ SmS l G d σ fl Q C S a S0 m k b ic fs rest Γ st mt fsl ff N ye)) := sorry
end SM5
