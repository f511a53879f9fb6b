/-! LINKHOUSE's MACHINE runs every S as exS says: tries. -/
section SM3
variable {l : Launch} {G : Gl} {d : Nat} {σ : Sg} {P : Pg} {fl : Nat} {Q : Outcome → Sg → Prop} {C : CalF} {S : StaF}
variable {a : Nat} {S0 : Bw} {m k b : Nat} {ic : Bool} {fs rest : List Fr} {Γ : Nat → Int64} {st : Bool} {mt : Int64} {fsl : List Nat} {ff : Env → MSt → Rz Unit} {N : Nat}
theorem sim_36 (H : SiC l G d σ P fl C S a S0 m k b fs rest) (X : SsC l G d σ fl Q a S0 m k b ic fs rest Γ st fsl ff N) {sz : Nat} {lb : RLb} {u : Unit} {x y : RT} (q : lb.op = 36) (ix : SmS l G d σ fl Q C S a S0 m k b ic fs rest Γ st mt fsl ff N x) (iy : SmS l G d σ fl Q C S a S0 m k b ic fs rest Γ st mt fsl ff N y) : SmS l G d σ fl Q C S a S0 m k b ic fs rest Γ st mt fsl ff N (.inner sz lb u x y) := sorry
end SM3
