/-! THE MODEL's MACHINE: calls of a level are as those of the level below say. -/
section CUQ
variable {l : Launch} {G : Gl} {d D : Nat} {τ σ : Sg} {P : Pg} {C : CalF} {S : StaF} {a : Nat}
theorem iv_up (hG : GOK G) (hD : 160 ≤ D) (hW : WQ τ σ P) (hFd : FdQ τ) (hMb : MbQ τ σ P) (hC : CaK τ C) (hS : StK τ S) (ha : a < 24) (hSt : ∀ d, D - 8 ≤ d → StM l G d τ σ S (a + 1)) (hCs : ∀ d, D - 8 ≤ d → CalM l G d τ σ C (a + 1)) (hd : D + 43 ≤ d) : CalM l G d τ σ (calU τ P C S) a := sorry
/-- no level is left -/
theorem iv_0 (hG : GOK G) (hW : WQ τ σ P) (hd : 4 ≤ d) : CalM l G d τ σ (fun _ _ s => if s.sp = 20000 then rzf s 14 else rzf s 15) 24 := sorry
end CUQ
