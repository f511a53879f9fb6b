/-! Judged trees in the model's tables are trees that run. -/
theorem muN_e {b n0 i : Nat} (h : n0 ≤ i) : muN b n0 (i - n0) = nI (1800 * b + i) := sorry
theorem gtU_k2 {τ : Sg} {k : Nat} {b : Lb} : (gtU τ k b).1 = k := sorry
theorem nmT_sm {T : Nat → Tk} {L : Nat} : ∀ (x x' : Tr), smT x x' → nmT T L x → nmT T L x' := sorry
section RX
variable {τ σ : Sg} {b k n0 n L : Nat} {UF : List Us} {B : Nat → Nat}
/-- a class's name in the model -/
theorem clTM2 {bb : Lb} {X : Nat} (hN : NdT σ (yTok B n) bb X) (hn : NmOK (yTok B n) L bb) (hk : bb.1 = 10 ∨ bb.1 = 11 ∨ bb.1 = 19 ∨ bb.1 = 36) : σ.L 2175 0 X = tM (lN bb.2.2.2.2.2.1) := sorry
theorem RMx_of (hc : CsS τ) (hI : ∀ r : Us, r.1 = k → n0 ≤ uIx UF r) : ∀ (x : Tr) (m w a e lo hi : Nat) (v : Int32), m = 0 ∨ m = 1 ∨ m = 5 → wt x m w a e → gdE τ x → nmT (yTok B n) L x → MTg σ b (NdU τ σ (yTok B n) b k UF) x lo hi v → RMx σ b n0 (rtE τ k (fun r => uIx UF r - n0) x) v := sorry
end RX
