/-! Judged S's in the model's tables are trees that run. -/
section RX
variable {τ σ : Sg} {b k n0 n L : Nat} {UF : List Us} {B : Nat → Nat} {ms : Int32} {mt : Int64}
theorem pmL_0 {m : Nat} (h : nPa τ m = 0) : pmL τ m = [] := sorry
theorem tyL_0 {x : Tr} (h : tyL x = []) : x = .leaf := sorry
theorem RMs_of (hU : UsH τ) (hA : wFind τ 1 6927257 = some 192) (hI : ∀ r : Us, r.1 = k → n0 ≤ uIx UF r) (hb : b < 16) (x : Tr) : (∀ m w a e lo hi v, m = 2 ∨ m = 3 ∨ m = 6 → wt x m w a e → gdS τ k ms mt x → nmT (yTok B n) L x → MTs τ σ (yTok B n) b k UF x lo hi v → RMs σ b n0 (rtS τ k (fun r => uIx UF r - n0) x) v) ∧ ∀ w a e lo hi v, wt x 4 w a e → gdS τ k ms mt x → nmT (yTok B n) L x → MTs τ σ (yTok B n) b k UF x lo hi v → RMs σ b n0 (rtS τ k (fun r => uIx UF r - n0) x) v := sorry
end RX
