/-! A constant's E is one of constants. -/
theorem wFsF_sy {σ : Sg} {w k : Nat} : ∀ n j, wFsF (stP sy σ) w k n j = wFsF σ w k n j := sorry
theorem wFs_sy {σ : Sg} {w k : Nat} : wFs (stP sy σ) w k = wFs σ w k := sorry
theorem fds_sy {σ : Sg} {w : Nat} {nm ty : Int64} : ∀ n, fds (stP sy σ) w nm ty n = fds σ w nm ty n := sorry
theorem wFld_sy {σ s : Sg} {w k : Nat} {nm ty : Int64} (h : stP sy s = stP sy σ) : wFld s w k nm ty = wFld σ w k nm ty := sorry
theorem wFind_sy {σ s : Sg} {w : Nat} {nm : Int64} (h : stP sy s = stP sy σ) : wFind s w nm = wFind σ w nm := sorry
theorem pK2_sy {τ τ' : Sg} (h : Fl pK2 τ τ') : stP sy τ' = stP sy τ := sorry
/-- constants of s are constants of t -/
def Mo (s t : Sg) : Prop := ∀ q, s.B 1212 q 0 = true → t.B 1212 q 0 = true
theorem Mo.trans {a b c : Sg} (h : Mo a b) (k : Mo b c) : Mo a c := sorry
theorem csS_mo {τ : Sg} {m : Nat} {o : Option Int32} : Mo τ (csS τ m o) := sorry
theorem csF_mo {k : Nat} {tx : Nat → Tr} : ∀ (n j : Nat) (τ : Sg), Mo τ (csF k tx n j τ) := sorry
theorem csA_mo {b : Nat} {tr : Nat → Nat → Tr} : ∀ (n i : Nat) (τ : Sg), Mo τ (csA b tr n i τ) := sorry
theorem csF_o {k : Nat} {tx : Nat → Tr} : ∀ (n j : Nat) (τ : Sg) (m : Nat), (csF k tx n j τ).B 1212 m 0 = true → τ.B 1212 m 0 = true ∨ ∃ τ' v j', Fl pK2 τ τ' ∧ Mo τ' (csF k tx n j τ) ∧ j' < j + n ∧ m = 33 * k + j' ∧ jCs τ' k (tx j') = some v := sorry
theorem csA_o {b : Nat} {tr : Nat → Nat → Tr} : ∀ (n i : Nat) (τ : Sg) (m : Nat), (csA b tr n i τ).B 1212 m 0 = true → τ.B 1212 m 0 = true ∨ ∃ τ' v i' j', Fl pK2 τ τ' ∧ Mo τ' (csA b tr n i τ) ∧ i ≤ i' ∧ i' < i + n ∧ j' < nMe τ (12 * b + i') ∧ m = 33 * (12 * b + i') + j' ∧ jCs τ' (12 * b + i') (tr i' j') = some v := sorry
theorem ckF_cs {σ : Sg} {k : Nat} {xo : Option Nat} {nm : Int64} {t f : Nat} (h : ckF σ k xo nm t = .ok f) : ∃ x, xo = some x ∧ wFld σ 1 x nm 2 = some f := sorry
theorem jKn_cs {σ : Sg} {k c : Nat} {nm : Int64} {v : Int32} (h : jKn σ k c nm = some v) : ∃ f, wFld σ 1 c nm 2 = some f ∧ σ.B 1212 f 0 = true := sorry
/-- the judged tree of a constant -/
theorem csT_of {τ' τ : Sg} {k : Nat} {st : Bool} (hs : stP sy τ = stP sy τ') (hm : Mo τ' τ) : ∀ (x x' : Tr) {v : Int32}, jCs τ' k x = some v → ckE τ k st [] x = .ok x' → csT τ x' := sorry
section RQ
variable {μ τ0 τ1 τ2 u : Sg} {B : Nat → Nat} {n L r b : Nat} {cs : List CRc}
/-- a constant field of the build -/
theorem Ph2.cst (h : Ph2 τ0 τ1 τ2 B n L r b cs) {i j : Nat} (hi : i < cs.length) (hj : j < nMe τ2 (12 * b + i)) (hc : (t3 τ2 b cs).B 1212 (33 * (12 * b + i) + j) 0 = true) {st : Bool} {x' : Tr} (hk : ckE (t3 τ2 b cs) (12 * b + i) st [] (trB cs i j) = .ok x') : csT (t3 τ2 b cs) x' := sorry
end RQ
