/-! PURE: LinkHouse's way upwards and the model's row give the same bridges. -/
theorem jPl_up2 {τ : Sg} {w k : Nat} : ∀ (n : Nat) (Q : List Nat) (o : Option Nat), Q.length ≤ 62 → jUps τ w 62 (wPar τ w k) = Q ++ jUps τ w (62 - Q.length) o → (jPl τ w n (k :: Q) o).length ≤ 63 → ∃ R L, jPl τ w n (k :: Q) o = k :: R ∧ jUps τ w 62 (wPar τ w k) = R ++ L := sorry
/-- the model's row, and LinkHouse's way: the row, then classes that came already -/
theorem jPs_pre {τ : Sg} {k : Nat} (hW : WOK τ 1) (hn : ¬ wHr τ 1 k k) : ∃ R L, jPs τ 1 k = k :: R ∧ jUps τ 1 62 (wPar τ 1 k) = R ++ L ∧ ∀ x, x ∈ L → x ∈ R := sorry
theorem brO_sub {τ : Sg} {k m o : Nat} {Bs Bs' : BrL} (h : brO τ k m Bs o = .ok Bs') : (∀ p, p ∈ Bs → p ∈ Bs') ∧ brW τ m Bs' o = false := sorry
theorem brW_mono {τ : Sg} {m o : Nat} {Bs Bs' : BrL} (h : ∀ p, p ∈ Bs → p ∈ Bs') (hw : brW τ m Bs o = false) : brW τ m Bs' o = false := sorry
theorem brF_sub {τ : Sg} {k m : Nat} : ∀ (xs : List Nat) (Bs Bs' : BrL), brF τ k m xs Bs = .ok Bs' → (∀ p, p ∈ Bs → p ∈ Bs') ∧ ∀ o, o ∈ xs → brW τ m Bs' o = false := sorry
theorem brF_no {τ : Sg} {k m : Nat} : ∀ (xs : List Nat) (Bs : BrL), (∀ o, o ∈ xs → brW τ m Bs o = false) → brF τ k m xs Bs = .ok Bs := sorry
/-- what came already adds nothing -/
theorem brF_abs {τ : Sg} {k m : Nat} {xs ys : List Nat} {Bs : BrL} (h : ∀ o, o ∈ ys → o ∈ xs) : brF τ k m (xs ++ ys) Bs = brF τ k m xs Bs := sorry
theorem brM_e {τ : Sg} {k m : Nat} {Bs : BrL} (hW : WOK τ 1) (hn : ¬ wHr τ 1 k k) : brM τ k m Bs = brMm τ k m Bs := sorry
theorem brA_e {τ : Sg} {k : Nat} (hW : WOK τ 1) (hn : ¬ wHr τ 1 k k) : ∀ (n j : Nat) (Bs : BrL), brA τ k n j Bs = brAm τ k n j Bs := sorry
