/-! Members that were judged are well typed. -/
/-- a member's tree as it runs; x its judged tree -/
noncomputable def rtB (τ : Sg) (k m : Nat) (ix : Us → Nat) (x : Tr) : RT := if τ.B 1206 m 0 = true then .leaf else if τ.I 1200 m 0 = 0 then (if τ.B 1212 m 0 = true then .leaf else rtE τ k ix x) else rtS τ k ix x
/-- the use of a bridge, of a maker that does not tell the maker above -/
noncomputable def ruB (τ : Sg) (k m t : Nat) (ix : Us → Nat) (x : Tr) : Nat := if τ.B 1206 m 0 = true then ix (uL τ k (brV τ k m) (τ.L 1100 k 0) t) + 1 else if τ.I 1200 m 0 = 2 ∧ tlS x = false then (match wPar τ 1 k with
  | none => 0
  | some p => if τ.L 1100 p 0 = 6927257 then 0 else ix (k, 2, τ.L 1100 p 0, 0, 0, 0, [], 0) + 1) else 0
/-- a member's columns, its class's, in s as in τ -/
def MsE (τ s : Sg) (k m : Nat) : Prop := (s.I 1200 m 0 = τ.I 1200 m 0 ∧ s.B 1203 m 0 = τ.B 1203 m 0 ∧ s.B 1205 m 0 = τ.B 1205 m 0 ∧ s.B 1206 m 0 = τ.B 1206 m 0 ∧ s.L 1207 m 0 = τ.L 1207 m 0 ∧ s.B 1212 m 0 = τ.B 1212 m 0) ∧ (nPa s m = nPa τ m ∧ ∀ i, s.L 1209 m i = τ.L 1209 m i) ∧ mOf s m = k ∧ s.L 1100 k 0 = τ.L 1100 k 0 ∧ s.L 1107 k 0 = τ.L 1107 k 0 ∧ s.B 1102 k 0 = τ.B 1102 k 0
theorem rSup_tl {τ : Sg} {k : Nat} {ix : Us → Nat} : ∀ (x : Tr) {w a e : Nat}, kdO x = 30 → wt x 2 w a e → rSup (rtS τ k ix x) = tlS x := sorry
/-- an S's end can be come to -/
theorem rDn_ck {τ : Sg} {k : Nat} {ix : Us → Nat} : ∀ (x : Tr) {m w a e : Nat}, wt x m w a e → m = 2 ∨ m = 3 ∨ m = 4 ∨ m = 6 → rDn (rtS τ k ix x) = ckD x ∧ rLf (rtS τ k ix x) = isLf x := sorry
