/-! The code of a judged tree is that of the tree that runs. -/
/-- constants are static -/
def CsS (τ : Sg) : Prop := ∀ m, LivU τ (wKs τ 1) m → τ.B 1212 m 0 = true → τ.B 1203 m 0 = true
theorem wt_30 {sz : Nat} {b : Lb} {u : Unit} {x y : Tr} {w a e : Nat} (h : wt (Std.DTreeMap.Internal.Impl.inner sz b u x y) 3 w a e) : b.1 = 0 := sorry
theorem wt_10 {sz : Nat} {b : Lb} {u : Unit} {x y : Tr} {w a e : Nat} (h : wt (Std.DTreeMap.Internal.Impl.inner sz b u x y) 1 w a e) : b.1 = 0 := sorry
theorem wt_0m {sz : Nat} {b : Lb} {u : Unit} {x y : Tr} {m w a e : Nat} (hm : m = 2 ∨ m = 3 ∨ m = 6) (h : wt (Std.DTreeMap.Internal.Impl.inner sz b u x y) m w a e) (h0 : b.1 = 0) : ∃ i, wt x 2 w a i ∧ wt y 3 w i e := sorry
theorem wt_0e {sz : Nat} {b : Lb} {u : Unit} {x y : Tr} {m w a e : Nat} (hm : m = 0 ∨ m = 1 ∨ m = 5) (h : wt (Std.DTreeMap.Internal.Impl.inner sz b u x y) m w a e) (h0 : b.1 = 0) : ∃ i, wt x 0 w a i ∧ wt y 1 w (i + 1) e := sorry
theorem wt_4i {sz : Nat} {b : Lb} {u : Unit} {x y : Tr} {w a e : Nat} (h : wt (Std.DTreeMap.Internal.Impl.inner sz b u x y) 4 w a e) : b.1 = 41 ∧ ∃ i j, i ≤ j ∧ wt x 2 w a i ∧ wt y 6 w j e := sorry
section RC
variable {τ : Sg} {k : Nat} {ix : Us → Nat}
theorem rtG_lf {b : Lb} : rLf (rtG τ k ix b) = false := sorry
theorem rtE_lf {x : Tr} (h : kdO x ≤ 20) : rLf (rtE τ k ix x) = isLf x := sorry
theorem gdE_kd {x : Tr} (h : gdE τ x) : kdO x ≤ 20 := sorry
theorem rtS_lf {x : Tr} (hg : ∀ {sz b u x' y'}, x = .inner sz b u x' y' → b.1 = 0 ∨ (30 ≤ b.1 ∧ b.1 ≤ 39) ∨ b.1 = 41 ∨ (b.1 = 40 ∧ isLf x' = false)) : rLf (rtS τ k ix x) = isLf x := sorry
theorem rcE_rt (hc : CsS τ) : ∀ x : Tr, gdE τ x → cdE τ k (fun r => nI (ix r)) x = rcE (rtE τ k ix x) := sorry
/-- code and catches agree -/
def Pcd (τ : Sg) (k : Nat) (ix : Us → Nat) (fs : List Nat) (x : Tr) : Prop := ∀ p, cdS τ k (fun r => nI (ix r)) fs x p = rcS fs (rtS τ k ix x) p ∧ hdS τ k (fun r => nI (ix r)) fs x p = rhS fs (rtS τ k ix x) p
theorem wt6_lf {x : Tr} {w a e : Nat} (h : wt x 6 w a e) : rLf (rtS τ k ix x) = isLf x := sorry
theorem rcS_rt (hc : CsS τ) {fs : List Nat} {ms : Int32} {mt : Int64} (x : Tr) : (∀ m w a e, m = 2 ∨ m = 3 ∨ m = 6 → wt x m w a e → gdS τ k ms mt x → Pcd τ k ix fs x) ∧ ∀ w a e, wt x 4 w a e → gdS τ k ms mt x → ∃ sz b u yt ye, x = .inner sz b u yt ye ∧ b.1 = 41 ∧ Pcd τ k ix fs yt ∧ Pcd τ k ix fs ye ∧ rLf (rtS τ k ix ye) = isLf ye := sorry
end RC
