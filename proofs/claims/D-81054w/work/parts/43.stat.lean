/-! What the rules read: the columns of Kind, Member, Use, and a world's kinds alone -/
def sc (c : Nat) : Bool := rg 1099 1303 c || rg 1699 1704 c
theorem sc_iff {c : Nat} (h : sc c = true) : (1099 < c ∧ c ≤ 1303) ∨ (1699 < c ∧ c ≤ 1704) := sorry
theorem rg_no {lo hi c : Nat} (h : c ≤ lo ∨ hi < c) : rg lo hi c = false := sorry
def stat (σ : Sg) : Sg := (fun c i j => cond (sc c) (σ.1 c i j) 0, fun c i j => cond (sc c) (σ.2.1 c i j) false, fun c i j => cond (sc c) (σ.2.2.1 c i j) 0, fun c i j => cond (sc c) (σ.2.2.2 c i j) none)
theorem stat_mix {p : Nat → Nat → Bool} {σ ρ : Sg} (h : ∀ c i, sc c = true → p c i = false) : stat (mix p σ ρ) = stat σ := sorry
theorem wFind_st {σ : Sg} {w : Nat} {nm : Int64} : wFind (stat σ) w nm = wFind σ w nm := sorry
theorem wPar_st {σ : Sg} {w k : Nat} : wPar (stat σ) w k = wPar σ w k := sorry
theorem nFc_st {σ : Sg} {k : Nat} : nFc (stat σ) k = nFc σ k := sorry
theorem kMet_st {σ : Sg} {q m : Nat} : kMet (stat σ) q m = kMet σ q m := sorry
theorem wFsF_st {σ : Sg} {w k : Nat} : ∀ n j, wFsF (stat σ) w k n j = wFsF σ w k n j := sorry
theorem wFs_st {σ : Sg} {w k : Nat} : wFs (stat σ) w k = wFs σ w k := sorry
theorem fcs_st {σ : Sg} {w : Nat} : ∀ n, fcs (stat σ) w n = fcs σ w n := sorry
theorem wAF_st {σ : Sg} {w k : Nat} : wAF (stat σ) w k = wAF σ w k := sorry
theorem wHb_st {σ : Sg} {w a b : Nat} : wHb (stat σ) w a b = wHb σ w a b := sorry
theorem wAF_mix {p : Nat → Nat → Bool} {σ ρ : Sg} (h : ∀ c i, sc c = true → p c i = false) {w k : Nat} : wAF (mix p σ ρ) w k = wAF σ w k := sorry
theorem sta_W (c i : Nat) (h : sc c = true) : pW c i = false := sorry
theorem sta_F (c i : Nat) (h : sc c = true) : pF c i = false := sorry
theorem sta_H (c i : Nat) (h0 : sc c = true) : pH c i = false := sorry
