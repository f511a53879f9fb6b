/-! THE MACHINE is sound: members. -/
section DN
variable {σ : Sg} {C : CalF} {S : StaF} {k : Nat} {Γ : Nat → Int64} {st : Bool} {nl : Nat} {mt : Int64} {ff : Env → MSt → Rz Unit}
theorem zse_dn {α : Type} {e : Env} {r : Rz α} {kk : MSt → α → Zs} (h : ∀ t a, ¬ (kk t a).2 = .ok none) : ¬ (zse e r kk).2 = .ok none := sorry
theorem zsb_dn {r : Zs} {kk : MSt × Env → Zs} (h : ¬ r.2 = .ok none ∨ ∀ s, ¬ (kk s).2 = .ok none) : ¬ (zsb r kk).2 = .ok none := sorry
theorem zst_dn {r : Zs} {kk : MSt × Env → Int32 → Zs} (h : ¬ r.2 = .ok none) (h2 : ∀ s o, ¬ (kk s o).2 = .ok none) : ¬ (zst r kk).2 = .ok none := sorry
theorem exS_dn (x : RT) : (∀ s, wtS σ k Γ st nl mt x → ¬ rOp x = 41 → rDn x = false → ¬ (exS σ C S k ff x s).2 = .ok none) ∧ (rOp x = 41 → wtS σ k Γ st nl mt x → rDn x = false → ∃ sz b u yt ye, x = .inner sz b u yt ye ∧ (∀ s, ¬ (exS σ C S k ff yt s).2 = .ok none) ∧ ∀ s, ¬ (exS σ C S k ff ye s).2 = .ok none) := sorry
end DN
section RN
variable {σ : Sg} {P : Pg} {s : MSt}
theorem vOkL_get : ∀ (ts : List Int64) (vs : List Int32), vOkL σ s ts vs → vs.length = ts.length ∧ ∀ (i : Nat) (t : Int64), ts[i]? = some t → vOk σ s t (vs.getD i 0) := sorry
theorem pmL_get {m i : Nat} (h : i < nPa σ m) : (pmL σ m)[i]? = some (σ.L 1209 m i) := sorry
theorem pmL_len {m : Nat} : (pmL σ m).length = nPa σ m := sorry
/-- the locals when a method begins -/
theorem env_ok {m k : Nat} {as : List Int32} {Γ : Nat → Int64} {nl : Nat} (hk : KHw σ s k) (hof : mOf σ m = k) (hg : gPm σ m Γ) (h3 : ¬ σ.I 1200 m 0 = 3) (h1 : σ.B 1203 m 0 = true → vOkL σ s (pmL σ m) as) (h2 : σ.B 1203 m 0 = false → ∃ o r, as = o :: r ∧ ¬ o = 0 ∧ vOk σ s (σ.L 1100 k 0) o ∧ vOkL σ s (pmL σ m) r) : EvC σ s k Γ (rSt σ m) nl (envA as) := sorry
/-- where an object's own class stands -/
theorem this_at (hM : WMa σ P) (hI : MInv σ s) {k : Nat} {o : Int32} (hk : k ∈ wKs σ 0) (hf : σ.B 1102 k 0 = false) (ho : vOk σ s (σ.L 1100 k 0) o) (h0 : ¬ o = 0) : ∃ i kk a, o = nI (i + 1) ∧ s.ob[i]? = some (kk, a) ∧ k ∈ wUps σ kk := sorry
theorem ffF_ok (hM : WMa σ P) {C : CalF} {S : StaF} (hC : CaK σ C) (hS : StK σ S) {k : Nat} {o : Int32} (h0 : ¬ o = 0) : ∀ (n j : Nat) (s : MSt), j + n = nMe σ k → KHw σ s k → vOk σ s (σ.L 1100 k 0) o → MInv σ s → RzOk σ s (ffF σ P C S k o n j s) (fun _ _ => True) := sorry
theorem zsV_ok {k : Nat} {Γ : Nat → Int64} {st : Bool} {nl : Nat} {mt : Int64} {e : Env} {r : Zs} (h : ZsOk σ s k Γ st nl mt e r) : RzOk σ s (zsV r) (fun t v => vOk σ t mt v) := sorry
theorem wt30_n41 {x : RT} (h : x = .leaf ∨ rOp x = 30) : ¬ rOp x = 41 := sorry
/-- a member is run -/
theorem rnM_ok (hM : WMa σ P) {C : CalF} {S : StaF} (hC : CaK σ C) (hS : StK σ S) {m : Nat} {as : List Int32} (hc : CaH σ s m as) (hI : MInv σ s) : RzOk σ s (rnM σ P C S m as s) (fun t v => vOk σ t (σ.L 1207 m 0) v) := sorry
end RN
