/-! THE MACHINE is sound: S's. -/
/-- what an S leaves -/
def ZsOk (σ : Sg) (s : MSt) (k : Nat) (Γ : Nat → Int64) (st : Bool) (nl : Nat) (mt : Int64) (e : Env) (r : Zs) : Prop := MInv σ r.1.1 ∧ Ext s r.1.1 ∧ EvC σ r.1.1 k Γ st nl r.1.2 ∧ (st = false → r.1.2 0 = e 0) ∧ match r.2 with
  | .ok none => True
  | .ok (some v) => vOk σ r.1.1 mt v
  | .error x => ErK σ r.1.1 x
section ZS
variable {σ : Sg} {P : Pg} {k : Nat} {Γ : Nat → Int64} {st : Bool} {nl : Nat} {mt : Int64}
theorem ZsOk.go {s : MSt} {e : Env} (hI : MInv σ s) (hc : EvC σ s k Γ st nl e) : ZsOk σ s k Γ st nl mt e (zsk s e) := sorry
theorem ZsOk.e {α : Type} {s : MSt} {e : Env} {r : Rz α} {kk : MSt → α → Zs} {Q : MSt → α → Prop} (h : RzOk σ s r Q) (hc : EvC σ s k Γ st nl e) (hk : ∀ t a, MInv σ t → Ext s t → EvC σ t k Γ st nl e → Q t a → ZsOk σ t k Γ st nl mt e (kk t a)) : ZsOk σ s k Γ st nl mt e (zse e r kk) := sorry
theorem ZsOk.b {s : MSt} {e : Env} {r : Zs} {kk : MSt × Env → Zs} (h : ZsOk σ s k Γ st nl mt e r) (hk : ∀ t e', MInv σ t → Ext s t → EvC σ t k Γ st nl e' → ZsOk σ t k Γ st nl mt e' (kk (t, e'))) : ZsOk σ s k Γ st nl mt e (zsb r kk) := sorry
theorem ZsOk.ev {s : MSt} {e e2 : Env} {r : Zs} (h : ZsOk σ s k Γ st nl mt e r) (he : st = false → e 0 = e2 0) : ZsOk σ s k Γ st nl mt e2 r := sorry
theorem EvC.set {s : MSt} {e : Env} (hc : EvC σ s k Γ st nl e) {j : Nat} {v : Int32} (hv : vOk σ s (Γ j) v) (hj : st = false → ¬ j = 0) : EvC σ s k Γ st nl (setN e j v) ∧ (st = false → setN e j v 0 = e 0) := sorry
theorem MInv.sp' {s : MSt} (h : MInv σ s) {n : Nat} (h1 : s.sp ≤ n) (h2 : n ≤ 20000) : MInv σ (s.wSp n) ∧ Ext s (s.wSp n) := sorry
theorem stp_ok {s : MSt} (hI : MInv σ s) : RzOk σ s (stp s) (fun t _ => t.sp = s.sp + 1) := sorry
/-- while -/
theorem wlF_ok {c : MSt → Env → Rz (List Int32)} {bd : MSt × Env → Zs} (h1 : ∀ s e, EvC σ s k Γ st nl e → MInv σ s → RzOk σ s (c s e) (fun _ _ => True)) (h2 : ∀ s e, EvC σ s k Γ st nl e → MInv σ s → ZsOk σ s k Γ st nl mt e (bd (s, e))) : ∀ (n : Nat) (s : MSt) (e : Env), EvC σ s k Γ st nl e → MInv σ s → ZsOk σ s k Γ st nl mt e (wlF c bd n (s, e)) := sorry
theorem MInv.ou {s : MSt} (h : MInv σ s) {l : List Int32} (hl : l.length ≤ 100) : MInv σ (s.wOu l) ∧ Ext s (s.wOu l) := sorry
/-- the parent's name, where a class is no face -/
theorem this_par (hM : WMa σ P) {s : MSt} (hI : MInv σ s) {o : Int32} (hk : KHw σ s k) (hf : σ.B 1102 k 0 = false) (ho : vOk σ s (σ.L 1100 k 0) o) (h0 : ¬ o = 0) : vOk σ s (σ.L 1107 k 0) o ∧ ¬ σ.L 1107 k 0 = 1 := sorry
theorem rl_n41 {y : RT} (h : rLf y = true ∨ rOp y = 0) : ¬ rOp y = 41 := sorry
theorem op_41 {n : Nat} (h : n = 0 ∨ (30 ≤ n ∧ n ≤ 44)) (h0 : ¬ n = 0) (h1 : ¬ n = 30) (h2 : ¬ n = 31) (h3 : ¬ n = 32) (h4 : ¬ n = 33) (h5 : ¬ n = 34) (h6 : ¬ n = 35) (h7 : ¬ n = 36) (h8 : ¬ n = 37) (h9 : ¬ n = 38) (h10 : ¬ n = 39) (h11 : ¬ n = 40) (h12 : ¬ n = 42) (h13 : ¬ n = 43) (h14 : ¬ n = 44) : n = 41 := sorry
theorem exS_ok (hM : WMa σ P) {C : CalF} {S : StaF} (hC : CaK σ C) (hS : StK σ S) {ff : Env → MSt → Rz Unit} (hff : st = false → ∀ e s, EvC σ s k Γ st nl e → MInv σ s → RzOk σ s (ff e s) (fun _ _ => True)) (x : RT) : (∀ (s : MSt) (e : Env), ¬ rOp x = 41 → wtS σ k Γ st nl mt x → EvC σ s k Γ st nl e → MInv σ s → ZsOk σ s k Γ st nl mt e (exS σ C S k ff x (s, e))) ∧ (rOp x = 41 → wtS σ k Γ st nl mt x → ∃ sz b u yt ye, x = .inner sz b u yt ye ∧ (∀ (s : MSt) (e : Env), EvC σ s k Γ st nl e → MInv σ s → ZsOk σ s k Γ st nl mt e (exS σ C S k ff yt (s, e))) ∧ ∀ (s : MSt) (e : Env), EvC σ s k Γ st nl e → MInv σ s → ZsOk σ s k Γ st nl mt e (exS σ C S k ff ye (s, e))) := sorry
end ZS
