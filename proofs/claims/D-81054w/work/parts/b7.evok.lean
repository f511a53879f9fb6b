/-! THE MACHINE is sound: E's. -/
/-- the locals have their types; this is there -/
def EvC (σ : Sg) (s : MSt) (k : Nat) (Γ : Nat → Int64) (st : Bool) (nl : Nat) (e : Nat → Int32) : Prop := KHw σ s k ∧ (∀ j, j < nl → vOk σ s (Γ j) (e j)) ∧ (st = false → ¬ e 0 = 0 ∧ vOk σ s (σ.L 1100 k 0) (e 0))
theorem EvC.ext {σ : Sg} {s t : MSt} {k : Nat} {Γ : Nat → Int64} {st : Bool} {nl : Nat} {e : Nat → Int32} (h : EvC σ s k Γ st nl e) (hE : Ext s t) : EvC σ t k Γ st nl e := sorry
section EV
variable {σ : Sg} {P : Pg}
theorem vOkL.fit (hM : WMa σ P) {s : MSt} (hI : MInv σ s) {k : Nat} (hk : KHw σ s k) : ∀ (ts ps : List Int64) (vs : List Int32), wtRw σ k ts ps → vOkL σ s ts vs → vOkL σ s ps vs := sorry
theorem ro_no {sz : Nat} {b : RLb} {u : Unit} {x y : RT} (h : ¬ b.op = 0) : ¬ isRo (.inner sz b u x y) := sorry
/-- what an E gives -/
def EvR (σ : Sg) (x : RT) (t : MSt) (l : List Int32) : Prop := (isE1 x → ∃ v, l = [v] ∧ vOk σ t (rTy x) v) ∧ (isRo x → vOkL σ t (rTyL x) l)
theorem EvR.v {x : RT} {t : MSt} {l : List Int32} (h : EvR σ x t l) (hx : isE1 x) : l = [hd1 l] ∧ vOk σ t (rTy x) (hd1 l) := sorry
theorem EvR.e {sz : Nat} {b : RLb} {u : Unit} {x y : RT} {t : MSt} {v : Int32} (h : ¬ b.op = 0) (hv : vOk σ t b.ty v) : EvR σ (.inner sz b u x y) t [v] := sorry
theorem evX_ok (hM : WMa σ P) {C : CalF} {S : StaF} (hC : CaK σ C) (hS : StK σ S) {k : Nat} {Γ : Nat → Int64} {st : Bool} {nl : Nat} {e : Nat → Int32} : ∀ (x : RT) (s : MSt), wtE σ k Γ st nl x → EvC σ s k Γ st nl e → MInv σ s → RzOk σ s (evX σ C S k e x s) (EvR σ x) := sorry
end EV
