/-! THE MACHINE is sound: all levels. -/
section SU
variable {σ : Sg} {P : Pg}
/-- nothing is thrown -/
def RzN {α : Type} (r : Rz α) : Prop := ∀ e, r.2 = .error e → e.1 = false
theorem RzN.bind {α β : Type} {r : Rz α} {k : MSt → α → Rz β} (h : RzN r) (hk : ∀ t a, r = (t, .ok a) → RzN (k t a)) : RzN (rzb r k) := sorry
theorem RzN.k {α : Type} {s : MSt} {a : α} : RzN (rzk s a) := sorry
theorem RzN.t8 {α : Type} {r : Rz α} : RzN (t8 r) := sorry
theorem t8_ok {α : Type} {s : MSt} {r : Rz α} {Q : MSt → α → Prop} (h : RzOk σ s r Q) : RzOk σ s (t8 r) Q := sorry
/-- the faces that start before a class -/
theorem ldd_fnd {st : LSt} (hB : BIK σ) (hC : LCL σ st) {k j : Nat} (hk : Ldd σ st k) (hj : j < nFc σ k) : ∃ f, wFind σ 0 (σ.L 1108 k j) = some f := sorry
theorem lyF_ldd {st : LSt} (hB : BIK σ) (hC : LCL σ st) {g : Nat → List Nat → List Nat} (hg : ∀ k L, Ldd σ st k → (∀ x, x ∈ L → Ldd σ st x) → ∀ x, x ∈ g k L → Ldd σ st x) {k : Nat} (hk : Ldd σ st k) : ∀ (n j : Nat) (L : List Nat), j + n = nFc σ k → (∀ x, x ∈ L → Ldd σ st x) → ∀ x, x ∈ lyF σ g k n j L → Ldd σ st x := sorry
theorem lyU_ldd {st : LSt} (hB : BIK σ) (hC : LCL σ st) : ∀ (n k : Nat) (L : List Nat), Ldd σ st k → (∀ x, x ∈ L → Ldd σ st x) → ∀ x, x ∈ lyU σ n k L → Ldd σ st x := sorry
theorem stFs_ok {S : StaF} (hS : StK σ S) : ∀ (L : List Nat) (s : MSt), (∀ x, x ∈ L → x ∈ wKs σ 0) → MInv σ s → RzOk σ s (stFs σ S L s) (fun _ _ => True) ∧ RzN (stFs σ S L s) := sorry
theorem stCs_ok (hM : WMa σ P) {k : Nat} (hk : k ∈ wKs σ 0) : ∀ (n j : Nat) (s : MSt), j + n = nMe σ k → MInv σ s → MInv σ (stCs σ k n j s) ∧ Ext s (stCs σ k n j s) := sorry
theorem env0 {s : MSt} {k : Nat} {Γ : Nat → Int64} {nl : Nat} (hk : KHw σ s k) : EvC σ s k Γ true nl (envA []) := sorry
theorem stMs_ok (hM : WMa σ P) {C : CalF} {S : StaF} (hC : CaK σ C) (hS : StK σ S) {k : Nat} : ∀ (n j : Nat) (s : MSt), j + n = nMe σ k → KHw σ s k → MInv σ s → RzOk σ s (stMs σ P C S k n j s) (fun _ _ => True) ∧ RzN (stMs σ P C S k n j s) := sorry
theorem stAl_ok (hM : WMa σ P) {C : CalF} {S : StaF} (hC : CaK σ C) (hS : StK σ S) {k : Nat} {s : MSt} (hk : KHw σ s k) (hI : MInv σ s) : RzOk σ s (stAl σ P C S k s) (fun _ _ => True) ∧ RzN (stAl σ P C S k s) := sorry
theorem CaH.ext {s t : MSt} {m : Nat} {as : List Int32} (h : CaH σ s m as) (hE : Ext s t) : CaH σ t m as := sorry
/-- calls and starts are sound -/
theorem mcF_ok (hM : WMa σ P) : ∀ n, CaK σ (mcF σ P n).1 ∧ StK σ (mcF σ P n).2 := sorry
end SU
