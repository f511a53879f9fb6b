/-! LINKHOUSE's MACHINE runs every S as exS says: rows, blocks, the maker above, tries. -/
section SM2
variable {l : Launch} {G : Gl} {d : Nat} {σ : Sg} {P : Pg} {fl : Nat} {Q : Outcome → Sg → Prop} {C : CalF} {S : StaF}
variable {a : Nat} {S0 : Bw} {m k b : Nat} {ic : Bool} {fs rest : List Fr} {Γ : Nat → Int64} {st : Bool} {mt : Int64} {fsl : List Nat} {ff : Env → MSt → Rz Unit} {N : Nat}
theorem KoS.go {M : MSt} {e : Env} {nl : Nat} {r : Zs} {dn dn' : MSt → Env → Prop} {rt rt' : MSt → Int32 → Prop} {th th' : MSt → Env → Int32 → Prop} {fa fa' : MSt → Int32 → Prop} (hr : ZsOk σ M k Γ st nl mt e r) (h : KoS r dn rt th fa) (h1 : ∀ t e', MInv σ t → Ext M t → EvC σ t k Γ st nl e' → dn t e' → dn' t e') (h2 : ∀ t w, rt t w → rt' t w) (h3 : ∀ t e' ob, MInv σ t → Ext M t → EvC σ t k Γ st nl e' → ¬ ob = 0 ∧ vOk σ t 6927257 ob → th t e' ob → th' t e' ob) (h4 : ∀ t f, fa t f → fa' t f) : KoS r dn' rt' th' fa' := sorry
theorem uw_to (H : SiC l G d σ P fl C S a S0 m k b fs rest) {at' i1 i2 : Nat} {F : FSt} {v : Int32} (hN : σ.I 2013 b 0 = nI N) (hN1 : N ≤ 100) (ha : at' < 6000) (h12 : i1 ≤ i2) (h2 : i2 ≤ N) (hc : NoCv σ b i1 i2 at') (h : Uwi l G d σ fl Q F k b at' i2 v) : Uwi l G d σ fl Q F k b at' i1 v := sorry
/-- one behind the other -/
theorem sim_0 (H : SiC l G d σ P fl C S a S0 m k b fs rest) (X : SsC l G d σ fl Q a S0 m k b ic fs rest Γ st fsl ff N) {sz : Nat} {lb : RLb} {u : Unit} {x y : RT} (q0' : lb.op = 0) (ix : SmS l G d σ fl Q C S a S0 m k b ic fs rest Γ st mt fsl ff N x) (iy : SmS l G d σ fl Q C S a S0 m k b ic fs rest Γ st mt fsl ff N y) : SmS l G d σ fl Q C S a S0 m k b ic fs rest Γ st mt fsl ff N (.inner sz lb u x y) := sorry
/-- the maker above -/
theorem sim_38 (H : SiC l G d σ P fl C S a S0 m k b fs rest) (X : SsC l G d σ fl Q a S0 m k b ic fs rest Γ st fsl ff N) {sz : Nat} {lb : RLb} {u : Unit} {x y : RT} (q : lb.op = 38) : SmS l G d σ fl Q C S a S0 m k b ic fs rest Γ st mt fsl ff N (.inner sz lb u x y) := sorry
end SM2
