/-! THE MACHINE is sound: calls. -/
/-- a member can be called so -/
def CaH (σ : Sg) (s : MSt) (m : Nat) (as : List Int32) : Prop := ∃ k j, m = 33 * k + j ∧ j < nMe σ k ∧ KHw σ s k ∧ ((σ.I 1200 m 0 = 1 ∧ σ.B 1205 m 0 = false) ∨ (σ.I 1200 m 0 = 2 ∧ σ.B 1203 m 0 = false)) ∧ (σ.B 1203 m 0 = true → vOkL σ s (pmL σ m) as) ∧ (σ.B 1203 m 0 = false → ∃ o r, as = o :: r ∧ ¬ o = 0 ∧ vOk σ s (σ.L 1100 k 0) o ∧ vOkL σ s (pmL σ m) r)
/-- what calling gives -/
def CaK (σ : Sg) (C : CalF) : Prop := ∀ m as s, CaH σ s m as → MInv σ s → RzOk σ s (C m as s) (fun t v => vOk σ t (σ.L 1207 m 0) v)
section CA
variable {σ : Sg} {P : Pg} {s : MSt}
theorem wSt_sup {k c : Nat} (h : wSt σ 0 k c) : SupL σ k c := sorry
/-- what stands above a class at work is at work -/
theorem lk_above (hM : WMa σ P) (hI : MInv σ s) {k d : Nat} (h : wHr σ 0 k d) : k ∈ wKs σ 0 → (σ.I 1101 k 0 = 26 ∨ s.lk (nW σ k) = 1) → d ∈ wKs σ 0 ∧ (σ.I 1101 d 0 = 26 ∨ s.lk (nW σ d) = 1) := sorry
/-- a method stands in a class that is not built in -/
theorem WMa.met (hM : WMa σ P) {d j : Nat} (hd : d ∈ wKs σ 0) (hj : j < nMe σ d) (h1 : σ.I 1200 (33 * d + j) 0 = 1) : ¬ σ.I 1101 d 0 = 26 := sorry
/-- an object stands where a class above its own is wanted -/
theorem vOk.up (hM : WMa σ P) {o c a d : Nat} {v : Int32} (e1 : v = nI (o + 1)) (e2 : s.ob[o]? = some (c, a)) (hd : d ∈ wKs σ 0) (h : d = c ∨ wHr σ 0 c d) : vOk σ s (σ.L 1100 d 0) v := sorry
theorem uAs (hM : WMa σ P) {k u : Nat} (hk : k ∈ wKs σ 0) (nb : ¬ σ.I 1101 k 0 = 26) (hu : u < nUk σ k) : 6402 + uAt σ k u < 22404 := sorry
theorem mlt (hM : WMa σ P) {d j : Nat} (hd : d ∈ wKs σ 0) (hj : j < nMe σ d) : 33 * d + j < 22404 := sorry
theorem wSelc_ok {m r : Nat} : ∃ n, 0 < n ∧ n ≤ 17 ∧ wSelc σ 0 m r = nI n := sorry
/-- an object's method is called -/
theorem rzV_ok (hM : WMa σ P) (hI : MInv σ s) {C : CalF} (hC : CaK σ C) {k u : Nat} {o : Int32} {as : List Int32} (hk : KHw σ s k) (hu : u < nUk σ k) (h3 : uSo σ k u = 7 ∨ uSo σ k u = 8) (ho : vOk σ s (uTi σ k u) o) (hn : ¬ uTi σ k u = 1) (ha : vOkL σ s (uPm σ k u) as) : RzOk σ s (rzV σ C k u o as s) (fun t v => vOk σ t (uTy σ k u) v) := sorry
/-- a static method is called -/
theorem rzT_ok (hM : WMa σ P) (hI : MInv σ s) {C : CalF} {S : StaF} (hC : CaK σ C) (hS : StK σ S) {k u : Nat} {as : List Int32} (hk : KHw σ s k) (hu : u < nUk σ k) (h3 : uSo σ k u = 9 ∨ uSo σ k u = 10) (ha : vOkL σ s (uPm σ k u) as) : RzOk σ s (rzT σ C S k u as s) (fun t v => vOk σ t (uTy σ k u) v) := sorry
/-- by super -/
theorem rzU_ok (hM : WMa σ P) (hI : MInv σ s) {C : CalF} (hC : CaK σ C) {k u : Nat} {o : Int32} {as : List Int32} (hk : KHw σ s k) (hu : u < nUk σ k) (h3 : uSo σ k u = 11 ∨ uSo σ k u = 12) (ho : vOk σ s (σ.L 1100 k 0) o) (h0 : ¬ o = 0) (ha : vOkL σ s (uPm σ k u) as) : RzOk σ s (rzU σ C k u o as s) (fun t v => vOk σ t (uTy σ k u) v) := sorry
/-- a maker -/
theorem rzM_ok (hM : WMa σ P) (hI : MInv σ s) {C : CalF} (hC : CaK σ C) {k u : Nat} {o : Int32} {as : List Int32} (hk : KHw σ s k) (hu : u < nUk σ k) (h3 : uSo σ k u = 2) (ho : vOk σ s (uTi σ k u) o) (hn : ¬ uTi σ k u = 1) (h0 : ¬ o = 0) (ha : vOkL σ s (uPm σ k u) as) : RzOk σ s (rzM σ C k u o as s) (fun _ _ => True) := sorry
end CA
