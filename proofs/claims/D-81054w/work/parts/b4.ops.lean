/-! THE MACHINE is sound: what uses do. -/
theorem Ext.refl {s : MSt} : Ext s s := sorry
theorem Ext.trans {s t u : MSt} (h : Ext s t) (k : Ext t u) : Ext s u := sorry
theorem Ext.sr {s t : MSt} (h : Ext s t) {j : Nat} (hj : s.sr j ≠ 0) : t.sr j ≠ 0 := sorry
theorem Ext.ob {s t : MSt} (h : Ext s t) {o : Nat} {x : Nat × Nat} (e : s.ob[o]? = some x) : t.ob[o]? = some x := sorry
theorem vOk.ext {σ : Sg} {s t : MSt} {ty : Int64} {v : Int32} (h : vOk σ s ty v) (hE : Ext s t) : vOk σ t ty v := sorry
theorem vOkL.ext {σ : Sg} {s t : MSt} (hE : Ext s t) : ∀ (ts : List Int64) (vs : List Int32), vOkL σ s ts vs → vOkL σ t ts vs := sorry
/-- a failure -/
def FlE (f : Int32) : Prop := ∃ n, 0 < n ∧ n ≤ 17 ∧ f = nI n
/-- what an error is -/
def ErK (σ : Sg) (s : MSt) (e : Er) : Prop := if e.1 = true then ¬ e.2 = 0 ∧ vOk σ s 6927257 e.2 else FlE e.2
/-- from s a good result -/
def RzOk {α : Type} (σ : Sg) (s : MSt) (r : Rz α) (Q : MSt → α → Prop) : Prop := MInv σ r.1 ∧ Ext s r.1 ∧ match r.2 with
  | .ok a => Q r.1 a
  | .error e => ErK σ r.1 e
theorem RzOk.bind {α β : Type} {σ : Sg} {s : MSt} {r : Rz α} {k : MSt → α → Rz β} {Q : MSt → α → Prop} {R : MSt → β → Prop} (h : RzOk σ s r Q) (hk : ∀ t a, MInv σ t → Ext s t → Q t a → RzOk σ t (k t a) R) : RzOk σ s (rzb r k) R := sorry
theorem RzOk.mono {α : Type} {σ : Sg} {s : MSt} {r : Rz α} {Q R : MSt → α → Prop} (h : RzOk σ s r Q) (hk : ∀ t a, MInv σ t → Ext s t → Q t a → R t a) : RzOk σ s r R := sorry
theorem RzOk.from {α : Type} {σ : Sg} {s t : MSt} {r : Rz α} {Q : MSt → α → Prop} (h : RzOk σ t r Q) (hE : Ext s t) : RzOk σ s r Q := sorry
theorem RzOk.k {α : Type} {σ : Sg} {s : MSt} {a : α} {Q : MSt → α → Prop} (h : MInv σ s) (hq : Q s a) : RzOk σ s (rzk s a) Q := sorry
theorem RzOk.f {α : Type} {σ : Sg} {s : MSt} {n : Nat} {f : Int32} {Q : MSt → α → Prop} (h : MInv σ s) (hf : f = nI n) (h0 : 0 < n) (h1 : n ≤ 17) : RzOk σ s (rzf s f : Rz α) Q := sorry
section OPS
variable {σ : Sg} {P : Pg} {s : MSt}
/-- objects and fields keep their types when what is loaded grows -/
theorem MInv.ls {r : LSt} (h : MInv σ s) (g : LGo σ s.ls r) : MInv σ (s.wLs r) ∧ Ext s (s.wLs r) := sorry
theorem WMa.use (hM : WMa σ P) {k u : Nat} (hk : k ∈ wKs σ 0) (nb : ¬ σ.I 1101 k 0 = 26) (hu : u < nUk σ k) : σ.R 1701 (uAt σ k u) 0 = some k ∧ uAt σ k u < 16000 := sorry
/-- a use is met -/
theorem rzR_ok (hM : WMa σ P) {k u v : Nat} (hI : MInv σ s) (hk : k ∈ wKs σ 0) (hv : v ≤ 15) (ev : uSo σ k u = nI v) : RzOk σ s (rzR σ k u s) (fun t r => t = s.wLs r.2.1 ∧ r.1 = 0 ∧ ∃ c, RsOk σ (uAt σ k u) k c r) := sorry
/-- an object's class -/
theorem MInv.cls (hM : WMa σ P) (hI : MInv σ s) {o c a : Nat} (e : s.ob[o]? = some (c, a)) : Ldd σ s.ls c ∧ σ.B 1102 c 0 = false ∧ c ∈ wKs σ 0 ∧ (σ.I 1101 c 0 = 26 ∨ s.lk (nW σ c) = 1) := sorry
theorem WMa.any (hM : WMa σ P) (hI : MInv σ s) {c : Nat} (hc : Ldd σ s.ls c) (hf : σ.B 1102 c 0 = false) : tFt σ c 6927257 := sorry
theorem vOk.any (hM : WMa σ P) (hI : MInv σ s) {t : Int64} {v : Int32} (h : vOk σ s t v) (ht : ¬ t = 1) : vOk σ s 6927257 v := sorry
theorem tk_n1 (hM : WMa σ P) {k : Nat} (hk : k ∈ wKs σ 0) : ¬ σ.L 1100 k 0 = 1 := sorry
/-- what is given where a type is wanted -/
theorem vOk.fit (hM : WMa σ P) (hI : MInv σ s) {k : Nat} (hk : k ∈ wKs σ 0) (nb : ¬ σ.I 1101 k 0 = 26) (hl : s.lk (nW σ k) = 1) {a t : Int64} {v : Int32} (hf : wtFt σ k a t) (h : vOk σ s a v) : vOk σ s t v := sorry
end OPS
