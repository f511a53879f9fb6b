/-! THE MACHINE is sound: starting; all levels. -/
section ST
variable {σ : Sg} {P : Pg}
theorem MInv.lk' {s : MSt} (hI : MInv σ s) : LkI σ (s.ls, s.lk) := sorry
/-- what is linked grows -/
theorem MInv.lks {s : MSt} {D : Nat → Prop} {t : LkS} (h : MInv σ s) (g : LkG σ D (s.ls, s.lk) t) : MInv σ ((s.wLs t.1).wLk t.2) ∧ Ext s ((s.wLs t.1).wLk t.2) := sorry
theorem rzL_ok (hM : WMa σ P) {s : MSt} {k : Nat} (hk : k ∈ wKs σ 0) (nb : ¬ σ.I 1101 k 0 = 26) (hI : MInv σ s) : RzOk σ s (rzL σ k s) (fun t _ => t.lk (nW σ k) = 1 ∧ t.sr = s.sr) ∧ ∀ e, (rzL σ k s).2 = .error e → e.1 = false := sorry
theorem ol_set {f : Nat → Int32} {n : Nat} {v : Int32} : (ol (setN f n v)).length ≤ (ol f).length + 1 := sorry
theorem ol_lt {f : Nat → Int32} {n : Nat} {v : Int32} (hn : n < 64) (h1 : f n = 1) (hv : ¬ v = 1) : (ol (setN f n v)).length < (ol f).length := sorry
/-- a class begins to start -/
theorem MInv.st1 (hM : WMa σ P) {s : MSt} {k : Nat} (hI : MInv σ s) (hk : k ∈ wKs σ 0) (h0 : s.sr (nW σ k) = 0) (hl : s.lk (nW σ k) = 1) : MInv σ ((s.wSr (setN s.sr (nW σ k) 1)).wLs (evt σ s.ls k 3)) ∧ Ext s ((s.wSr (setN s.sr (nW σ k) 1)).wLs (evt σ s.ls k 3)) := sorry
/-- .. has started, or not -/
theorem MInv.st2 (hM : WMa σ P) {s0 s : MSt} {k : Nat} {v ev : Int32} (hv : v = 2 ∨ v = 3) (hI : MInv σ s) (hk : k ∈ wKs σ 0) (h1' : s.sr (nW σ k) = 1) (h0 : s0.sr (nW σ k) = 0) (hE0 : Ext s0 s) : MInv σ ((s.wSr (setN s.sr (nW σ k) v)).wLs (evt σ s.ls k ev)) ∧ Ext s0 ((s.wSr (setN s.sr (nW σ k) v)).wLs (evt σ s.ls k ev)) := sorry
end ST
