/-! THE MACHINE is sound: fields, objects. -/
/-- class k is at work -/
def KHw (σ : Sg) (s : MSt) (k : Nat) : Prop := k ∈ wKs σ 0 ∧ ¬ σ.I 1101 k 0 = 26 ∧ s.lk (nW σ k) = 1
theorem KHw.ext {σ : Sg} {s t : MSt} {k : Nat} (h : KHw σ s k) (hE : Ext s t) : KHw σ t k := sorry
section FL
variable {σ : Sg} {P : Pg} {s : MSt}
theorem WMa.of (hM : WMa σ P) {k j : Nat} (hk : k ∈ wKs σ 0) (hj : j < nMe σ k) : mOf σ (33 * k + j) = k ∧ σ.R 1222 (33 * k + j) 0 = some k := sorry
theorem ob_at {o c a : Nat} {v : Int32} (ho : o < 200) (e : s.ob[o]? = some (c, a)) (ev : v = nI (o + 1)) : obC s v = c ∧ obA s v = a := sorry
theorem MInv.olt (hI : MInv σ s) {o : Nat} {x : Nat × Nat} (e : s.ob[o]? = some x) : o < 200 := sorry
theorem uSo3 {σ : Sg} {u : Nat} {v : Nat} (h : σ.I 1700 u 0 = nI v) (hv : v ≤ 19) : (σ.I 1700 u 0).toInt = v := sorry
/-- an object's field that is met: where it lies -/
theorem fld_at (hM : WMa σ P) (hI : MInv σ s) {t : Int64} {v : Int32} (hv : vOk σ s t v) (ht : ¬ t = 1) (h0 : ¬ v = 0) {c m : Nat} {nm ty : Int64} (hc : wFind σ 0 t = some c) (lc : Ldd σ s.ls c) (hf : wFld σ 0 c nm ty = some m) (hs : σ.B 1203 m 0 = false) : ∃ o k a d j, v = nI (o + 1) ∧ s.ob[o]? = some (k, a) ∧ d ∈ wUps σ k ∧ j < nMe σ d ∧ m = 33 * d + j ∧ σ.I 1200 m 0 = 0 ∧ (ty = 2 ∨ σ.L 1207 m 0 = ty) ∧ Ldd σ s.ls k ∧ d ∈ wKs σ 0 := sorry
theorem sp3 {v : Nat} {k u : Nat} (h : uSo σ k u = nI v) (hv : v ≤ 19) : (σ.I 1700 (uAt σ k u) 0).toInt = v := sorry
theorem dc5 {k u v : Nat} (h : uSo σ k u = nI v) (hv : v ≤ 19) : decide (¬ σ.I 1700 (uAt σ k u) 0 < 5) = decide (5 ≤ v) := sorry
/-- an object's field is asked -/
theorem rzG_ok (hM : WMa σ P) (hI : MInv σ s) {k u : Nat} {o : Int32} (hk : KHw σ s k) (hu : u < nUk σ k) (h3 : uSo σ k u = 3) (hv : vOk σ s (uTi σ k u) o) (hn : ¬ uTi σ k u = 1) : RzOk σ s (rzG σ k u o s) (fun t v => vOk σ t (uTy σ k u) v) := sorry
/-- a cell is laid -/
theorem MInv.put (hM : WMa σ P) (hI : MInv σ s) {i k' a d j : Nat} {v : Int32} (e2 : s.ob[i]? = some (k', a)) (e4 : d ∈ wUps σ k') (e5 : j < nMe σ d) (e7 : σ.I 1200 (33 * d + j) 0 = 0) (hs : σ.B 1203 (33 * d + j) 0 = false) (hv : vOk σ s (σ.L 1207 (33 * d + j) 0) v) : MInv σ (s.wCe (setN s.ce (a + slA σ (33 * d + j)) v)) ∧ Ext s (s.wCe (setN s.ce (a + slA σ (33 * d + j)) v)) := sorry
/-- an object's field is put to -/
theorem rzP_ok (hM : WMa σ P) (hI : MInv σ s) {k u : Nat} {o v : Int32} (hk : KHw σ s k) (hu : u < nUk σ k) (h3 : uSo σ k u = 4) (ho : vOk σ s (uTi σ k u) o) (hn : ¬ uTi σ k u = 1) (hv : vOk σ s (uTy σ k u) v) : RzOk σ s (rzP σ k u o v s) (fun _ _ => True) := sorry
/-- static fields -/
theorem svA_inj (hM : WMa σ P) {k1 j1 k2 j2 : Nat} (h1 : k1 ∈ wKs σ 0) (h2 : k2 ∈ wKs σ 0) (l1 : j1 < nMe σ k1) (l2 : j2 < nMe σ k2) (f1 : σ.I 1200 (33 * k1 + j1) 0 = 0) (f2 : σ.I 1200 (33 * k2 + j2) 0 = 0) (s1 : σ.B 1203 (33 * k1 + j1) 0 = true) (s2 : σ.B 1203 (33 * k2 + j2) 0 = true) (e : svA σ (33 * k1 + j1) = svA σ (33 * k2 + j2)) : k1 = k2 ∧ j1 = j2 := sorry
theorem MInv.puts (hM : WMa σ P) (hI : MInv σ s) {d j : Nat} {v : Int32} (hd : d ∈ wKs σ 0) (e5 : j < nMe σ d) (e7 : σ.I 1200 (33 * d + j) 0 = 0) (hs : σ.B 1203 (33 * d + j) 0 = true) (hv : vOk σ s (σ.L 1207 (33 * d + j) 0) v) : MInv σ (s.wSv (setN s.sv (svA σ (33 * d + j)) v)) ∧ Ext s (s.wSv (setN s.sv (svA σ (33 * d + j)) v)) := sorry
/-- what starting asks and gives -/
def StK (σ : Sg) (S : StaF) : Prop := ∀ k s, k ∈ wKs σ 0 → MInv σ s → RzOk σ s (S k s) (fun t _ => σ.I 1101 k 0 = 26 ∨ t.sr (nW σ k) ≠ 0) ∧ ∀ e, (S k s).2 = .error e → e.1 = false
/-- a static field that is met -/
theorem sfl_at (hM : WMa σ P) {c m : Nat} {nm ty : Int64} (hc : c ∈ wKs σ 0) (hf : wFld σ 0 c nm ty = some m) : ∃ d j, d ∈ wKs σ 0 ∧ j < nMe σ d ∧ m = 33 * d + j ∧ σ.I 1200 m 0 = 0 ∧ (ty = 2 ∨ σ.L 1207 m 0 = ty) := sorry
theorem rzGs_ok (hM : WMa σ P) (hI : MInv σ s) {S : StaF} (hS : StK σ S) {k u : Nat} (hk : KHw σ s k) (hu : u < nUk σ k) (h3 : uSo σ k u = 5) : RzOk σ s (rzGs σ S k u s) (fun t v => vOk σ t (uTy σ k u) v) := sorry
theorem rzPs_ok (hM : WMa σ P) (hI : MInv σ s) {S : StaF} (hS : StK σ S) {k u : Nat} {v : Int32} (hk : KHw σ s k) (hu : u < nUk σ k) (h3 : uSo σ k u = 6) (hv : vOk σ s (uTy σ k u) v) : RzOk σ s (rzPs σ S k u v s) (fun _ _ => True) := sorry
/-- an object is made -/
theorem rzN_ok (hM : WMa σ P) (hI : MInv σ s) {S : StaF} (hS : StK σ S) {k u : Nat} (hk : KHw σ s k) (h3 : uSo σ k u = 1) : RzOk σ s (rzN σ S k u s) (fun t v => vOk σ t (uTi σ k u) v ∧ ¬ v = 0 ∧ ¬ uTi σ k u = 1) := sorry
/-- asked, cast -/
theorem rzA_ok (hM : WMa σ P) (hI : MInv σ s) {k u : Nat} {v : Int32} (hk : KHw σ s k) (h3 : uSo σ k u = 14) : RzOk σ s (rzA σ k u v s) (fun _ _ => True) := sorry
theorem isOf_ok (hI : MInv σ s) {t : Int64} {v : Int32} {c : Nat} (hv : vOk σ s t v) (ht : ¬ t = 1) (h0 : ¬ v = 0) (ti : Int64) (hc : wFind σ 0 ti = some c) (h : isOfB σ s v c = true) : vOk σ s ti v := sorry
theorem rzC_ok (hM : WMa σ P) (hI : MInv σ s) {k u : Nat} {v : Int32} {t : Int64} (hk : KHw σ s k) (h3 : uSo σ k u = 13) (hv : vOk σ s t v) (ht : ¬ t = 1) : RzOk σ s (rzC σ k u v s) (fun s v => vOk σ s (uTi σ k u) v) := sorry
end FL
