/-! THE MACHINE is sound: linking. -/
theorem filter_lt {p q : Nat → Bool} : ∀ (L : List Nat) (x : Nat), x ∈ L → (∀ y, p y = true → q y = true) → q x = true → p x = false → (L.filter p).length < (L.filter q).length := sorry
/-- how many classes stand above -/
noncomputable def hts (σ : Sg) (k : Nat) : Nat := ((wKs σ 0).filter fun d => wHb σ 0 k d).length
theorem hts_le {σ : Sg} (hW : WOK σ 0) (k : Nat) : hts σ k ≤ 62 := sorry
theorem hts_lt {σ : Sg} {st : LSt} (hB : BIK σ) (hC : LCL σ st) {k c : Nat} (hk : Ldd σ st k) (h : wSt σ 0 k c) : hts σ c < hts σ k := sorry
theorem zl_le {f g : Nat → Int32} (h : ∀ j, f j ≠ 0 → g j ≠ 0) : (zl g).length ≤ (zl f).length := sorry
theorem zl_lt {f g : Nat → Int32} {n : Nat} (hn : n < 64) (h0 : f n = 0) (h1 : g n ≠ 0) (h : ∀ j, f j ≠ 0 → g j ≠ 0) : (zl g).length < (zl f).length := sorry
/-- what is linked, in order -/
def LkI (σ : Sg) (s : LkS) : Prop := (LOK s.1 ∧ LCL σ s.1) ∧ LkC σ s.1 s.2 ∧ (∀ j, s.2 j = 0 ∨ s.2 j = 1 ∨ ∃ n, 0 < n ∧ n ≤ 16 ∧ s.2 j = nI (100 + n)) ∧ ∀ j, s.2 j ≠ 0 → s.1.1 j = 1
/-- from s to t, by linking what stands at or above one of a row -/
def LkG (σ : Sg) (D : Nat → Prop) (s t : LkS) : Prop := LkI σ t ∧ (∀ j, s.1.1 j ≠ 0 → t.1.1 j = s.1.1 j) ∧ (∀ j, s.2 j ≠ 0 → t.2 j = s.2 j) ∧ t.1.2.length + (zs t.1).length + (zl t.2).length ≤ s.1.2.length + (zs s.1).length + (zl s.2).length ∧ (∀ j, t.2 j ≠ s.2 j → ∃ d, d ∈ wKs σ 0 ∧ nW σ d = j ∧ D d) ∧ NL2 s.1 t.1
theorem LkG.refl {σ : Sg} {D : Nat → Prop} {s : LkS} (h : LkI σ s) : LkG σ D s s := sorry
theorem LkG.trans {σ : Sg} {D : Nat → Prop} {s t u : LkS} (h : LkG σ D s t) (k : LkG σ D t u) : LkG σ D s u := sorry
theorem LkG.mono {σ : Sg} {D E : Nat → Prop} {s t : LkS} (h : LkG σ D s t) (hd : ∀ d, D d → E d) : LkG σ E s t := sorry
/-- what is loaded grows -/
theorem LkG.ls {σ : Sg} {D : Nat → Prop} {s : LkS} {r : LSt} (h : LkI σ s) (g : LGo σ s.1 r) : LkG σ D s (r, s.2) := sorry
/-- a use that must fit -/
def FitU (σ : Sg) (u : Nat) : Prop := ∃ t, wFind σ 0 (σ.L 1703 u 0) = some t ∧ (σ.B 1102 t 0 = true ∨ ∃ c, wFind σ 0 (σ.L 1702 u 0) = some c ∧ (c = t ∨ (σ.B 1102 c 0 = false ∧ wHr σ 0 c t)))
theorem lkUs_ok {σ : Sg} (hW : WOK σ 0) (hN : WNO σ) (hB : BIK σ) : ∀ (n u : Nat) (st : LSt), LOK st → LCL σ st → LGo σ st (lkUs σ n u st).2 ∧ FOK (lkUs σ n u st).1 ∧ ((lkUs σ n u st).1 = 0 → ∀ i, i < n → σ.I 1700 (u + i) 0 = 17 → FitU σ (u + i)) := sorry
section LN
variable {σ : Sg} {P : Pg}
/-- at or above -/
def AbE (σ : Sg) (k d : Nat) : Prop := d = k ∨ wHr σ 0 k d
/-- what linking class k gives -/
def LnR (σ : Sg) (k : Nat) (s : LkS) (r : Int32 × LkS) : Prop := LkG σ (AbE σ k) s r.2 ∧ FOK r.1 ∧ (r.1 = 0 → σ.I 1101 k 0 = 26 ∨ r.2.2 (nW σ k) = 1)
theorem lk_keep {D : Nat → Prop} {s t : LkS} {c : Nat} (g : LkG σ D s t) (h : σ.I 1101 c 0 = 26 ∨ s.2 (nW σ c) = 1) : σ.I 1101 c 0 = 26 ∨ t.2 (nW σ c) = 1 := sorry
theorem Ldd.gg {D : Nat → Prop} {s t : LkS} {k : Nat} (h : Ldd σ s.1 k) (g : LkG σ D s t) : Ldd σ t.1 k := sorry
/-- what stands above k alone -/
def AbP (σ : Sg) (k d : Nat) : Prop := wHr σ 0 k d
theorem lkFs_ok (hM : WMa σ P) {g : Nat → LkS → Int32 × LkS} {k N : Nat} (hg : ∀ c s, hts σ c < N → c ∈ wKs σ 0 → LkI σ s → LnR σ c s (g c s)) (hN : hts σ k ≤ N) : ∀ (n j : Nat) (s : LkS), j + n = nFc σ k → Ldd σ s.1 k → LkI σ s → LkG σ (AbP σ k) s (lkFs σ g k n j s).2 ∧ FOK (lkFs σ g k n j s).1 ∧ ((lkFs σ g k n j s).1 = 0 → ∀ i c, j ≤ i → i < nFc σ k → wFind σ 0 (σ.L 1108 k i) = some c → σ.I 1101 c 0 = 26 ∨ (lkFs σ g k n j s).2.2 (nW σ c) = 1) := sorry
theorem lkF_ok (hM : WMa σ P) {g : Nat → LkS → Int32 × LkS} {k N : Nat} (hg : ∀ c s, hts σ c < N → c ∈ wKs σ 0 → LkI σ s → LnR σ c s (g c s)) (hN : hts σ k ≤ N) {s : LkS} (hk : Ldd σ s.1 k) (h26 : ¬ σ.I 1101 k 0 = 26) (hI : LkI σ s) : LkG σ (AbP σ k) s (lkF σ g k s).2 ∧ FOK (lkF σ g k s).1 ∧ ((lkF σ g k s).1 = 0 → ∀ c, SupL σ k c → σ.I 1101 c 0 = 26 ∨ (lkF σ g k s).2.2 (nW σ c) = 1) := sorry
theorem uAt_add {k i : Nat} : uAt σ k 0 + i = uAt σ k i := sorry
theorem lkH_ok (hM : WMa σ P) {g : Nat → LkS → Int32 × LkS} {k N : Nat} (hg : ∀ c s, hts σ c < N → c ∈ wKs σ 0 → LkI σ s → LnR σ c s (g c s)) (hN : hts σ k ≤ N) {s : LkS} (hk : Ldd σ s.1 k) (h26 : ¬ σ.I 1101 k 0 = 26) (hI : LkI σ s) : LkG σ (AbP σ k) s (lkH σ g k s).2 ∧ FOK (lkH σ g k s).1 ∧ ((lkH σ g k s).1 = 0 → FitK σ k ∧ ∀ c, SupL σ k c → σ.I 1101 c 0 = 26 ∨ (lkH σ g k s).2.2 (nW σ c) = 1) := sorry
theorem evt_len1 {st : LSt} {k : Nat} {v : Int32} : (evt σ st k v).2.length ≤ st.2.length + 1 ∧ (evt σ st k v).1 = st.1 ∧ zs (evt σ st k v) = zs st := sorry
theorem LOK.evt {st : LSt} {k : Nat} {v : Int32} (h : LOK st) : LOK (evt σ st k v) := sorry
theorem lnk_ok (hM : WMa σ P) : ∀ (n k : Nat) (s : LkS), hts σ k < n → k ∈ wKs σ 0 → LkI σ s → LnR σ k s (lnk σ n k s) := sorry
end LN
