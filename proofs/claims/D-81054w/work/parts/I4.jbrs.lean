/-! Judging, LinkHouse: given makers and bridges of all classes. -/
/-- class c gets a maker -/
def needM (τ : Sg) (c : Nat) : Bool := !τ.B 1102 c 0 && !kHMk τ c
/-- members of class c with the given maker -/
def tmT (τ : Sg) (c : Nat) : Nat := nMe τ c + (if needM τ c = true then 1 else 0)
/-- the bridges of class kk of build b -/
def jBr (τ : Sg) (b kk : Nat) : PR Unit := bnd (brA τ (12 * b + kk) (nMe τ (12 * b + kk)) 0 []) fun _ => .ok ()
/-- the columns of makers and bridges of build b -/
def pMk (τ : Sg) (b x y : Nat) : Bool := decide ((1116 < x ∧ x ≤ 1118 ∧ 12 * b ≤ y ∧ y < 12 * b + 12) ∨ (1199 < x ∧ x ≤ 1222 ∧ 12 * b ≤ y / 33 ∧ y / 33 < 12 * b + 12 ∧ nMe τ (y / 33) ≤ y % 33) ∨ (1303 < x ∧ x ≤ 1313) ∨ x = 1603)
theorem pMk_iff {τ : Sg} {b x y : Nat} : pMk τ b x y = true ↔ (1116 < x ∧ x ≤ 1118 ∧ 12 * b ≤ y ∧ y < 12 * b + 12) ∨ (1199 < x ∧ x ≤ 1222 ∧ 12 * b ≤ y / 33 ∧ y / 33 < 12 * b + 12 ∧ nMe τ (y / 33) ≤ y % 33) ∨ (1303 < x ∧ x ≤ 1313) ∨ x = 1603 := sorry
theorem pMk_no {τ : Sg} {b x y : Nat} (h : ¬ ((1116 < x ∧ x ≤ 1118 ∧ 12 * b ≤ y ∧ y < 12 * b + 12) ∨ (1199 < x ∧ x ≤ 1222 ∧ 12 * b ≤ y / 33 ∧ y / 33 < 12 * b + 12 ∧ nMe τ (y / 33) ≤ y % 33) ∨ (1303 < x ∧ x ≤ 1313) ∨ x = 1603)) : pMk τ b x y = false := sorry
theorem pMk_t {τ : Sg} {b c j x : Nat} (hj : j < nMe τ c) (h33 : nMe τ c ≤ 33) (h1 : 1199 < x) (h2 : x ≤ 1222) : pMk τ b x (33 * c + j) = false := sorry
theorem pMk_pJ {τ : Sg} {b : Nat} : ∀ x y, pMk τ b x y = true → pJ b x y = true := sorry
/-- the maker and the bridges of a class that is done -/
def Dn (τ s : Sg) (c : Nat) (Bs : BrL) : Prop := brA τ c (nMe τ c) 0 [] = .ok Bs ∧ Bs.length ≤ 12 ∧ s.I 1117 c 0 = nI (tmT τ c + Bs.length) ∧ s.I 1118 c 0 = nI Bs.length ∧ (needM τ c = true → MB s (33 * c + nMe τ c) c (nwI 2 (if τ.B 1103 c 0 = true then 3 else 1) 0) (nwB false false) (nwL 0 0) (-2) (-2) (-2)) ∧ ∀ i p, Bs[i]? = some p → NBf τ s c (33 * c + tmT τ c + i) p.1 p.2 ∧ ∃ j, j < nMe τ c ∧ p.1 = 33 * c + j ∧ τ.I 1200 p.1 0 = 1
/-- makers and bridges of the classes before the i-th came -/
def LBv (τ s : Sg) (b i : Nat) : Prop := Fl (pMk τ b) τ s ∧ (∀ i', i' < i → ∃ Bs, Dn τ s (12 * b + i') Bs) ∧ ∀ i', i ≤ i' → i' < 12 → s.I 1117 (12 * b + i') 0 = τ.I 1117 (12 * b + i') 0 ∧ s.I 1118 (12 * b + i') 0 = τ.I 1118 (12 * b + i') 0
theorem tmT_le {τ : Sg} {c : Nat} : nMe τ c ≤ tmT τ c ∧ tmT τ c ≤ nMe τ c + 1 := sorry
/-- a state of this phase is as before, but for makers and bridges -/
theorem LBv.ex {τ s : Sg} {b i : Nat} (h : LBv τ s b i) (hS : Shp τ) (hb : b < 16) (hi : i ≤ 12) (hm : ∀ k, k < i → nMe τ (12 * b + k) ≤ 20) : ExM τ s ∧ ∀ c, c < 194 → nMe s c ≤ 33 ∧ s.I 1117 c 0 = nI (nMe s c) := sorry
