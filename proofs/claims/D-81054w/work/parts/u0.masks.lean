/-! The model answers what is asked of the house. -/
section MSK
variable {l : Launch} {G : Gl} {d : Nat} {σ s : Sg}
theorem in_lt {x y : Int32} {n : Nat} {A C : Prop} (e : y = nI n) (hn : n < 2 ^ 31) (h1 : inN n x = false → A) (h2 : ∀ k, x = nI k → k < n → inN n x = true → C) : (x < 0 → A) ∧ (¬ x < 0 → ((x < y → C) ∧ (¬ x < y → A))) := sorry
theorem in_le {x y : Int32} {n : Nat} {A C : Prop} (e : y = nI n) (hn : n < 2 ^ 31) (h1 : inN n x = false → A) (h2 : ∀ k, x = nI k → k < n → inN n x = true → C) : (x < 0 → A) ∧ (¬ x < 0 → ((y ≤ x → A) ∧ (¬ y ≤ x → C))) := sorry
theorem in_l2 {x y : Int32} {n : Nat} {A C : Prop} (e : y = nI n) (hn : n + 1 < 2 ^ 31) (h1 : inN (n + 1) x = false → A) (h2 : ∀ k, x = nI k → k < n + 1 → inN (n + 1) x = true → C) : (x < 0 → A) ∧ (¬ x < 0 → ((x ≤ y → C) ∧ (¬ x ≤ y → A))) := sorry
theorem sp_X11_isLib (hG : GOK G) (hd : 1 ≤ d) (x : Int32) : CT l G yX11_isLib (ws_ yX11_isLib cX11_isLib 2 (some .boolean)) d [.ref (G.adr 11 0), .int x] σ (rZ (inN 5 x) (fun s => s = σ)) := sorry
theorem HOK.b (h : HOK σ) {x y : Int32} {b : Nat} (e : hB σ x y = some b) : b < hN σ ∧ b < 16 := sorry
/-- the tables of the house agree -/
def HsT (s : Sg) : Prop := s.I 2110 0 0 = s.I 1005 0 0 ∧ (∀ lib, lib < 5 → s.I 2109 0 lib = s.I 1007 0 lib) ∧ (∀ lib k, lib < 5 → k < hMy s lib → s.I 2108 0 (8 * lib + k) = s.I 1006 0 (8 * lib + k) ∧ s.I 2107 0 (hSt s lib k) = nI lib) ∧
  (∀ lib k lib' k', lib < 5 → lib' < 5 → k < hMy s lib → k' < hMy s lib' → hSt s lib k = hSt s lib' k' → lib = lib' ∧ k = k') ∧ s.I 2191 0 0 = -2 ∧ ∀ b, b < hN s → s.I 2123 0 b = s.I 2007 b 0 ∧ s.I 2218 0 b = s.I 2009 b 0
/-- what is picked -/
def HsP (s : Sg) : Prop := ∀ lib, lib < 5 → s.I 2190 0 lib = if s.I 1008 0 lib = -2 then -2 else nI (hSt s lib (s.I 1008 0 lib).toNatClampNeg)
def HsR (s : Sg) : Prop := HsT s ∧ HsP s
theorem sp_X11_slotAt (hG : GOK G) (hd : 2 ≤ d) (hH : HOK σ) (hR : HsT σ) (x y : Int32) : CT l G yX11_slotAt (ws_ yX11_slotAt cX11_slotAt 3 (some .int)) d [.ref (G.adr 11 0), .int x, .int y] σ (rI (oN (hB σ x y)) (fun s => s = σ)) := sorry
theorem sp_X11_builds (hG : GOK G) (hd : 2 ≤ d) (hR : HsT σ) (x : Int32) : CT l G yX11_builds (ws_ yX11_builds cX11_builds 2 (some .int)) d [.ref (G.adr 11 0), .int x] σ (rI (a_builds σ x) (fun s => s = σ)) := sorry
theorem sp_X11_classes (hG : GOK G) (hd : 3 ≤ d) (hH : HOK σ) (hR : HsT σ) (x y : Int32) : CT l G yX11_classes (ws_ yX11_classes cX11_classes 4 (some .int)) d [.ref (G.adr 11 0), .int x, .int y] σ (rI (a_classes σ x y) (fun s => s = σ)) := sorry
theorem sp_X11_uses (hG : GOK G) (hd : 3 ≤ d) (hH : HOK σ) (hR : HsT σ) (x y : Int32) : CT l G yX11_uses (ws_ yX11_uses cX11_uses 4 (some .int)) d [.ref (G.adr 11 0), .int x, .int y] σ (rI (a_uses σ x y) (fun s => s = σ)) := sorry
/-- the use in the model's numbers -/
def mUx (o : Option Nat) : Option Nat := o.map fun u => 1800 * (u / 1000) + u % 1000
theorem sp_X11_useAt (hG : GOK G) (hd : 3 ≤ d) (hH : HOK σ) (hR : HsT σ) (x y z : Int32) : CT l G yX11_useAt (ws_ yX11_useAt cX11_useAt 5 (some .int)) d [.ref (G.adr 11 0), .int x, .int y, .int z] σ (rI (oN (mUx (hU σ x y z))) (fun s => s = σ)) := sorry
end MSK
