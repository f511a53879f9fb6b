/-! The judge of an E, kind by kind. -/
theorem tt_no {k : Nat} (h : k = 1 ∨ k = 2 ∨ k = 3 ∨ k = 4 ∨ k = 6 ∨ k = 11 ∨ k = 17 ∨ k = 19 ∨ k = 20) : twy k = false ∧ thy k = false := sorry
theorem tt_th {k : Nat} (h : k = 5 ∨ k = 7 ∨ k = 8 ∨ k = 9 ∨ k = 10 ∨ k = 18) : twy k = false ∧ thy k = true := sorry
theorem tt_tw {k : Nat} (h : k = 12 ∨ k = 13 ∨ k = 14 ∨ k = 15 ∨ k = 16) : twy k = true ∧ thy k = false := sorry
section CK
variable {σ : Sg} {k sz : Nat} {st : Bool} {Lc : List (Int64 × Int64 × Nat)} {b : Lb} {u : Unit} {x y : Tr}
theorem ckR_n (h : ¬ (6 ≤ b.1 ∧ b.1 ≤ 8)) (h2 : ¬ (b.1 = 10 ∨ b.1 = 11)) : ckR σ k b = .ok () := sorry
theorem ckR_6 (h : b.1 = 6 ∨ b.1 = 7 ∨ b.1 = 8) : ckR σ k b = bnd (ckK σ k (lN b.2.2.2.2.2.1) b.2.1) fun _ => .ok () := sorry
theorem ckR_10 (h : b.1 = 10 ∨ b.1 = 11) : ckR σ k b = bnd (ckK σ k (lN b.2.2.2.2.2.1) b.2.2.2.1) fun _ => .ok () := sorry
theorem ckE_1 (q : b.1 = 1 ∨ b.1 = 2 ∨ b.1 = 3 ∨ b.1 = 4) : ckE σ k st Lc (.inner sz b u x y) = (bnd (ckN σ k st Lc b x y) fun b' => .ok (.inner sz b' u x y)) := sorry
theorem ckE_5 (q : b.1 = 5 ∨ b.1 = 9) : ckE σ k st Lc (.inner sz b u x y) = (bnd (ckE σ k st Lc y) fun y' => bnd (ckN σ k st Lc b x y') fun b' => .ok (.inner sz b' u x y')) := sorry
theorem ckE_6 (q : b.1 = 6) : ckE σ k st Lc (.inner sz b u x y) = (bnd (ckK σ k (lN b.2.2.2.2.2.1) b.2.1) fun _ => bnd (ckN σ k st Lc b x y) fun b' => .ok (.inner sz b' u x y)) := sorry
theorem ckE_7 (q : b.1 = 7 ∨ b.1 = 8) : ckE σ k st Lc (.inner sz b u x y) = (bnd (ckK σ k (lN b.2.2.2.2.2.1) b.2.1) fun _ => bnd (ckE σ k st Lc y) fun y' => bnd (ckN σ k st Lc b x y') fun b' => .ok (.inner sz b' u x y')) := sorry
theorem ckE_10 (q : b.1 = 10) : ckE σ k st Lc (.inner sz b u x y) = (bnd (ckK σ k (lN b.2.2.2.2.2.1) b.2.2.2.1) fun _ => bnd (ckE σ k st Lc y) fun y' => bnd (ckN σ k st Lc b x y') fun b' => .ok (.inner sz b' u x y')) := sorry
theorem ckE_11 (q : b.1 = 11) : ckE σ k st Lc (.inner sz b u x y) = (bnd (ckK σ k (lN b.2.2.2.2.2.1) b.2.2.2.1) fun _ => bnd (ckE σ k st Lc x) fun x' => bnd (ckN σ k st Lc b x' y) fun b' => .ok (.inner sz b' u x' y)) := sorry
theorem ckE_12 (q : b.1 = 12 ∨ b.1 = 13 ∨ b.1 = 14 ∨ b.1 = 15 ∨ b.1 = 16) : ckE σ k st Lc (.inner sz b u x y) = (bnd (ckE σ k st Lc x) fun x' => bnd (ckE σ k st Lc y) fun y' => bnd (ckN σ k st Lc b x' y') fun b' => .ok (.inner sz b' u x' y')) := sorry
theorem ckE_17 (q : b.1 = 17 ∨ b.1 = 19 ∨ b.1 = 20) : ckE σ k st Lc (.inner sz b u x y) = (bnd (ckE σ k st Lc x) fun x' => bnd (ckN σ k st Lc b x' y) fun b' => .ok (.inner sz b' u x' y)) := sorry
theorem ckE_18 (q : b.1 = 18) : ckE σ k st Lc (.inner sz b u x y) = (bnd (ckE σ k st Lc x) fun x' => bnd (ckE σ k st Lc y) fun y' => bnd (ckN σ k st Lc b x' y') fun b' => .ok (.inner sz b' u x' y')) := sorry
end CK
