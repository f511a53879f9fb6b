/-! The model lays the uses of every S. -/
theorem ndS_41 {τ : Sg} {k sz : Nat} {mt : Int64} {b : Lb} {u : Unit} {x y : Tr} (h : b.1 = 0 ∨ b.1 = 41) : ndS τ k mt (.inner sz b u x y) = ndS τ k mt x ++ ndS τ k mt y := sorry
theorem ndS_30 {τ : Sg} {k sz : Nat} {mt : Int64} {b : Lb} {u : Unit} {x y : Tr} (h : b.1 = 30) : ndS τ k mt (.inner sz b u x y) = ndS τ k mt x := sorry
theorem ndS_31 {τ : Sg} {k sz : Nat} {mt : Int64} {b : Lb} {u : Unit} {x y : Tr} (h : b.1 = 31) : ndS τ k mt (.inner sz b u x y) = ndE τ k x [] ++ fitU k (tyO x) (lN b.2.2.2.2.2.1) := sorry
theorem ndS_32 {τ : Sg} {k sz : Nat} {mt : Int64} {b : Lb} {u : Unit} {x y : Tr} (h : b.1 = 32 ∨ b.1 = 33) : ndS τ k mt (.inner sz b u x y) = ndE τ k x [] ++ ndS τ k mt y := sorry
theorem ndS_34 {τ : Sg} {k sz : Nat} {mt : Int64} {b : Lb} {u : Unit} {x y : Tr} (h : b.1 = 34) : ndS τ k mt (.inner sz b u x y) = (if isLf x = true then [] else ndE τ k x [] ++ fitU k (tyO x) mt) := sorry
theorem ndS_35 {τ : Sg} {k sz : Nat} {mt : Int64} {b : Lb} {u : Unit} {x y : Tr} (h : b.1 = 35) : ndS τ k mt (.inner sz b u x y) = ndE τ k x [] ++ fitU k (tyO x) 6959884 := sorry
theorem ndS_36 {τ : Sg} {k sz : Nat} {mt : Int64} {b : Lb} {u : Unit} {x y : Tr} (h : b.1 = 36) : ndS τ k mt (.inner sz b u x y) = ndS τ k mt x ++ (uC k 15 (lN b.2.2.2.2.2.1) :: ndS τ k mt y) := sorry
theorem ndS_37 {τ : Sg} {k sz : Nat} {mt : Int64} {b : Lb} {u : Unit} {x y : Tr} (h : b.1 = 37 ∨ b.1 = 39) : ndS τ k mt (.inner sz b u x y) = ndE τ k x [] := sorry
theorem ndS_38 {τ : Sg} {k sz : Nat} {mt : Int64} {b : Lb} {u : Unit} {x y : Tr} (h : b.1 = 38) : ndS τ k mt (.inner sz b u x y) = prU τ k (mB b) (ndE τ k x (pmL τ (mB b))) := sorry
theorem ndS_40 {τ : Sg} {k sz : Nat} {mt : Int64} {b : Lb} {u : Unit} {x y : Tr} (h : b.1 = 40) : ndS τ k mt (.inner sz b u x y) = ndE τ k (ptO x) [] ++ (ndE τ k y [] ++ (fitU k (tyO y) (tyO x) ++ ptU τ k x)) := sorry
theorem sw12 {z : Int} {K : Nat} {P1 P2 P3 P4 P5 P6 P7 P8 P9 P10 P11 D : Prop} (hz : z = K) (hK : 20 ≤ K ∧ K ≤ 30) (h1 : K = 20 → P1) (h2 : K = 21 → P2) (h3 : K = 22 → P3) (h4 : K = 23 → P4) (h5 : K = 24 → P5) (h6 : K = 25 → P6) (h7 : K = 26 → P7) (h8 : K = 27 → P8) (h9 : K = 28 → P9) (h10 : K = 29 → P10) (h11 : K = 30 → P11) : (z = 20 → P1) ∧ (z = 21 → P2) ∧ (z = 22 → P3) ∧ (z = 23 → P4) ∧ (z = 24 → P5) ∧ (z = 25 → P6) ∧ (z = 26 → P7) ∧ (z = 27 → P8) ∧ (z = 28 → P9) ∧ (z = 29 → P10) ∧ (z = 30 → P11) ∧ ((z < 20 ∨ 30 < z) → D) := sorry
theorem wFits_2 {τ : Sg} {w : Nat} {t v : Int64} (h : wFits τ w t v = true) (h1 : TyOK t) (h2 : TyOK v) : t = v ∨ t = 2 ∨ (TyC t ∧ TyC v) := sorry
theorem tyL_nil {x : Tr} (h : tyL x = []) : x = .leaf := sorry
section SPX
variable {l : Launch} {G : Gl} {d : Nat} {τ : Sg} {b k n L qm : Nat} {B : Nat → Nat} {ms : Int32} {mt : Int64}
set_option maxHeartbeats 1600000 in
theorem muS_n (hG : GOK G) (hB : BOK B n) (hNE : NEt (yTok B n) L) (hH : UsH τ) {sz : Nat} {bb : Lb} {uu : Unit} {x y : Tr} (hd : 4 * ht (Std.DTreeMap.Internal.Impl.inner sz bb uu x y) + 28 ≤ d) (h30 : bb.1 = 30 → LpUs l G d τ b k B n L qm ms mt x) (h36 : bb.1 = 36 → SpUs l G d τ b k B n L qm ms mt x ∧ SpUs l G d τ b k B n L qm ms mt y) (h32 : bb.1 = 32 ∨ bb.1 = 33 → ∀ sz' b' u' xs ys, y = .inner sz' b' u' xs ys → b'.1 = 41 → SpUs l G d τ b k B n L qm ms mt xs ∧ SpUs l G d τ b k B n L qm ms mt ys) : SpUs l G (d + 1) τ b k B n L qm ms mt (.inner sz bb uu x y) := sorry
end SPX
