/-! LinkHouse writes an S: every S. -/
section SPX
variable {l : Launch} {G : Gl} {d : Nat} {τ : Sg} {b k n0 n r : Nat} {B : Nat → Nat} {ms : Int32} {mt : Int64}
theorem ws_S (hG : GOK G) {sz : Nat} {bb : Lb} {u : Unit} {x y : Tr} (hd : 12 ≤ d) (hE : ∀ z, ht z + 1 ≤ ht (Std.DTreeMap.Internal.Impl.inner sz bb u x y) → SpW l G d τ b k n0 B n r z ∧ SpW l G (d - 1) τ b k n0 B n r z ∧ SpWa l G (d - 1) τ b k n0 B n r z) (hT : bb.1 = 30 → SpWt l G d τ b k n0 B n r ms mt x) (hS : bb.1 = 36 → SpWs l G (d - 1) τ b k n0 B n r ms mt x ∧ SpWs l G (d - 1) τ b k n0 B n r ms mt y) (hP : bb.1 = 32 ∨ bb.1 = 33 → ∀ (sz2 : Nat) (b2 : Lb) (u2 : Unit) (yt ye : Tr), y = .inner sz2 b2 u2 yt ye → b2.1 = 41 → SpWs l G d τ b k n0 B n r ms mt yt ∧ SpWs l G d τ b k n0 B n r ms mt ye) : SpWs l G (d + 1) τ b k n0 B n r ms mt (.inner sz bb u x y) := sorry
end SPX
