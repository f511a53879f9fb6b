/-! Whether a use's class stands in THE WORLD. -/
section STD9
variable {l : Launch} {G : Gl} {d n : Nat} {s t : Sg} {P : Pg} {b i v lib k : Nat}
/-- a class of a build that is in THE WORLD: its build is picked -/
theorem WrI.pkd (h : WrI s P) (hl : lib < 5) (hk : k < hMy s lib) (hi : i < 12) (hin : 12 * hSt s lib k + i ∈ wLy s) : s.I 1008 0 lib = nI k := sorry
theorem WrI.num (h : WrI s P) (hb : b < hN s) (hi : i < hKs s b) : (¬ s.I 1128 (12 * b + i) 0 = -2) ↔ 12 * b + i ∈ wLy s := sorry
/-- the model asks so -/
theorem WrI.fnd1 (h : WrI s P) (hl : lib < 5) (hk : k < hMy s lib) (hi : i < hKs s (hSt s lib k)) (hi12 : i < 12) : (s.I 2190 0 lib = nI (hSt s lib k) ∧ mFnd s (s.L 2124 0 (12 * hSt s lib k + i)) = some (12 * hSt s lib k + i)) ↔ 12 * hSt s lib k + i ∈ wLy s := sorry
theorem sp_X11_stands_2 (hG : GOK G) (hd : 3 ≤ d) (h : WrI s P) (hl : lib < 5) (hk : k < hMy s lib) (hv : v < hUs s (hSt s lib k)) (hi : i < hKs s (hSt s lib k)) (ho : s.I 2220 0 (1800 * hSt s lib k + v) = nI (12 * hSt s lib k + i)) {x : Int32} (hx : x = nI (1800 * hSt s lib k + v)) : CT l G yX11_stands_2 (ws_ yX11_stands_2 cX11_stands_2 3 (some .boolean)) d [.ref (G.adr 11 0), .int x] s (rZ (decide (12 * hSt s lib k + i ∈ wLy s)) (fun t => t = s)) := sorry
end STD9
