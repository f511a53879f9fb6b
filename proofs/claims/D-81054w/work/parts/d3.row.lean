/-! LINKHOUSE's MACHINE: codes with a use: fields of objects, asks, casts. -/
section ROW
variable {l : Launch} {G : Gl} {d : Nat} {σ s : Sg} {P : Pg}
variable {M : MSt} {a : Nat} {S0 : Bw} {m p k b u : Nat} {ic : Bool} {e : Env} {o as : List Int32} {fs : List Fr}
theorem LCL.st {st : LSt} (h : stat s = stat σ) (hw : LCL σ st) : LCL s st := sorry
theorem rsR_se (h : stat s = stat σ) {u b : Nat} {st : LSt} : rsR s u b st = rsR σ u b st := sorry
theorem wKs_se (h : stat s = stat σ) : wKs s 0 = wKs σ 0 := sorry
theorem I1700_se (h : stat s = stat σ) {u : Nat} : s.I 1700 u 0 = σ.I 1700 u 0 ∧ s.R 1701 u 0 = σ.R 1701 u 0 ∧ s.L 1702 u 0 = σ.L 1702 u 0 := sorry
theorem K1100_se (h : stat s = stat σ) {u : Nat} : s.B 1102 u 0 = σ.B 1102 u 0 ∧ s.L 1100 u 0 = σ.L 1100 u 0 ∧ s.I 1101 u 0 = σ.I 1101 u 0 := sorry
/-- a use is met -/
theorem sp_res (hG : GOK G) (hd : 138 ≤ d) (hM : WMa σ P) {F : FSt} (h : MRl σ F s) (hI : MInv σ F.1) (hk : k ∈ wKs σ 0) (nb : ¬ σ.I 1101 k 0 = 26) (hu : u < nUk σ k) : CT l G yX8_resolve (ws_ yX8_resolve cX8_resolve 5 (some .int)) d [.ref (G.adr 8 1), rv G 7 (some (uAt σ k u))] s (rI (rsR σ (uAt σ k u) k F.1.ls).1 (fun t => MRl σ (F.1.wLs (rsR σ (uAt σ k u) k F.1.ls).2.1, F.2) t ∧ t.R 1804 1 0 = (rsR σ (uAt σ k u) k F.1.ls).2.2.1 ∧ t.R 1805 1 0 = (rsR σ (uAt σ k u) k F.1.ls).2.2.2.1 ∧ t.I 1914 0 0 = s.I 1914 0 0)) := sorry
/-- by a use -/
theorem bu_row (hG : GOK G) {op : Int32} {v : Int32} {R : Sg → Prop} (hop : op.toInt < 22) (hM : WMa σ P) {F : FSt} (h : MRl σ F s) (hk : k ∈ wKs σ 0) (nb : ¬ σ.I 1101 k 0 = 26) (hu : u < nUk σ k) (H : CT l G yX9_byRow (ws_ yX9_byRow cX9_byRow 6 (some .int)) d [.ref (G.adr 9 0), .int op, rv G 7 (some (uAt σ k u))] s (rI v R)) : CT l G yX9_byUse (ws_ yX9_byUse cX9_byUse 5 (some .int)) (d + 1) [.ref (G.adr 9 0), .int op, .int (nI u), rv G 1 (some k)] s (rI v R) := sorry
end ROW
