/-! THE MODEL's MACHINE: steps, fields are put, what an S leaves. -/
section PUT
variable {l : Launch} {G : Gl} {d : Nat} {τ σ s t : Sg} {P : Pg} {C : CalF} {S : StaF} {a ct tt ft k u : Nat} {M M' : MSt} {st : Int32}
/-- a column of what runs changes -/
theorem MQst.run {c j : Nat} {v : Int32} (h : MQst τ σ M a st ct tt ft s) (hc : (2247 < c ∧ c ≤ 2253) ∨ c = 2263 ∨ c = 2268 ∨ c = 2269) (e : M'.sr = M.sr) (hm : MMm τ (sI s c 0 j v) M') : MQst τ σ M' a st ct tt ft (sI s c 0 j v) := sorry
theorem MQst.sp' (h : MQst τ σ M a st ct tt ft s) {n : Nat} : MQst τ σ (M.wSp n) a st ct tt ft (sI s 2263 0 0 (nI n)) := sorry
theorem MQst.ce' (h : MQst τ σ M a st ct tt ft s) {p : Nat} {v : Int32} : MQst τ σ (M.wCe (setN M.ce p v)) a st ct tt ft (sI s 2252 0 p v) := sorry
theorem MQst.sv' (hM : WMa τ P) (h : MQst τ σ M a st ct tt ft s) {d' j' : Nat} {v : Int32} (hd : d' ∈ wKs τ 0) (hj' : j' < nMe τ d') (f0 : τ.I 1200 (33 * d' + j') 0 = 0) (fs : τ.B 1203 (33 * d' + j') 0 = true) : MQst τ σ (M.wSv (setN M.sv (svA τ (33 * d' + j')) v)) a st ct tt ft (sI s 2248 0 (34 * cM d' + j') v) := sorry
theorem MQst.ou' (h : MQst τ σ M a st ct tt ft s) {v : Int32} : MQst τ σ (M.wOu (M.ou ++ [v])) a st ct tt ft (sI (sI s 2268 0 M.ou.length v) 2269 0 0 (nI (M.ou.length + 1))) := sorry
/-- columns that keep what lies below -/
theorem Kp.put {fr c j : Nat} {v : Int32} (h : Kp fr tt ft s t) (hc : (c = 2254 → fr ≤ j) ∧ ((2255 < c ∧ c ≤ 2260) → tt ≤ j) ∧ (c = 2272 → ft ≤ j)) (hq : c ≠ 2270 ∧ c ≠ 2271 ∧ c ≠ 2267 := by omega) : Kp fr tt ft s (sI t c 0 j v) := sorry
/-- a step more -/
theorem sp_steps (hG : GOK G) (hd : 2 ≤ d) (hI : MInv τ M) (h : MQst τ σ M a 0 ct tt ft s) : CT l G yX11_steps (ws_ yX11_steps cX11_steps 1 (some .boolean)) d [.ref (G.adr 11 0)] s (rZ (decide (¬ M.sp = 20000)) (fun t => RQm τ σ (stp M) a ct tt ft t ∧ ∀ ct tt ft, Kp ct tt ft s t)) := sorry
end PUT
