/-! THE MODEL's MACHINE: calls of a level. -/
section IVU
variable {l : Launch} {G : Gl} {d D : Nat} {τ σ s t g : Sg} {P : Pg} {C : CalF} {S : StaF} {a fr ct tt ft k : Nat} {M : MSt} {self : Int32} {j : Nat} {as : List Int32}
set_option maxRecDepth 20000 in
theorem dv17 : ∀ w : Fin 192, ¬ nI w.1 / 12 = 17 := sorry
theorem not17 (hM : WMa τ P) (hk : k ∈ wKs τ 0) (nb : ¬ τ.I 1101 k 0 = 26) : ¬ nI (cM k) / 12 = 17 := sorry
theorem zsV_e {α : Type} {e : Env} {r : Rz α} {kk : MSt → α → Zs} : zsV (zse e r kk) = rzb r (fun t x => zsV (kk t x)) := sorry
theorem zv_0 {z : Zs} (h : Z0 z) {w : Int32} (hw : (zsV z).2 = .ok w) : 0 = w := sorry
theorem sup_sh {x : RT} (h : ¬ rSup x = false) : ∃ sz0 lb0 v0 sz1 lb1 v1 sz2 lb v2 y y' rest y0, x = .inner sz0 lb0 v0 (.inner sz1 lb1 v1 (.inner sz2 lb v2 y y') rest) y0 ∧ lb.op = 38 := sorry
theorem hg_rest {Γ : Nat → Int64} {st : Bool} {nl : Nat} {mt : Int64} {sz0 sz1 : Nat} {lb0 lb1 : RLb} {v0 v1 : Unit} {x2 rest y0 : RT} (o30 : lb0.op = 30) (hw : wtS τ k Γ st nl mt (.inner sz0 lb0 v0 (.inner sz1 lb1 v1 x2 rest) y0)) (hh : hgS (.inner sz0 lb0 v0 (.inner sz1 lb1 v1 x2 rest) y0) ≤ 13) : hgS rest ≤ 13 := sorry
/-- the member itself, one level down -/
theorem iv_run (hG : GOK G) (hD : 160 ≤ D) (hW : WQ τ σ P) (hFd : FdQ τ) (hMb : MbQ τ σ P) (hC : CaK τ C) (hS : StK τ S) (ha : a < 24) (hSt : ∀ d, D - 8 ≤ d → StM l G d τ σ S (a + 1)) (hCs : ∀ d, D - 8 ≤ d → CalM l G d τ σ C (a + 1)) (hd : D + 42 ≤ d) (hj : j < nMe τ k) (hca : CaH τ M (33 * k + j) as) (hk : KHw τ M k) (hI : MInv τ M) (h : MQst τ σ M (a + 1) 0 (fr + mLo σ (34 * cM k + j)) tt ft t) (hA : ArQ τ (33 * k + j) as self fr t) (hb : BdQ a fr tt ft) (hks : Kp fr tt ft s t) {x1 : Int32} (hx1 : x1 = nI (34 * cM k + j)) :
    (τ.B 1206 (33 * k + j) 0 = false → ¬ τ.I 1200 (33 * k + j) 0 = 2 → CT l G yX11_exec (ws_ yX11_exec cX11_exec 7 none) d [.ref (G.adr 11 0), .int (σ.I 2161 0 (34 * cM k + j)), .int (nI (cM k)), .int self, .int (nI fr)] t (oV (fun t2 => (¬ t2.I 2264 0 0 = 1 → wq_X11_invoke_168 l G d 0 x1 self (nI fr) (oQf τ σ (rnM τ P C S (33 * k + j) as M) a ct tt ft fr s) (nI ct) 0 t2) ∧ (t2.I 2264 0 0 = 1 → wq_X11_invoke_168 l G d 0 x1 self (nI fr) (oQf τ σ (rnM τ P C S (33 * k + j) as M) a ct tt ft fr s) (nI ct) (t2.I 2266 0 0) t2)) (fun x σ' => oQf τ σ (rnM τ P C S (33 * k + j) as M) a ct tt ft fr s (.threw x) σ'))) ∧
    (τ.B 1206 (33 * k + j) 0 = false → τ.I 1200 (33 * k + j) 0 = 2 → CT l G yX11_runMaker (ws_ yX11_runMaker cX11_runMaker 9 none) d [.ref (G.adr 11 0), .int x1, .int self, .int (nI fr)] t (oV (fun t2 => wq_X11_invoke_168 l G d 0 x1 self (nI fr) (oQf τ σ (rnM τ P C S (33 * k + j) as M) a ct tt ft fr s) (nI ct) 0 t2) (fun x σ' => oQf τ σ (rnM τ P C S (33 * k + j) as M) a ct tt ft fr s (.threw x) σ'))) ∧
    (τ.B 1206 (33 * k + j) 0 = true → CT l G yX11_alongBridge (ws_ yX11_alongBridge cX11_alongBridge 6 (some .int)) d [.ref (G.adr 11 0), .int x1, .int self, .int (nI fr)] t (oI (fun v t2 => wq_X11_invoke_168 l G d 0 x1 self (nI fr) (oQf τ σ (rnM τ P C S (33 * k + j) as M) a ct tt ft fr s) (nI ct) v t2) (fun x σ' => oQf τ σ (rnM τ P C S (33 * k + j) as M) a ct tt ft fr s (.threw x) σ'))) := sorry
end IVU
