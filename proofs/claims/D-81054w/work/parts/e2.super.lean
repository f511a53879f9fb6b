/-! LINKHOUSE's MACHINE: by super, makers. -/
section CL3
variable {l : Launch} {G : Gl} {d : Nat} {σ s : Sg} {P : Pg}
variable {M : MSt} {a : Nat} {S0 : Bw} {m p k b u : Nat} {ic : Bool} {e : Env} {as : List Int32} {fs : List Fr}
theorem dcU_ok (hM : WMa σ P) {t : MSt} (hIt : MInv σ t) {v : Nat} (hv : v = 11 ∨ v = 12) (h3' : uSo σ k u = nI v) (kt : KHw σ t k) (hu : u < nUk σ k) {c : Nat} {r : MT} (lct : Ldd σ t.ls c) (hq : RsOk σ (uAt σ k u) k c r) {o : Int32} (ho : vOk σ t (σ.L 1100 k 0) o) (h0 : ¬ o = 0) (ha : vOkL σ t (uPm σ k u) as) : ∃ x, r.2.2.2.1 = some x ∧ CaH σ t x (o :: as) ∧ σ.L 1207 x 0 = uTy σ k u := sorry
/-- by super -/
theorem br_callU (hG : GOK G) (hd : 140 ≤ d) (hM : WMa σ P) (hE : MeE σ) (hI : MInv σ M) {v : Int32} (hk : KHw σ M k) (hu : u < nUk σ k) (h3 : uSo σ k u = 11 ∨ uSo σ k u = 12) (ho : vOk σ M (σ.L 1100 k 0) v) (h0 : ¬ v = 0) (ha : vOkL σ M (uPm σ k u) as) : ∃ M' D, ClP σ (fun C => rzU σ C k u v as M) M (uTy σ k u) M' D ∧ ∀ s a S0 m p ic e o fs, MRl σ (M, a, S0, (m, p, ic, e, (v :: as).reverse ++ o) :: fs) s → Rmx σ a S0 ((m, p, ic, e, o) :: fs) → CT l G yX9_byRow (ws_ yX9_byRow cX9_byRow 6 (some .int)) d [.ref (G.adr 9 0), .int 17, rv G 7 (some (uAt σ k u))] s (rI (caV M' a D) (CaO σ M' a S0 D m p ic e o fs)) := sorry
end CL3
