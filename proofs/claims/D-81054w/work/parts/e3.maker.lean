/-! LINKHOUSE's MACHINE: makers. -/
/-- what is built in is given nothing -/
def MeB (σ : Sg) : Prop := ∀ k, k ∈ wKs σ 0 → σ.I 1101 k 0 = 26 → ∀ j, j < nMe σ k → nPa σ (33 * k + j) = 0
section CL4
variable {l : Launch} {G : Gl} {d : Nat} {σ s : Sg} {P : Pg}
variable {M : MSt} {a : Nat} {S0 : Bw} {m p k b u : Nat} {ic : Bool} {e : Env} {as : List Int32} {fs : List Fr}
theorem br_19 (hG : GOK G) (hu16 : uAt σ k u < 16000) {v : Int32} {R : Sg → Prop} (H : wq_X9_byRow_28 l G d 0 19 (some (uAt σ k u)) (rI v R) s) : CT l G yX9_byRow (ws_ yX9_byRow cX9_byRow 6 (some .int)) (d + 1) [.ref (G.adr 9 0), .int 19, rv G 7 (some (uAt σ k u))] s (rI v R) := sorry
/-- the maker that a use comes to -/
theorem mak_at (hM : WMa σ P) {t : MSt} (hIt : MInv σ t) (h3 : uSo σ k u = 2) (hk : k ∈ wKs σ 0) (nbk : ¬ σ.I 1101 k 0 = 26) (hu : u < nUk σ k) {c : Nat} {r : MT} (hq : RsOk σ (uAt σ k u) k c r) {o : Int32} (ho : vOk σ t (uTi σ k u) o) (hn : ¬ uTi σ k u = 1) (h0 : ¬ o = 0) (ha : vOkL σ t (uPm σ k u) as) : ∃ j, r.2.2.1 = some (33 * c + j) ∧ c ∈ wKs σ 0 ∧ j < nMe σ c ∧ nPa σ (33 * c + j) = as.length ∧ (¬ σ.I 1101 c 0 = 26 → CaH σ t (33 * c + j) (o :: as) ∧ σ.L 1207 (33 * c + j) 0 = 0) := sorry
theorem br_maker (hG : GOK G) (hd : 140 ≤ d) (hM : WMa σ P) (hE : MeE σ) (hMb : MeB σ) (hI : MInv σ M) {v : Int32} (hk : KHw σ M k) (hu : u < nUk σ k) (h3 : uSo σ k u = 2) (ho : vOk σ M (uTi σ k u) v) (hn : ¬ uTi σ k u = 1) (h0 : ¬ v = 0) (ha : vOkL σ M (uPm σ k u) as) : ∃ M', ((∀ C, rzM σ C k u v as M = rzk M' 0) ∧ MInv σ M' ∧ Ext M M' ∧ ∀ s a S0 m p ic e o fs, MRl σ (M, a, S0, (m, p, ic, e, (v :: as).reverse ++ o) :: fs) s → CT l G yX9_byRow (ws_ yX9_byRow cX9_byRow 6 (some .int)) d [.ref (G.adr 9 0), .int 19, rv G 7 (some (uAt σ k u))] s (rI 0 (fun t => MRl σ (M', a, S0, (m, p, ic, e, o) :: fs) t))) ∨
    ∃ D, ClP σ (fun C => rzM σ C k u v as M) M 0 M' D ∧ ∀ s a S0 m p ic e o fs, MRl σ (M, a, S0, (m, p, ic, e, (v :: as).reverse ++ o) :: fs) s → Rmx σ a S0 ((m, p, ic, e, o) :: fs) → CT l G yX9_byRow (ws_ yX9_byRow cX9_byRow 6 (some .int)) d [.ref (G.adr 9 0), .int 19, rv G 7 (some (uAt σ k u))] s (rI (caV M' a D) (CaO σ M' a S0 D m p ic e o fs)) := sorry
end CL4
