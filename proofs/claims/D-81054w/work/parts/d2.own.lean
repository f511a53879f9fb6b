/-! LINKHOUSE's MACHINE: fields that are laid first, static ones. -/
section OWN
variable {l : Launch} {G : Gl} {d : Nat} {σ s : Sg} {P : Pg}
variable {M : MSt} {a : Nat} {S0 : Bw} {m p k b : Nat} {ic : Bool} {e : Env} {o as : List Int32} {fs : List Fr} {ar : Int32}
theorem I1128_se (h : stat s = stat σ) {k : Nat} : s.I 1128 k 0 = σ.I 1128 k 0 := sorry
theorem bu_owns (hG : GOK G) (hd : 1 ≤ d) (hM : WMa σ P) {v : Int32} {j : Nat} (hk : k ∈ wKs σ 0) (hj : j < 20) (h : MRl σ (M, a, S0, (m, p, ic, e, v :: o) :: fs) s) (hb : Frb σ S0 m (v :: o) fs) : CT l G yX9_byUse (ws_ yX9_byUse cX9_byUse 5 (some .int)) d [.ref (G.adr 9 0), .int 26, .int (nI j), rv G 1 (some k)] s (rI 0 (fun t => MRl σ (M.wSv (setN M.sv (20 * nW σ k + j) v), a, S0, (m, p, ic, e, o) :: fs) t)) := sorry
/-- a field of an object: where it lies -/
theorem cell_at (hM : WMa σ P) (hI : MInv σ M) {i c a' d' j : Nat} (eo : M.ob[i]? = some (c, a')) (hd : d' ∈ wUps σ c) (hj : j < nMe σ d') (h0 : σ.I 1200 (33 * d' + j) 0 = 0) (hs : σ.B 1203 (33 * d' + j) 0 = false) : i < 200 ∧ a' + slA σ (33 * d' + j) < 2000 ∧ Ldd σ M.ls d' := sorry
theorem bu_ownf (hG : GOK G) (hd : 4 ≤ d) (hM : WMa σ P) (hI : MInv σ M) {v : Int32} {i c a' j : Nat} (h0e : 0 < nLo σ (33 * k + j)) (eo : M.ob[i]? = some (c, a')) (ee : e 0 = nI (i + 1)) (hk : k ∈ wUps σ c) (hj : j < nMe σ k) (h0 : σ.I 1200 (33 * k + j) 0 = 0) (hs : σ.B 1203 (33 * k + j) 0 = false) (h : MRl σ (M, a, S0, (33 * k + j, p, ic, e, v :: o) :: fs) s) (hb : Frb σ S0 (33 * k + j) (v :: o) fs) : CT l G yX9_byUse (ws_ yX9_byUse cX9_byUse 5 (some .int)) d [.ref (G.adr 9 0), .int 27, .int ar, rv G 1 (some k)] s (rI 0 (fun t => MRl σ (M.wCe (setN M.ce (a' + slA σ (33 * k + j)) v), a, S0, (33 * k + j, p, ic, e, o) :: fs) t)) := sorry
/-- a field's frame is entered -/
theorem bu_first (hG : GOK G) (hd : 3 ≤ d) {j c : Nat} (hk : k < 194) (hj : j < 33) (h0e : 0 < nLo σ m) (hmk : Enk σ (33 * k + j) c) (h : MRl σ (M, a, S0, (m, p, ic, e, o) :: fs) s) (hb : Frb σ S0 m o fs) (hn : Frn σ S0 (33 * k + j) [e 0] ((m, p, ic, e, o) :: fs)) : CT l G yX9_byUse (ws_ yX9_byUse cX9_byUse 5 (some .int)) d [.ref (G.adr 9 0), .int 28, .int (nI j), rv G 1 (some k)] s (rI 0 (fun t => MRl σ (M, a, S0, (33 * k + j, c, false, envA [e 0], []) :: (m, p, ic, e, o) :: fs) t)) := sorry
end OWN
