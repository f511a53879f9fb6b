/-! LINKHOUSE's MACHINE: codes without a use, by byUse. -/
section BUS
variable {l : Launch} {G : Gl} {d : Nat} {σ s : Sg} {P : Pg}
variable {M : MSt} {a : Nat} {S0 : Bw} {m p k b : Nat} {ic : Bool} {e : Env} {o as : List Int32} {fs : List Fr} {ar : Int32}
/-- a column of what runs changes -/
theorem MRm.put {M : MSt} {c j : Nat} {v : Int32} (h : MRm s M) (hc : c = 1904 ∨ c = 1908 ∨ c = 1910 ∨ c = 1911) {M' : MSt} (h1 : M'.ls = M.ls) (h2 : M'.lk = M.lk) (h3 : M'.sr = M.sr) (h5 : M'.ob = M.ob) (h8 : M'.us = M.us) (h11 : M'.sp = M.sp) (h4 : ∀ i, i < 1280 → (sI s c 0 j v).I 1904 0 i = M'.sv i) (h7 : ∀ i, i < 2000 → (sI s c 0 j v).I 1908 0 i = M'.ce i) (h9 : (sI s c 0 j v).I 1911 0 0 = nI M'.ou.length) (h10 : ∀ (i : Nat) (w : Int32), M'.ou[i]? = some w → (sI s c 0 j v).I 1910 0 i = w) : MRm (sI s c 0 j v) M' := sorry
theorem MRm.sv {M : MSt} {j : Nat} {v : Int32} (h : MRm s M) : MRm (sI s 1904 0 j v) (M.wSv (setN M.sv j v)) := sorry
theorem MRm.ce {M : MSt} {j : Nat} {v : Int32} (h : MRm s M) : MRm (sI s 1908 0 j v) (M.wCe (setN M.ce j v)) := sorry
theorem MRm.ou {M : MSt} {v : Int32} (h : MRm s M) : MRm (sI (sI s 1911 0 0 (nI (M.ou.length + 1))) 1910 0 M.ou.length v) (M.wOu (M.ou ++ [v])) := sorry
theorem MRl.gv {F : FSt} {v : Int32} (h : MRl σ F s) : MRl σ F (sI s 1914 0 0 v) := sorry
theorem MRl.pop {v x : Int32} (h : MRl σ (M, a, S0, (m, p, ic, e, v :: o) :: fs) s) (hx : x = nI (skF σ S0 ((m, p, ic, e, o) :: fs)).length) : MRl σ (M, a, S0, (m, p, ic, e, o) :: fs) (sI s 1916 0 0 x) := sorry
theorem bu_throw (hG : GOK G) (hd : 1 ≤ d) {v : Int32} {r : Option Nat} (hr : ∀ k, r = some k → k < cnt 1) (h : MRl σ (M, a, S0, (m, p, ic, e, v :: o) :: fs) s) (hb : Frb σ S0 m (v :: o) fs) : CT l G yX9_byUse (ws_ yX9_byUse cX9_byUse 5 (some .int)) d [.ref (G.adr 9 0), .int 22, .int ar, rv G 1 r] s (rI (if v = 0 then 13 else -1) (fun t => MRl σ (M, a, S0, (m, p, ic, e, o) :: fs) t ∧ t.I 1914 0 0 = v)) := sorry
theorem bu_out (hG : GOK G) (hd : 1 ≤ d) {v : Int32} {r : Option Nat} (hr : ∀ k, r = some k → k < cnt 1) (h : MRl σ (M, a, S0, (m, p, ic, e, v :: o) :: fs) s) (hb : Frb σ S0 m (v :: o) fs) (hu : M.ou.length ≤ 100) : CT l G yX9_byUse (ws_ yX9_byUse cX9_byUse 5 (some .int)) d [.ref (G.adr 9 0), .int 23, .int ar, rv G 1 r] s (rI 0 (fun t => MRl σ ((if M.ou.length < 100 then M.wOu (M.ou ++ [v]) else M), a, S0, (m, p, ic, e, o) :: fs) t)) := sorry
theorem bu_return (hG : GOK G) (hd : 2 ≤ d) {r : Option Nat} (hr : ∀ k, r = some k → k < cnt 1) (h : MRl σ (M, a, S0, (m, p, ic, e, o) :: fs) s) (hb : fs.length < 80) (ha : ic = true → 0 < a) : CT l G yX9_byUse (ws_ yX9_byUse cX9_byUse 5 (some .int)) d [.ref (G.adr 9 0), .int 24, .int ar, rv G 1 r] s (rI 0 (fun t => MRl σ (M, (if ic = true then a - 1 else a), S0, fs) t ∧ t.I 1914 0 0 = 0)) := sorry
/-- a value is pushed upon what is below -/
def psS (v : Int32) (S0 : Bw) (fs : List Fr) : Bw := match fs with
  | [] => (S0.1 ++ [v], S0.2)
  | _ => S0
def psF (v : Int32) (fs : List Fr) : List Fr := match fs with
  | [] => []
  | (m, p, ic, e, o) :: fs => (m, p, ic, e, v :: o) :: fs
theorem ps_F {v : Int32} (h : MRl σ (M, a, S0, fs) s) (hk : (skF σ S0 fs).length < 16000) : MRl σ (M, a, psS v S0 fs, psF v fs) (sI (sI s 1916 0 0 (s.I 1916 0 0 + 1)) 1915 0 (s.I 1916 0 0).toNatClampNeg v) := sorry
theorem bu_give (hG : GOK G) (hd : 2 ≤ d) {r : Option Nat} {v : Int32} (hr : ∀ k, r = some k → k < cnt 1) (h : MRl σ (M, a, S0, (m, p, ic, e, v :: o) :: fs) s) (hb : Frb σ S0 m (v :: o) fs) (ha : ic = true → 0 < a) : CT l G yX9_byUse (ws_ yX9_byUse cX9_byUse 5 (some .int)) d [.ref (G.adr 9 0), .int 25, .int ar, rv G 1 r] s (rI 0 (fun t => MRl σ (M, (if ic = true then a - 1 else a), psS v S0 fs, psF v fs) t ∧ t.I 1914 0 0 = v)) := sorry
end BUS
