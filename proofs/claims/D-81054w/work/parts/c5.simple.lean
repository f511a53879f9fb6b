/-! LINKHOUSE's MACHINE: the loop; simple codes. -/
section LPS
variable {l : Launch} {G : Gl} {d : Nat} {σ : Sg} {fl : Nat} {Q : Outcome → Sg → Prop}
/-- the loop ends well from here -/
def Lpq (l : Launch) (G : Gl) (d : Nat) (σ : Sg) (fl : Nat) (Q : Outcome → Sg → Prop) (F : FSt) : Prop := ∃ fu, ∀ s, MRl σ F s → wq_X9_loop_0 l G d 0 (nI fl) Q fu s
/-- .. behind a code that answered v -/
def Rbq (l : Launch) (G : Gl) (d : Nat) (σ : Sg) (fl : Nat) (Q : Outcome → Sg → Prop) (F : FSt) (v : Int32) : Prop := ∃ fu, ∀ s, MRl σ F s → wq_X9_loop_100 l G d 0 (nI fl) Q (wq_X9_loop_0 l G d 0 (nI fl) Q fu) v s
theorem Rbq.z {F : FSt} (h : Lpq l G d σ fl Q F) : Rbq l G d σ fl Q F 0 := sorry
theorem Rbq.f {F : FSt} {v : Int32} (h0 : ¬ v = 0) (h1 : ¬ v = -1) (h : ∀ s, MRl σ F s → Q (.returned (some (.int v))) s) : Rbq l G d σ fl Q F v := sorry
/-- a frame of class k, build b -/
def Frk (σ : Sg) (m k b : Nat) : Prop := m < 22404 ∧ σ.R 1222 m 0 = some k ∧ k < 194 ∧ σ.R 1126 k 0 = some b ∧ b < 16
/-- room -/
def Frb (σ : Sg) (S0 : Bw) (m : Nat) (o : List Int32) (fs : List Fr) : Prop := fs.length < 80 ∧ (skF σ S0 fs).length + nLo σ m + o.length < 15990
section ONE
variable {M : MSt} {a : Nat} {S0 : Bw} {m p k b : Nat} {ic : Bool} {e : Env} {o : List Int32} {fs : List Fr} {op ar : Int32}
theorem Lpq.go (hk : Frk σ m k b) (hb : Frb σ S0 m o fs) (hp : p + 1 < 6000) (hfl : fl ≤ fs.length) (h1 : σ.I 2010 b p = op) (h2 : σ.I 2010 b (p + 1) = ar)
    (H : ∃ fu, ∀ s, MRl σ (M, a, S0, (m, p + 2, ic, e, o) :: fs) s → (13 ≤ op → CT l G yX9_byUse (ws_ yX9_byUse cX9_byUse 5 (some .int)) d [.ref (G.adr 9 0), .int op, .int ar, rv G 1 (some k)] s (oI (fun v s => wq_X9_loop_100 l G d 0 (nI fl) Q (wq_X9_loop_0 l G d 0 (nI fl) Q fu) v s) (fun x σ => Q (.threw x) σ))) ∧ (¬ 13 ≤ op → CT l G yX9_simple (ws_ yX9_simple cX9_simple 6 (some .int)) d [.ref (G.adr 9 0), .int op, .int ar] s (oI (fun v s => wq_X9_loop_100 l G d 0 (nI fl) Q (wq_X9_loop_0 l G d 0 (nI fl) Q fu) v s) (fun x σ => Q (.threw x) σ)))) : Lpq l G d σ fl Q (M, a, S0, (m, p, ic, e, o) :: fs) := sorry
/-- a simple code -/
theorem Lpq.simple {F' : FSt} {v : Int32} (hk : Frk σ m k b) (hb : Frb σ S0 m o fs) (hp : p + 1 < 6000) (hfl : fl ≤ fs.length) (h1 : σ.I 2010 b p = op) (h2 : σ.I 2010 b (p + 1) = ar) (h13 : ¬ 13 ≤ op) (H : ∀ s, MRl σ (M, a, S0, (m, p + 2, ic, e, o) :: fs) s → CT l G yX9_simple (ws_ yX9_simple cX9_simple 6 (some .int)) d [.ref (G.adr 9 0), .int op, .int ar] s (rI v (fun t => MRl σ F' t))) (hR : Rbq l G d σ fl Q F' v) : Lpq l G d σ fl Q (M, a, S0, (m, p, ic, e, o) :: fs) := sorry
theorem Lpq.byUse {F' : FSt} {v : Int32} (hk : Frk σ m k b) (hb : Frb σ S0 m o fs) (hp : p + 1 < 6000) (hfl : fl ≤ fs.length) (h1 : σ.I 2010 b p = op) (h2 : σ.I 2010 b (p + 1) = ar) (h13 : 13 ≤ op) (H : ∀ s, MRl σ (M, a, S0, (m, p + 2, ic, e, o) :: fs) s → CT l G yX9_byUse (ws_ yX9_byUse cX9_byUse 5 (some .int)) d [.ref (G.adr 9 0), .int op, .int ar, rv G 1 (some k)] s (rI v (fun t => MRl σ F' t))) (hR : Rbq l G d σ fl Q F' v) : Lpq l G d σ fl Q (M, a, S0, (m, p, ic, e, o) :: fs) := sorry
end ONE
section SIM
variable {M : MSt} {a : Nat} {S0 : Bw} {m p k b : Nat} {ic : Bool} {e : Env} {o : List Int32} {fs : List Fr} {s : Sg} {op ar x y : Int32}
theorem sp_X9_push (hG : GOK G) (hd : 1 ≤ d) {v : Int32} (h : MRl σ (M, a, S0, (m, p, ic, e, o) :: fs) s) (hb : Frb σ S0 m o fs) : CT l G yX9_push (ws_ yX9_push cX9_push 2 none) d [.ref (G.adr 9 0), .int v] s (rV (fun t => MRl σ (M, a, S0, (m, p, ic, e, v :: o) :: fs) t ∧ t.I 1914 0 0 = s.I 1914 0 0)) := sorry
theorem MRl.fm (h : MRl σ (M, a, S0, fs) s) : FRm σ a S0 fs s := sorry
theorem MRl.tp (h : MRl σ (M, a, S0, (m, p, ic, e, o) :: fs) s) : s.I 1921 0 0 = nI fs.length := sorry
theorem MRl.fr (h : MRl σ (M, a, S0, (m, p, ic, e, o) :: fs) s) : s.R 1917 0 fs.length = some m ∧ s.I 1918 0 fs.length = nI p ∧ s.I 1919 0 fs.length = nI (skF σ S0 fs).length ∧ s.B 1920 0 fs.length = ic := sorry
theorem sm_num (hG : GOK G) (hd : 2 ≤ d) (h : MRl σ (M, a, S0, (m, p, ic, e, o) :: fs) s) (hb : Frb σ S0 m o fs) : CT l G yX9_simple (ws_ yX9_simple cX9_simple 6 (some .int)) d [.ref (G.adr 9 0), .int 2, .int ar] s (rI 0 (fun t => MRl σ (M, a, S0, (m, p, ic, e, ar :: o) :: fs) t)) := sorry
theorem sm_load (hG : GOK G) (hd : 2 ≤ d) {j : Nat} (h : MRl σ (M, a, S0, (m, p, ic, e, o) :: fs) s) (hb : Frb σ S0 m o fs) (hj : j < nLo σ m) : CT l G yX9_simple (ws_ yX9_simple cX9_simple 6 (some .int)) d [.ref (G.adr 9 0), .int 3, .int (nI j)] s (rI 0 (fun t => MRl σ (M, a, S0, (m, p, ic, e, e j :: o) :: fs) t)) := sorry
theorem sm_store (hG : GOK G) (hd : 1 ≤ d) {j : Nat} {v : Int32} (h : MRl σ (M, a, S0, (m, p, ic, e, v :: o) :: fs) s) (hb : Frb σ S0 m (v :: o) fs) (hj : j < nLo σ m) : CT l G yX9_simple (ws_ yX9_simple cX9_simple 6 (some .int)) d [.ref (G.adr 9 0), .int 4, .int (nI j)] s (rI 0 (fun t => MRl σ (M, a, S0, (m, p, ic, setN e j v, o) :: fs) t)) := sorry
theorem sm_pop (hG : GOK G) (hd : 1 ≤ d) {v : Int32} (h : MRl σ (M, a, S0, (m, p, ic, e, v :: o) :: fs) s) (hb : Frb σ S0 m (v :: o) fs) : CT l G yX9_simple (ws_ yX9_simple cX9_simple 6 (some .int)) d [.ref (G.adr 9 0), .int 5, .int ar] s (rI 0 (fun t => MRl σ (M, a, S0, (m, p, ic, e, o) :: fs) t)) := sorry
theorem sm_jump (hG : GOK G) (hd : 1 ≤ d) {j : Nat} (h : MRl σ (M, a, S0, (m, p, ic, e, o) :: fs) s) (hb : Frb σ S0 m o fs) : CT l G yX9_simple (ws_ yX9_simple cX9_simple 6 (some .int)) d [.ref (G.adr 9 0), .int 11, .int (nI j)] s (rI 0 (fun t => MRl σ (M, a, S0, (m, j, ic, e, o) :: fs) t)) := sorry
theorem sm_jumpz (hG : GOK G) (hd : 1 ≤ d) {j : Nat} {v : Int32} (h : MRl σ (M, a, S0, (m, p, ic, e, v :: o) :: fs) s) (hb : Frb σ S0 m (v :: o) fs) : CT l G yX9_simple (ws_ yX9_simple cX9_simple 6 (some .int)) d [.ref (G.adr 9 0), .int 12, .int (nI j)] s (rI 0 (fun t => MRl σ (M, a, S0, (m, if v = 0 then j else p, ic, e, o) :: fs) t)) := sorry
theorem sm_step (hG : GOK G) (hd : 1 ≤ d) (h : MRl σ (M, a, S0, (m, p, ic, e, o) :: fs) s) (hb : Frb σ S0 m o fs) (hM : M.sp ≤ 20000) : CT l G yX9_simple (ws_ yX9_simple cX9_simple 6 (some .int)) d [.ref (G.adr 9 0), .int 1, .int ar] s (rI (if M.sp = 20000 then 14 else 0) (fun t => MRl σ (if M.sp = 20000 then M else M.wSp (M.sp + 1), a, S0, (m, p, ic, e, o) :: fs) t)) := sorry
end SIM
end LPS
