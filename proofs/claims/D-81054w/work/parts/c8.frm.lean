/-! LINKHOUSE's MACHINE: frames come and go. -/
section FRC
variable {l : Launch} {G : Gl} {d : Nat} {σ s : Sg}
variable {M : MSt} {a : Nat} {S0 : Bw} {m p k b : Nat} {ic : Bool} {e : Env} {o as : List Int32} {fs : List Fr} {ar : Int32}
theorem tp1 : tpI fs + 1 = nI fs.length := sorry
theorem tp2 : nI fs.length - 1 = tpI fs := sorry
theorem sk_args : skF σ S0 ((m, p, ic, e, as.reverse ++ o) :: fs) = skF σ S0 ((m, p, ic, e, o) :: fs) ++ as := sorry
theorem FRm.leave (h : FRm σ a S0 ((m, p, ic, e, o) :: fs) s) {x y : Int32} {a' : Nat} (hx : x = nI (skF σ S0 fs).length) (hy : y = nI a') : FRm σ a' S0 fs (sI (sI (sI s 1916 0 0 x) 1913 0 0 y) 1921 0 0 (nI fs.length - 1)) := sorry
/-- a frame is left -/
theorem sp_X9_leave (hG : GOK G) (hd : 1 ≤ d) (h : MRl σ (M, a, S0, (m, p, ic, e, o) :: fs) s) (hb : fs.length < 80) (ha : ic = true → 0 < a) : CT l G yX9_leave (ws_ yX9_leave cX9_leave 1 none) d [.ref (G.adr 9 0)] s (rV (fun t => MRl σ (M, (if ic = true then a - 1 else a), S0, fs) t ∧ t.I 1914 0 0 = s.I 1914 0 0)) := sorry
/-- before a frame is entered: what it is given lies on the stack -/
def FRa (σ : Sg) (a : Nat) (S0 : Bw) (fs : List Fr) (as : List Int32) (s : Sg) : Prop := s.I 1913 0 0 = nI a ∧ SkR s (skF σ S0 fs ++ as) ∧ s.I 1921 0 0 = tpI fs ∧ FrA σ S0 s fs
theorem FRm.arg (h : FRm σ a S0 ((m, p, ic, e, as.reverse ++ o) :: fs) s) : FRa σ a S0 ((m, p, ic, e, o) :: fs) as s := sorry
/-- how many locals are there, where its code lies -/
def Enk (σ : Sg) (m c : Nat) : Prop := m < 22404 ∧ σ.I 1219 m 0 = nI c ∧ σ.I 1220 m 0 = nI (nLo σ m)
theorem env_k {n : Nat} (h : as.length ≤ n) : (List.range as.length).map (envA as) = as ∧ (List.range n).map (envA as) = as ++ List.replicate (n - as.length) 0 := sorry
theorem ps_raw (hG : GOK G) (hd : 1 ≤ d) {v : Int32} (hk : vp_in (s.I 1916 0 0) 16000) : CT l G yX9_push (ws_ yX9_push cX9_push 2 none) d [.ref (G.adr 9 0), .int v] s (rV (fun t => t = sI (sI s 1916 0 0 (s.I 1916 0 0 + 1)) 1915 0 (s.I 1916 0 0).toNatClampNeg v)) := sorry
/-- locals are filled up -/
theorem en_107 (hG : GOK G) (hd : 1 ≤ d) {m c : Nat} {x2 : Int32} {b3 : Bool} {Q : Outcome → Sg → Prop} {K : List Int32} (hmk : Enk σ m c) (hF : Fl pMa σ s) (h21 : s.I 1921 0 0 = nI fs.length) (hb : fs.length < 80) (h19 : s.I 1919 0 fs.length = nI K.length) (hl : K.length + nLo σ m < 16000) (hQ : ∀ t, Fl pFr s t → (∀ c i j, c ≠ 1915 → c ≠ 1916 → t.I c i j = s.I c i j) → t.R = s.R → t.B = s.B → SkR t (K ++ (as ++ List.replicate (nLo σ m - as.length) 0)) → Q (.returned (some (.int 0))) t) : ∀ (n : Nat) (r : Nat) (u : Sg), as.length + r + n = nLo σ m → Fl pFr s u → (∀ c i j, c ≠ 1915 → c ≠ 1916 → u.I c i j = s.I c i j) → u.R = s.R → u.B = s.B → SkR u (K ++ (as ++ List.replicate r 0)) → wq_X9_enter_107 l G d 0 (some m) x2 b3 Q (n + 1) u := sorry
end FRC
