/-! LINKHOUSE's MACHINE: an object is made. -/
section MAD
variable {l : Launch} {G : Gl} {d : Nat} {σ s : Sg} {P : Pg}
variable {M : MSt} {a : Nat} {S0 : Bw} {m p k b u : Nat} {ic : Bool} {e : Env} {o as : List Int32} {fs : List Fr}
theorem MRm.mk1 {c : Nat} (h : MRm s M) (hl : M.ob.length < 200) : MRm (sI (sR (sI s 1907 0 0 (nI (M.ob.length + 1))) 1905 0 (M.ob.length + 1) (some c)) 1906 0 (M.ob.length + 1) (nI M.us)) (M.wOb (M.ob ++ [(c, M.us)]) (zeF M.ce M.us 0) (M.us + 0)) := sorry
theorem MRm.mk2 {V : List (Nat × Nat)} {f : Nat → Int32} {n0 j : Nat} (h : MRm s (M.wOb V (zeF f n0 j) (n0 + j))) : MRm (sI (sI s 1909 0 0 (nI (n0 + (j + 1)))) 1908 0 (n0 + j) 0) (M.wOb V (zeF f n0 (j + 1)) (n0 + (j + 1))) := sorry
/-- cells are cleared, the object pushed twice -/
theorem md_79 (hG : GOK G) (hd : 1 ≤ d) {V : List (Nat × Nat)} {f : Nat → Int32} {n0 N : Nat} {r1 : Option Nat} {Q : Outcome → Sg → Prop} (hN : n0 + N ≤ 2000) (hV : V.length ≤ 200) (hb : Frb σ S0 m (0 :: o) fs) (hQ : ∀ t, MRl σ (M.wOb V (zeF f n0 N) (n0 + N), a, S0, (m, p, ic, e, nI V.length :: nI V.length :: o) :: fs) t → Q (.returned (some (.int 0))) t) : ∀ (n j : Nat) (t : Sg), j + n = N → MRl σ (M.wOb V (zeF f n0 j) (n0 + j), a, S0, (m, p, ic, e, o) :: fs) t → wq_X9_made_79 l G d 0 r1 Q (n + 1) (nI N) (nI j) t := sorry
/-- what making an object of class c comes to -/
noncomputable def rzMd (σ : Sg) (S : StaF) (c : Nat) (s : MSt) : Rz Int32 := rzb (S c s) fun s _ =>
  if s.ob.length = 200 ∨ 2000 < s.us + fdN σ c then rzf s 16 else rzk (s.wOb (s.ob ++ [(c, s.us)]) (zeF s.ce s.us (fdN σ c)) (s.us + fdN σ c)) (nI (s.ob.length + 1))
theorem rzN_md {S : StaF} : rzN σ S k u M = rzb (rzR σ k u M) fun s _ => rzMd σ S (uKl σ k u) s := sorry
theorem sp_X9_made (hG : GOK G) (hd : 4 ≤ d) (hM : WMa σ P) (hI : MInv σ M) {S : StaF} (hS : StK σ S) (hSt : StC l G (d - 1) σ S a) {c : Nat} (hc : c ∈ wKs σ 0) (h : MRl σ (M, a, S0, (m, p, ic, e, o) :: fs) s) (hb : Frb σ S0 m (0 :: 0 :: o) fs) (hr : Rmx σ a S0 ((m, p, ic, e, o) :: fs)) : CT l G yX9_made (ws_ yX9_made cX9_made 5 (some .int)) d [.ref (G.adr 9 0), rv G 1 (some c)] s (rI (rzc (rzMd σ S c M)) (RzS σ (rzMd σ S c M) a S0 m p ic e (fun w => w :: w :: o) fs)) := sorry
end MAD
