/-! LINKHOUSE's MACHINE: a frame is entered; codes without a use. -/
section BYU
variable {l : Launch} {G : Gl} {d : Nat} {σ s : Sg} {P : Pg}
variable {M : MSt} {a : Nat} {S0 : Bw} {m p k b : Nat} {ic : Bool} {e : Env} {o as : List Int32} {fs : List Fr} {ar : Int32}
/-- room for a new frame -/
def Frn (σ : Sg) (S0 : Bw) (m : Nat) (as : List Int32) (fs : List Fr) : Prop := fs.length < 79 ∧ (skF σ S0 fs).length + nLo σ m < 15990 ∧ as.length ≤ nLo σ m
theorem en_49 (hG : GOK G) (hd : 1 ≤ d) {m c a : Nat} {b3 : Bool} {M : MSt} {Q : Outcome → Sg → Prop} (hmk : Enk σ m c) (hF : Fl pMa σ s) (hM : MRm s M) (hf : FRa σ a S0 fs as s) (hb : Frn σ S0 m as fs) (hQ : ∀ t, MRl σ (M, a, S0, (m, c, b3, envA as, []) :: fs) t → t.I 1914 0 0 = s.I 1914 0 0 → Q (.returned (some (.int 0))) t) : wq_X9_enter_49 l G d 0 (some m) (nI as.length) b3 Q s := sorry
/-- a frame that does not count is entered -/
theorem sp_enter0 (hG : GOK G) (hd : 2 ≤ d) {c : Nat} (hmk : Enk σ m c) (hF : Fl pMa σ s) (hM : MRm s M) (hf : FRa σ a S0 fs as s) (hb : Frn σ S0 m as fs) : CT l G yX9_enter (ws_ yX9_enter cX9_enter 4 (some .int)) d [.ref (G.adr 9 0), rv G 2 (some m), .int (nI as.length), .int (bI false)] s (rI 0 (fun t => MRl σ (M, a, S0, (m, c, false, envA as, []) :: fs) t ∧ t.I 1914 0 0 = s.I 1914 0 0)) := sorry
theorem MRm.sp {M : MSt} (h : MRm s M) {x : Int32} {n : Nat} (hx : x = nI n) : MRm (sI s 1912 0 0 x) (M.wSp n) := sorry
/-- what entering answers -/
def enV (M : MSt) (a : Nat) : Int32 := if M.sp = 20000 then 14 else if a = 24 then 15 else 0
/-- a call's frame is entered -/
theorem sp_enter1 (hG : GOK G) (hd : 2 ≤ d) {c : Nat} (hmk : Enk σ m c) (hF : Fl pMa σ s) (hM : MRm s M) (hf : FRa σ a S0 fs as s) (hb : Frn σ S0 m as fs) (hs : M.sp ≤ 20000) (ha : a ≤ 24) : CT l G yX9_enter (ws_ yX9_enter cX9_enter 4 (some .int)) d [.ref (G.adr 9 0), rv G 2 (some m), .int (nI as.length), .int (bI true)] s (rI (enV M a) (fun t => (enV M a = 0 → MRl σ (M.wSp (M.sp + 1), a + 1, S0, (m, c, true, envA as, []) :: fs) t) ∧ (¬ enV M a = 0 → t = s))) := sorry
end BYU
