/-! LINKHOUSE's MACHINE: outcomes; codes in the loop. -/
/-- what becomes of a result: done, thrown, failed -/
def KO {α : Type} (r : Rz α) (ok : MSt → α → Prop) (th fa : MSt → Int32 → Prop) : Prop := match r.2 with
  | .ok x => ok r.1 x
  | .error x => if x.1 = true then th r.1 x.2 else fa r.1 x.2
theorem KO.b {α β : Type} {r : Rz α} {kk : MSt → α → Rz β} {ok : MSt → β → Prop} {th fa : MSt → Int32 → Prop} (h : KO (rzb r kk) ok th fa) : KO r (fun t x => KO (kk t x) ok th fa) th fa := sorry
theorem KO.go {α : Type} {σ : Sg} {M : MSt} {r : Rz α} {R : MSt → α → Prop} {ok ok' : MSt → α → Prop} {th th' fa fa' : MSt → Int32 → Prop} (hr : RzOk σ M r R) (h : KO r ok th fa) (h1 : ∀ t x, MInv σ t → Ext M t → R t x → ok t x → ok' t x) (h2 : ∀ t f, MInv σ t → Ext M t → ¬ f = 0 ∧ vOk σ t 6927257 f → th t f → th' t f) (h3 : ∀ t f, FlE f → fa t f → fa' t f) : KO r ok' th' fa' := sorry
/-- it failed: what is below is as it was -/
def Fq (σ : Sg) (S0 : Bw) (rest : List Fr) (Q : Outcome → Sg → Prop) (M : MSt) (f : Int32) : Prop := ∀ (a' : Nat) (fs' : List Fr) (t : Sg), MRl σ (M, a', S0, fs' ++ rest) t → Q (.returned (some (.int f))) t
/-- on, with what was given -/
def Lpv (l : Launch) (G : Gl) (d : Nat) (σ : Sg) (fl : Nat) (Q : Outcome → Sg → Prop) (F : FSt) (w : Int32) : Prop := ∃ fu, ∀ s, MRl σ F s → s.I 1914 0 0 = w → wq_X9_loop_0 l G d 0 (nI fl) Q fu s
/-- what is pushed when a member of type ty is done -/
def pvS (ty : Int64) (w : Int32) (S0 : Bw) (fs : List Fr) : Bw := if ty = 0 then S0 else psS w S0 fs
def pvF (ty : Int64) (w : Int32) (fs : List Fr) : List Fr := if ty = 0 then fs else psF w fs
/-- calls at level a are as C says -/
def CalS (l : Launch) (G : Gl) (d : Nat) (σ : Sg) (C : CalF) (a : Nat) : Prop := (∀ x as M, ¬ enV M a = 0 → C x as M = rzf M (enV M a)) ∧ ∀ (fl : Nat) (Q : Outcome → Sg → Prop) (x : Nat) (as : List Int32) (M : MSt) (S0 : Bw) (fs rest : List Fr), enV M a = 0 → CaH σ M x as → MInv σ M → Rmx σ a S0 fs → fl ≤ fs.length → fl < 90 → (∃ fs1, fs = fs1 ++ rest) → KO (C x as M) (fun t w => Lpv l G (d + 1) σ fl Q (t, a, pvS (σ.L 1207 x 0) w S0 fs, pvF (σ.L 1207 x 0) w fs) w) (fun t ob => Uwq l G d σ fl Q (t, a, S0, fs) ob) (Fq σ S0 rest Q) → Lpq l G (d + 1) σ fl Q (M.wSp (M.sp + 1), a + 1, S0, (x, cdAt σ x, true, envA as, []) :: fs)
section LPK
variable {l : Launch} {G : Gl} {d : Nat} {σ : Sg} {P : Pg} {fl : Nat} {Q : Outcome → Sg → Prop}
variable {M : MSt} {a : Nat} {S0 : Bw} {m p k b u : Nat} {ic : Bool} {e : Env} {o : List Int32} {fs rest : List Fr} {op ar : Int32}
theorem Lpq.v {F : FSt} {w : Int32} (h : Lpq l G d σ fl Q F) : Lpv l G d σ fl Q F w := sorry
theorem fle_ne {f : Int32} (h : FlE f) : ¬ f = 0 ∧ ¬ f = -1 := sorry
/-- a code by a use that throws nothing -/
theorem Lpq.rzs {α : Type} {r : Rz α} {K : α → List Int32} {R : MSt → α → Prop} (hk : Frk σ m k b) (hb : Frb σ S0 m o fs) (hp : p + 1 < 6000) (hfl : fl ≤ fs.length) (h1 : σ.I 2010 b p = op) (h2 : σ.I 2010 b (p + 1) = ar) (h13 : 13 ≤ op) (hrest : ∃ fs1, fs = fs1 ++ rest) (hr : RzOk σ M r R) (hn : RzN r) (H : ∀ s, MRl σ (M, a, S0, (m, p + 2, ic, e, o) :: fs) s → CT l G yX9_byUse (ws_ yX9_byUse cX9_byUse 5 (some .int)) d [.ref (G.adr 9 0), .int op, .int ar, rv G 1 (some k)] s (rI (rzc r) (RzS σ r a S0 m (p + 2) ic e K fs))) {th : MSt → Int32 → Prop} (hR : KO r (fun t w => Lpq l G d σ fl Q (t, a, S0, (m, p + 2, ic, e, K w) :: fs)) th (Fq σ S0 rest Q)) : Lpq l G d σ fl Q (M, a, S0, (m, p, ic, e, o) :: fs) := sorry
/-- a call -/
theorem Lpq.call {C : CalF} {f : CalF → Rz Int32} {ty : Int64} {M' : MSt} {D : Dcs} {o2 : List Int32} (hCs : CalS l G d σ C a) (hk : Frk σ m k b) (hb : Frb σ S0 m o fs) (hp : p + 1 < 6000) (hfl : fl ≤ fs.length) (hf90 : fl < 90) (h1 : σ.I 2010 b p = op) (h2 : σ.I 2010 b (p + 1) = ar) (h13 : 13 ≤ op) (hrest : ∃ fs1, fs = fs1 ++ rest) (hrm : Rmx σ a S0 ((m, p + 2, ic, e, o2) :: fs)) (hcl : ClP σ f M ty M' D) (H : ∀ s, MRl σ (M, a, S0, (m, p + 2, ic, e, o) :: fs) s → CT l G yX9_byUse (ws_ yX9_byUse cX9_byUse 5 (some .int)) (d + 1) [.ref (G.adr 9 0), .int op, .int ar, rv G 1 (some k)] s (rI (caV M' a D) (CaO σ M' a S0 D m (p + 2) ic e o2 fs))) (hR : KO (f C) (fun t w => Lpv l G (d + 1) σ fl Q (t, a, S0, (m, p + 2, ic, e, if ty = 0 then o2 else w :: o2) :: fs) w) (fun t ob => Uwq l G d σ fl Q (t, a, S0, (m, p + 2, ic, e, o2) :: fs) ob) (Fq σ S0 rest Q)) : Lpq l G (d + 1) σ fl Q (M, a, S0, (m, p, ic, e, o) :: fs) := sorry
end LPK
