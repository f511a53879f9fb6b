/-! LINKHOUSE's MACHINE: what is known while a member runs; its codes. -/
section NTH
variable {σ : Sg} {M : MSt} {k u : Nat} {v x : Int32} {S : StaF}
theorem RzN.f {α : Type} {s : MSt} {f : Int32} : RzN (rzf s f : Rz α) := sorry
theorem RzN.i {α : Type} {c : Prop} [Decidable c] {a b : Rz α} (ha : RzN a) (hb : RzN b) : RzN (if c then a else b) := sorry
theorem rzR_n : RzN (rzR σ k u M) := sorry
theorem rzG_n : RzN (rzG σ k u v M) := sorry
theorem rzP_n : RzN (rzP σ k u v x M) := sorry
theorem rzA_n : RzN (rzA σ k u v M) := sorry
theorem rzC_n : RzN (rzC σ k u v M) := sorry
theorem st_n (hS : StK σ S) {c : Nat} (hc : c ∈ wKs σ 0) (hI : MInv σ M) : RzN (S c M) := sorry
end NTH
/-- room for the frame of m above fs -/
def RmF (σ : Sg) (a : Nat) (S0 : Bw) (fs : List Fr) : Prop := fs.length + 1 ≤ 2 * a ∧ a ≤ 24 ∧ (skF σ S0 fs).length ≤ 320 * fs.length ∧ S0.2.1 ≤ a
/-- what is known while member m of class k runs -/
def SiC (l : Launch) (G : Gl) (d : Nat) (σ : Sg) (P : Pg) (fl : Nat) (C : CalF) (S : StaF) (a : Nat) (S0 : Bw) (m k b : Nat) (fs rest : List Fr) : Prop := (GOK G ∧ 142 ≤ d ∧ WMa σ P ∧ MeE σ ∧ MeB σ) ∧ (CaK σ C ∧ StK σ S ∧ (∀ d', d - 2 ≤ d' → StC l G d' σ S a) ∧ CalS l G d σ C a) ∧ (Frk σ m k b ∧ fl ≤ fs.length ∧ fl < 90 ∧ (∃ fs1, fs = fs1 ++ rest) ∧ RmF σ a S0 fs)
section SIC
variable {l : Launch} {G : Gl} {d : Nat} {σ : Sg} {P : Pg} {fl : Nat} {Q : Outcome → Sg → Prop} {C : CalF} {S : StaF}
variable {M : MSt} {a : Nat} {S0 : Bw} {m p k b u : Nat} {ic : Bool} {e : Env} {o as : List Int32} {fs rest : List Fr} {op ar : Int32}
theorem RmF.fb (h : RmF σ a S0 fs) (ho : nLo σ m + o.length ≤ 318) : Frb σ S0 m o fs := sorry
theorem RmF.r (h : RmF σ a S0 fs) (ho : nLo σ m + o.length ≤ 320) : Rmx σ a S0 ((m, p, ic, e, o) :: fs) := sorry
theorem CdA.opa (h : CdA σ b p [op, ar]) : σ.I 2010 b p = op ∧ σ.I 2010 b (p + 1) = ar := sorry
theorem CdA.spl {A B : List Int32} (h : CdA σ b p (A ++ B)) : CdA σ b p A ∧ CdA σ b (p + A.length) B := sorry
theorem lp_num (H : SiC l G d σ P fl C S a S0 m k b fs rest) (hc : CdA σ b p [2, ar]) (hp : p + 1 < 6000) (ho : nLo σ m + o.length ≤ 316) (h : Lpq l G (d + 1) σ fl Q (M, a, S0, (m, p + 2, ic, e, ar :: o) :: fs)) : Lpq l G (d + 1) σ fl Q (M, a, S0, (m, p, ic, e, o) :: fs) := sorry
theorem lp_load (H : SiC l G d σ P fl C S a S0 m k b fs rest) {j : Nat} (hc : CdA σ b p [3, nI j]) (hp : p + 1 < 6000) (hj : j < nLo σ m) (ho : nLo σ m + o.length ≤ 316) (h : Lpq l G (d + 1) σ fl Q (M, a, S0, (m, p + 2, ic, e, e j :: o) :: fs)) : Lpq l G (d + 1) σ fl Q (M, a, S0, (m, p, ic, e, o) :: fs) := sorry
theorem lp_store (H : SiC l G d σ P fl C S a S0 m k b fs rest) {j : Nat} {v : Int32} (hc : CdA σ b p [4, nI j]) (hp : p + 1 < 6000) (hj : j < nLo σ m) (ho : nLo σ m + o.length ≤ 316) (h : Lpq l G (d + 1) σ fl Q (M, a, S0, (m, p + 2, ic, setN e j v, o) :: fs)) : Lpq l G (d + 1) σ fl Q (M, a, S0, (m, p, ic, e, v :: o) :: fs) := sorry
theorem lp_pop (H : SiC l G d σ P fl C S a S0 m k b fs rest) {v : Int32} (hc : CdA σ b p [5, ar]) (hp : p + 1 < 6000) (ho : nLo σ m + o.length ≤ 316) (h : Lpq l G (d + 1) σ fl Q (M, a, S0, (m, p + 2, ic, e, o) :: fs)) : Lpq l G (d + 1) σ fl Q (M, a, S0, (m, p, ic, e, v :: o) :: fs) := sorry
theorem lp_jump (H : SiC l G d σ P fl C S a S0 m k b fs rest) {j : Nat} (hc : CdA σ b p [11, nI j]) (hp : p + 1 < 6000) (ho : nLo σ m + o.length ≤ 316) (h : Lpq l G (d + 1) σ fl Q (M, a, S0, (m, j, ic, e, o) :: fs)) : Lpq l G (d + 1) σ fl Q (M, a, S0, (m, p, ic, e, o) :: fs) := sorry
theorem lp_jumpz (H : SiC l G d σ P fl C S a S0 m k b fs rest) {j : Nat} {v : Int32} (hc : CdA σ b p [12, nI j]) (hp : p + 1 < 6000) (ho : nLo σ m + o.length ≤ 316) (h : Lpq l G (d + 1) σ fl Q (M, a, S0, (m, if v = 0 then j else p + 2, ic, e, o) :: fs)) : Lpq l G (d + 1) σ fl Q (M, a, S0, (m, p, ic, e, v :: o) :: fs) := sorry
theorem lp_op2 (H : SiC l G d σ P fl C S a S0 m k b fs rest) {w : Nat} {x y : Int32} (hw : 12 ≤ w ∧ w ≤ 16) (hc : CdA σ b p [opC w, ar]) (hp : p + 1 < 6000) (ho : nLo σ m + o.length ≤ 316) (h : Lpq l G (d + 1) σ fl Q (M, a, S0, (m, p + 2, ic, e, op2 w x y :: o) :: fs)) : Lpq l G (d + 1) σ fl Q (M, a, S0, (m, p, ic, e, y :: x :: o) :: fs) := sorry
theorem lp_step (H : SiC l G d σ P fl C S a S0 m k b fs rest) (hI : MInv σ M) (hc : CdA σ b p [1, ar]) (hp : p + 1 < 6000) (ho : nLo σ m + o.length ≤ 316) {th : MSt → Int32 → Prop} (h : KO (stp M) (fun t _ => Lpq l G (d + 1) σ fl Q (t, a, S0, (m, p + 2, ic, e, o) :: fs)) th (Fq σ S0 rest Q)) : Lpq l G (d + 1) σ fl Q (M, a, S0, (m, p, ic, e, o) :: fs) := sorry
/-- codes by a use -/
theorem lp_get (H : SiC l G d σ P fl C S a S0 m k b fs rest) (hI : MInv σ M) {v : Int32} (hkw : KHw σ M k) (hu : u < nUk σ k) (h3 : uSo σ k u = 3) (hv : vOk σ M (uTi σ k u) v) (hn : ¬ uTi σ k u = 1) (hc : CdA σ b p [13, nI u]) (hp : p + 1 < 6000) (ho : nLo σ m + o.length ≤ 316) {th : MSt → Int32 → Prop} (h : KO (rzG σ k u v M) (fun t w => Lpq l G (d + 1) σ fl Q (t, a, S0, (m, p + 2, ic, e, w :: o) :: fs)) th (Fq σ S0 rest Q)) : Lpq l G (d + 1) σ fl Q (M, a, S0, (m, p, ic, e, v :: o) :: fs) := sorry
theorem lp_put (H : SiC l G d σ P fl C S a S0 m k b fs rest) (hI : MInv σ M) {v x : Int32} (hkw : KHw σ M k) (hu : u < nUk σ k) (h3 : uSo σ k u = 4) (hv : vOk σ M (uTi σ k u) v) (hn : ¬ uTi σ k u = 1) (hx : vOk σ M (uTy σ k u) x) (hc : CdA σ b p [14, nI u]) (hp : p + 1 < 6000) (ho : nLo σ m + o.length ≤ 316) {th : MSt → Int32 → Prop} (h : KO (rzP σ k u v x M) (fun t _ => Lpq l G (d + 1) σ fl Q (t, a, S0, (m, p + 2, ic, e, o) :: fs)) th (Fq σ S0 rest Q)) : Lpq l G (d + 1) σ fl Q (M, a, S0, (m, p, ic, e, x :: v :: o) :: fs) := sorry
theorem lp_cast (H : SiC l G d σ P fl C S a S0 m k b fs rest) (hI : MInv σ M) {v : Int32} {ty : Int64} (hkw : KHw σ M k) (hu : u < nUk σ k) (h3 : uSo σ k u = 13) (hv : vOk σ M ty v) (hn : ¬ ty = 1) (hc : CdA σ b p [20, nI u]) (hp : p + 1 < 6000) (ho : nLo σ m + o.length ≤ 316) {th : MSt → Int32 → Prop} (h : KO (rzC σ k u v M) (fun t w => Lpq l G (d + 1) σ fl Q (t, a, S0, (m, p + 2, ic, e, w :: o) :: fs)) th (Fq σ S0 rest Q)) : Lpq l G (d + 1) σ fl Q (M, a, S0, (m, p, ic, e, v :: o) :: fs) := sorry
theorem lp_ask (H : SiC l G d σ P fl C S a S0 m k b fs rest) (hI : MInv σ M) {v : Int32} {ty : Int64} (hkw : KHw σ M k) (hu : u < nUk σ k) (h3 : uSo σ k u = 14) (hv : vOk σ M ty v) (hn : ¬ ty = 1) (hc : CdA σ b p [21, nI u]) (hp : p + 1 < 6000) (ho : nLo σ m + o.length ≤ 316) {th : MSt → Int32 → Prop} (h : KO (rzA σ k u v M) (fun t w => Lpq l G (d + 1) σ fl Q (t, a, S0, (m, p + 2, ic, e, w :: o) :: fs)) th (Fq σ S0 rest Q)) : Lpq l G (d + 1) σ fl Q (M, a, S0, (m, p, ic, e, v :: o) :: fs) := sorry
end SIC
