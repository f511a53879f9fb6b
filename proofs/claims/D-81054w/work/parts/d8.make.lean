/-! LINKHOUSE's MACHINE: new; calls: what is entered. -/
section MKE
variable {l : Launch} {G : Gl} {d : Nat} {σ s : Sg} {P : Pg}
variable {M : MSt} {a : Nat} {S0 : Bw} {m p k b u : Nat} {ic : Bool} {e : Env} {o as : List Int32} {fs : List Fr}
theorem br_make (hG : GOK G) (hd : 139 ≤ d) (hM : WMa σ P) (hI : MInv σ M) {S : StaF} (hS : StK σ S) (hSt : StC l G (d - 2) σ S a) (hk : KHw σ M k) (hu : u < nUk σ k) (h3 : uSo σ k u = 1) (h : MRl σ (M, a, S0, (m, p, ic, e, o) :: fs) s) (hb : Frb σ S0 m (0 :: 0 :: o) fs) (hr : Rmx σ a S0 ((m, p, ic, e, o) :: fs)) : CT l G yX9_byRow (ws_ yX9_byRow cX9_byRow 6 (some .int)) d [.ref (G.adr 9 0), .int 18, rv G 7 (some (uAt σ k u))] s (rI (rzc (rzN σ S k u M)) (RzS σ (rzN σ S k u M) a S0 m p ic e (fun w => w :: w :: o) fs)) := sorry
/-! calls: a use comes to a failure, or a member is entered -/
/-- a failure, or a member with what it is given; the state then -/
abbrev Dcs : Type := Except Int32 (Nat × List Int32)
/-- what the calls' functions make of it -/
def dcR (C : CalF) (M : MSt) (D : Dcs) : Rz Int32 := match D with
  | .error f => rzf M f
  | .ok x => C x.1 x.2 M
/-- an object's method -/
noncomputable def dcV (σ : Sg) (k u : Nat) (o : Int32) (as : List Int32) (M : MSt) (r : MT) : Dcs := if o = 0 then .error 13 else if uSo σ k u = 8 ∧ wHb σ 0 (obC M o) (uKl σ k u) = false then .error 3 else match wSel σ 0 (r.2.2.1.getD 0) (obC M o) with
    | none => .error (wSelc σ 0 (r.2.2.1.getD 0) (obC M o))
    | some x => if uSo σ k u = 8 ∧ ¬ σ.I 1202 x 0 = 3 ∧ ¬ σ.I 1202 x 0 = 0 then .error 2 else .ok (x, o :: as)
theorem rzV_dc {C : CalF} {v : Int32} : rzV σ C k u v as M = rzb (rzR σ k u M) fun s r => dcR C s (dcV σ k u v as s r) := sorry
/-- a member that can be entered, of the type that is wanted -/
def CaT (σ : Sg) (M : MSt) (D : Dcs) (ty : Int64) : Prop := match D with
  | .error f => FlE f
  | .ok x => CaH σ M x.1 x.2 ∧ σ.L 1207 x.1 0 = ty
theorem dcV_ok (hM : WMa σ P) {t : MSt} (hIt : MInv σ t) {v0 : Nat} {v : Int32} {c : Nat} {r : MT} (hv : v0 = 7 ∨ v0 = 8) (h3' : uSo σ k u = nI v0) (hk : k ∈ wKs σ 0) (nb : ¬ σ.I 1101 k 0 = 26) (hu : u < nUk σ k) (lct : Ldd σ t.ls c) (hq : RsOk σ (uAt σ k u) k c r) (ho : vOk σ t (uTi σ k u) v) (hn : ¬ uTi σ k u = 1) (ha : vOkL σ t (uPm σ k u) as) : CaT σ t (dcV σ k u v as t r) (uTy σ k u) ∧ (¬ v = 0 → ∃ m jm d1, r.2.2.1 = some m ∧ m = 33 * d1 + jm ∧ d1 ∈ wKs σ 0 ∧ jm < nMe σ d1 ∧ kMet σ d1 m = some m ∧ nPa σ m = (uPm σ k u).length) := sorry
end MKE
