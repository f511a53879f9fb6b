/-! LinkHouse writes an S: catches; what writing leaves. -/
abbrev Ctc : Type := Int32 × Int32 × Int32 × Int32
/-- the catches of an S, in the order of writing: from, to, place, use -/
noncomputable def hdS (τ : Sg) (k : Nat) (ix : Us → Int32) (fs : List Nat) : Tr → Nat → List Ctc
  | .leaf, _ => []
  | .inner _ b _ x y, p =>
    if b.1 = 0 then hdS τ k ix fs x p ++ hdS τ k ix fs y (p + (cdS τ k ix fs x p).length)
    else if b.1 = 30 then hdS τ k ix fs x p
    else if b.1 = 32 then (match y with
      | .leaf => []
      | .inner _ _ _ yt ye => hdS τ k ix fs yt (p + 2 + (cdE τ k ix x).length + 2) ++ (if isLf ye = true then [] else hdS τ k ix fs ye (p + 2 + (cdE τ k ix x).length + 2 + (cdS τ k ix fs yt (p + 2 + (cdE τ k ix x).length + 2)).length + 2)))
    else if b.1 = 33 then (match y with
      | .leaf => []
      | .inner _ _ _ yt _ => hdS τ k ix fs yt (p + 4 + (cdE τ k ix x).length + 2))
    else if b.1 = 36 then hdS τ k ix fs x (p + 2) ++ ((nI (p + 2), nI (p + 2 + (cdS τ k ix fs x (p + 2)).length), nI (p + 2 + (cdS τ k ix fs x (p + 2)).length + 2), ix (uC k 15 (lN b.2.2.2.2.2.1))) :: hdS τ k ix fs y (p + 2 + (cdS τ k ix fs x (p + 2)).length + 4))
    else []
/-- the catches H lie from the q-th on -/
def HdA (s : Sg) (b q : Nat) (H : List Ctc) : Prop := ∀ (j : Nat) (h : Ctc), H[j]? = some h → s.I 2012 b (4 * (q + j)) = h.1 ∧ s.I 2012 b (4 * (q + j) + 1) = h.2.1 ∧ s.I 2012 b (4 * (q + j) + 2) = h.2.2.1 ∧ s.I 2012 b (4 * (q + j) + 3) = h.2.2.2
theorem HdA.app {s : Sg} {b p : Nat} {C D : List Ctc} (h1 : HdA s b p C) (h2 : HdA s b (p + C.length) D) : HdA s b p (C ++ D) := sorry
theorem HdA.keep {σ s : Sg} {b p q : Nat} {C : List Ctc} (h : HdA σ b p C) (hk : ∀ j, j < 4 * q → s.I 2012 b j = σ.I 2012 b j) (hq : p + C.length ≤ q) : HdA s b p C := sorry
theorem CdA.fst {s : Sg} {b p : Nat} {C D : List Int32} (h : CdA s b p (C ++ D)) : CdA s b p C := sorry
theorem CdA.snd {s : Sg} {b p : Nat} {C D : List Int32} (h : CdA s b p (C ++ D)) : CdA s b (p + C.length) D := sorry
theorem CdA.same {σ s : Sg} {b p : Nat} {C : List Int32} (h : CdA σ b p C) (hk : ∀ j, p ≤ j → j < p + C.length → s.I 2010 b j = σ.I 2010 b j) : CdA s b p C := sorry
theorem HdA.same {σ s : Sg} {b p : Nat} {C : List Ctc} (h : HdA σ b p C) (hk : ∀ j, s.I 2012 b j = σ.I 2012 b j) : HdA s b p C := sorry
/-- the columns that writing an S may change -/
def pWs (b c i : Nat) : Bool := pWe b 0 c i || decide ((c = 2012 ∨ c = 2013) ∧ i = b)
theorem pWs_iff {b c i : Nat} : pWs b c i = true ↔ pWe b 0 c i = true ∨ ((c = 2012 ∨ c = 2013) ∧ i = b) := sorry
theorem pWs_no {b c i : Nat} (h : ¬ ((1699 < c ∧ c ≤ 1704) ∨ (1199 < c ∧ c ≤ 1222 ∧ 6402 ≤ i) ∨ (2008 < c ∧ c ≤ 2013))) : pWs b c i = false := sorry
theorem pWe_pWs {b : Nat} : ∀ c i, pWe b 0 c i = true → pWs b c i = true := sorry
theorem SmJ.ws {τ σ s : Sg} {b : Nat} (h : SmJ τ σ) (hF : Fl (pWs b) σ s) : SmJ τ s := sorry
theorem SmJ.wok {τ s : Sg} (h : SmJ τ s) (hW : WOK τ 1) : WOK s 1 := sorry
/-- what writing an S leaves: uses R, code C, catches H -/
def RWs (σ s : Sg) (b k n0 p q : Nat) (U R : List Us) (C : (Us → Int32) → List Int32) (H : (Us → Int32) → List Ctc) : Prop := Fl (pWs b) σ s ∧ LW s 0 b k (addL U R) n0 ∧ ((∀ ix, (C ix).length = (C fun _ => 0).length) ∧ s.I 2011 b 0 = nI (p + (C fun _ => 0).length) ∧ ∀ j, j < p → s.I 2010 b j = σ.I 2010 b j) ∧ ((∀ ix, (H ix).length = (H fun _ => 0).length) ∧ s.I 2013 b 0 = nI (q + (H fun _ => 0).length) ∧ ∀ j, j < 4 * q → s.I 2012 b j = σ.I 2012 b j) ∧ ∀ UF, Pre (addL U R) UF → CdA s b p (C (ixF UF n0)) ∧ HdA s b q (H (ixF UF n0))
theorem RWs.trans {σ s u : Sg} {b k n0 p q : Nat} {U R S : List Us} {C D : (Us → Int32) → List Int32} {H I : (Us → Int32) → List Ctc} (h : RWs σ s b k n0 p q U R C H) (g : RWs s u b k n0 (p + (C fun _ => 0).length) (q + (H fun _ => 0).length) (addL U R) S D I) : RWs σ u b k n0 p q U (R ++ S) (fun ix => C ix ++ D ix) (fun ix => H ix ++ I ix) := sorry
theorem RWs.eq {σ s : Sg} {b k n0 p q : Nat} {U R R' : List Us} {C C' : (Us → Int32) → List Int32} {H H' : (Us → Int32) → List Ctc} (h : RWs σ s b k n0 p q U R C H) (hR : R = R') (hC : ∀ ix, C ix = C' ix) (hH : ∀ ix, H ix = H' ix) : RWs σ s b k n0 p q U R' C' H' := sorry
theorem RW.s {σ s : Sg} {b k n0 p q : Nat} {U R : List Us} {C : (Us → Int32) → List Int32} (h : RW σ s 0 b k n0 p U R C) (h13 : σ.I 2013 b 0 = nI q) : RWs σ s b k n0 p q U R C (fun _ => []) := sorry
/-- a jump's place is mended -/
theorem RWs.patch {σ s : Sg} {b k n0 p q P : Nat} {U R : List Us} {A D : (Us → Int32) → List Int32} {H : (Us → Int32) → List Ctc} {o v0 z : Int32} (h : RWs σ s b k n0 p q U R (fun ix => A ix ++ ([o, v0] ++ D ix)) H) (hA : ∀ ix, (A ix).length = (A fun _ => 0).length) (hP : P = p + (A fun _ => 0).length + 1) : RWs σ (sI s 2010 b P z) b k n0 p q U R (fun ix => A ix ++ ([o, z] ++ D ix)) H := sorry
