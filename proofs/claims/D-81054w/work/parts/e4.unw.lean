/-! LINKHOUSE's MACHINE: what is thrown. -/
section UNW
variable {l : Launch} {G : Gl} {d : Nat} {σ : Sg} {P : Pg} {fl : Nat} {Q : Outcome → Sg → Prop}
variable {M : MSt} {a : Nat} {S0 : Bw} {m p k b u i at' : Nat} {ic : Bool} {e : Env} {o : List Int32} {fs : List Fr} {ob : Int32}
/-- behind unwinding -/
def Quw (l : Launch) (G : Gl) (d fl : Nat) (Q : Outcome → Sg → Prop) (fu : Nat) : Outcome → Sg → Prop := oI (fun v s => wq_X9_loop_115 l G (d + 1) 0 (nI fl) Q (wq_X9_loop_0 l G (d + 1) 0 (nI fl) Q fu) v s) (fun x σ => Q (.threw x) σ)
/-- frames are unwound -/
def Uwq (l : Launch) (G : Gl) (d : Nat) (σ : Sg) (fl : Nat) (Q : Outcome → Sg → Prop) (F : FSt) (ob : Int32) : Prop := ∃ fu n, ∀ s, MRl σ F s → wq_X9_unwind_5 l G d 0 (nI fl) (Quw l G d fl Q fu) n ob s
/-- .. the catches of build b from the i-th on are looked at -/
def Uwi (l : Launch) (G : Gl) (d : Nat) (σ : Sg) (fl : Nat) (Q : Outcome → Sg → Prop) (F : FSt) (k b at' i : Nat) (ob : Int32) : Prop := ∃ fu n n2, ∀ s, MRl σ F s → wq_X9_unwind_59 l G d 0 (nI fl) (Quw l G d fl Q fu) (wq_X9_unwind_5 l G d 0 (nI fl) (Quw l G d fl Q fu) n) n2 ob (some b) (some k) (nI at') (nI i) s
theorem Uwq.end (hl : fs.length < fl) (hf : fl < 100) (h : ∀ s, MRl σ (M, a, S0, fs) s → s.I 1914 0 0 = ob → Q (.returned (some (.int (-1)))) s) : Uwq l G d σ fl Q (M, a, S0, fs) ob := sorry
theorem Uwq.top (hk : Frk σ m k b) (hfl : fl ≤ fs.length) (hb : fs.length < 80) (h : Uwi l G d σ fl Q (M, a, S0, (m, at' + 2, ic, e, o) :: fs) k b at' 0 ob) : Uwq l G d σ fl Q (M, a, S0, (m, at' + 2, ic, e, o) :: fs) ob := sorry
/-- a row of the catches -/
def Cro (σ : Sg) (b i : Nat) (r : Nat × Nat × Nat × Nat) : Prop := σ.I 2012 b (4 * i) = nI r.1 ∧ σ.I 2012 b (4 * i + 1) = nI r.2.1 ∧ σ.I 2012 b (4 * i + 2) = nI r.2.2.1 ∧ σ.I 2012 b (4 * i + 3) = nI r.2.2.2 ∧ r.1 < 6000 ∧ r.2.1 < 6000 ∧ r.2.2.1 < 6000 ∧ r.2.2.2 < 1000
theorem Uwi.skip {r : Nat × Nat × Nat × Nat} {N : Nat} (hb : b < 16) (hr : Cro σ b i r) (hN : σ.I 2013 b 0 = nI N) (hN1 : N ≤ 100) (hi : i < N) (ha : at' < 6000) (hc : at' < r.1 ∨ r.2.1 ≤ at') (h : Uwi l G d σ fl Q (M, a, S0, fs) k b at' (i + 1) ob) : Uwi l G d σ fl Q (M, a, S0, fs) k b at' i ob := sorry
/-- no row is left: the frame is left -/
theorem Uwi.out (hG : GOK G) (hd : 1 ≤ d) {N : Nat} (hb : b < 16) (hN : σ.I 2013 b 0 = nI N) (hN1 : N ≤ 100) (hl : fs.length < 80) (ha : ic = true → 0 < a) (h : Uwq l G d σ fl Q (M, (if ic = true then a - 1 else a), S0, fs) ob) : Uwi l G d σ fl Q (M, a, S0, (m, p, ic, e, o) :: fs) k b at' N ob := sorry
/-- a row that covers -/
theorem Uwi.row (hG : GOK G) (hd : 138 ≤ d) (hM : WMa σ P) (hI : MInv σ M) {r : Nat × Nat × Nat × Nat} {N : Nat} {ty : Int64} (hk : Frk σ m k b) (hkw : KHw σ M k) (hu : r.2.2.2 < nUk σ k) (h3 : uSo σ k r.2.2.2 = 15) (hv : vOk σ M ty ob) (hty : ¬ ty = 1) (h0 : ¬ ob = 0) (hr : Cro σ b i r) (hN : σ.I 2013 b 0 = nI N) (hN1 : N ≤ 100) (hi : i < N) (ha : at' < 6000) (hc : r.1 ≤ at' ∧ at' < r.2.1) (hl : fs.length < 80) (hb : Frb σ S0 m [ob] fs) (h20 : σ.I 1220 m 0 = nI (nLo σ m))
    (hf : ∀ f, (rzR σ k r.2.2.2 M).2 = .error (false, f) → ∀ s, MRl σ ((rzR σ k r.2.2.2 M).1, a, S0, (m, p, ic, e, o) :: fs) s → Q (.returned (some (.int f))) s)
    (hok : ∀ x, (rzR σ k r.2.2.2 M).2 = .ok x → (isOfB σ (rzR σ k r.2.2.2 M).1 ob (uKl σ k r.2.2.2) = true → Lpq l G (d + 1) σ fl Q ((rzR σ k r.2.2.2 M).1, a, S0, (m, r.2.2.1, ic, e, [ob]) :: fs)) ∧ (isOfB σ (rzR σ k r.2.2.2 M).1 ob (uKl σ k r.2.2.2) = false → Uwi l G d σ fl Q ((rzR σ k r.2.2.2 M).1, a, S0, (m, p, ic, e, o) :: fs) k b at' (i + 1) ob)) : Uwi l G d σ fl Q (M, a, S0, (m, p, ic, e, o) :: fs) k b at' i ob := sorry
end UNW
