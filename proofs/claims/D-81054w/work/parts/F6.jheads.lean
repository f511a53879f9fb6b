/-! Judging: the heads and heirs of all classes; LinkHouse, and the model. -/
/-- the counters of build b are the same -/
def Zc (τ σ : Sg) (b : Nat) : Prop := σ.I 2009 b 0 = τ.I 2009 b 0 ∧ σ.I 2011 b 0 = τ.I 2011 b 0 ∧ σ.I 2013 b 0 = τ.I 2013 b 0
theorem Zc.trans {a s u : Sg} {b : Nat} (h : Zc a s b) (k : Zc s u b) : Zc a u b := sorry
/-- LinkHouse while build b is judged -/
def JL (τ σ : Sg) (b : Nat) (B : Nat → Nat) (n r nk : Nat) : Prop := Fl (pJ b) τ σ ∧ LRd σ b B n r ∧ r ≤ 702 ∧ σ.R 1602 0 0 = some b ∧ b < 16 ∧ WOK σ 1 ∧ Shp σ ∧ σ.I 2007 b 0 = nI nk ∧ nk ≤ 12 ∧ Zc τ σ b
theorem JL.to {τ σ s : Sg} {b n r nk : Nat} {B : Nat → Nat} (h : JL τ σ b B n r nk) (hF : Fl (pJ b) σ s) (he : stat s = stat σ) (h602 : s.R 1602 0 0 = σ.R 1602 0 0) (hz : Zc σ s b := by exact ⟨rfl, rfl, rfl⟩) : JL τ s b B n r nk := sorry
theorem wHb_e {σ s : Sg} {w a b : Nat} (h : stat s = stat σ) : wHb s w a b = wHb σ w a b := sorry
theorem Fl_mix {p : Nat → Nat → Bool} {σ ρ : Sg} : Fl p σ (mix p σ ρ) := sorry
theorem pH_pJ {b : Nat} : ∀ c i, pH c i = true → pJ b c i = true := sorry
/-- a class is not its own heir -/
noncomputable def jHe (σ : Sg) (b k : Nat) : PR Unit := ckP (!wHb σ 1 (12 * b + k) (12 * b + k)) 5 (tkN (σ.I 1124 (12 * b + k) 0))
theorem st_R1603 {σ : Sg} {v : Option Nat} : stat (sR σ 1603 0 0 v) = stat σ := sorry
theorem I1124_e {σ s : Sg} {k : Nat} (h : stat s = stat σ) : s.I 1124 k 0 = σ.I 1124 k 0 := sorry
section SPX
variable {l : Launch} {G : Gl} {d : Nat} {β : Type}
theorem ja_39 (hG : GOK G) {τ : Sg} {b n r nk : Nat} {B : Nat → Nat} {r1 : Option Nat} {K0 : β → Outcome → Sg → Prop} {Q : Outcome → Sg → Prop} {rest : Unit → PR β} (hd : 4 ≤ d) (hT : ∀ k, k < nk → HdT τ (12 * b + k) r) (hN : ∀ s, JL τ s b B n r nk → stat s = stat τ → oJ G b (yTok B n) τ (rest ()) K0 = Q → ∃ m, wq_X6_all_104 l G d 0 r1 Q m 0 s) : ∀ (m i : Nat) (σ1 : Sg), i + m = nk → JL τ σ1 b B n r nk → stat σ1 = stat τ → oJ G b (yTok B n) τ (bnd (jFor (jHe τ b) m i) rest) K0 = Q → wq_X6_all_39 l G d 0 r1 Q (m + 1) (nI i) σ1 := sorry
theorem ja_7 (hG : GOK G) {τ : Sg} {b n r nk : Nat} {B : Nat → Nat} {r1 : Option Nat} {K0 : β → Outcome → Sg → Prop} {Q : Outcome → Sg → Prop} {rest : Unit → PR β} (hd : 4 ≤ d) (hT : ∀ k, k < nk → HdT τ (12 * b + k) r) (hN : ∀ s, JL τ s b B n r nk → stat s = stat τ → oJ G b (yTok B n) τ (rest ()) K0 = Q → ∃ m, wq_X6_all_39 l G d 0 r1 Q m 0 s) : ∀ (m i : Nat) (σ1 : Sg), i + m = nk → JL τ σ1 b B n r nk → stat σ1 = stat τ → oJ G b (yTok B n) τ (bnd (jFor (fun k => jHd τ b (12 * b + k)) m i) rest) K0 = Q → wq_X6_all_7 l G d 0 r1 Q (m + 1) (nI i) σ1 := sorry
end SPX
/-- the columns of judging the heads, the model -/
def pHd (c j : Nat) : Bool := pFt c j || rg 2192 2196 c
theorem pFt_pHd : ∀ c j, pFt c j = true → pHd c j = true := sorry
theorem stJ_hd {σ s : Sg} (h : FJ pHd σ s) : stJ s = stJ σ := sorry
theorem pHd_no {c j : Nat} (h : c ≤ 2119 ∨ (2121 < c ∧ c ≤ 2192) ∨ 2196 < c) : pHd c j = false := sorry
theorem MJ.hd {τ σ s : Sg} {b : Nat} {U : List Nat} (h : MJ τ σ b U) (hF : FJ pHd σ s) : MJ τ s b U := sorry
theorem MK3.hd {τ σ s : Sg} {T : Nat → Tk} {c : Nat} (h : MK3 τ σ T c) (hF : FJ pHd σ s) : MK3 τ s T c := sorry
theorem FJ_mix {p : Nat → Nat → Bool} {q : Nat → Nat → Bool} {σ ρ : Sg} (h : ∀ c i j, q c j = false → p c i = false) : FJ q σ (mix p σ ρ) := sorry
theorem pN_pHd (c i j : Nat) (h : pHd c j = false) : pN c i = false := sorry
theorem SIv.ft {σ s : Sg} (h : SIv σ) (hF : FJ pFt σ s) : SIv s := sorry
theorem SIv_mixN {σ ρ : Sg} (h : SIv ρ) : SIv (mix pN σ ρ) := sorry
theorem FLq_ok {u : Sg} {T : Nat → Tk} {r : PR Unit} (h : FLq u T r) (h0 : u.I 2120 0 0 = 0) : r = .ok () := sorry
theorem FLq_no {u : Sg} {T : Nat → Tk} {r : PR Unit} (h : FLq u T r) (h0 : ¬ u.I 2120 0 0 = 0) {α : Type} {k : Unit → PR α} : FLq u T (bnd r k) := sorry
theorem FLq.mv {u s : Sg} {T : Nat → Tk} {α : Type} {r : PR α} (h : FLq u T r) (e1 : s.I 2120 0 0 = u.I 2120 0 0) (e2 : s.I 2121 0 0 = u.I 2121 0 0) : FLq s T r := sorry
section SPX
variable {l : Launch} {G : Gl} {d : Nat}
theorem cM_b {b i : Nat} (h : b < 16) (hi : i < 12) : nI b * 12 + nI i = nI (cM (12 * b + i)) := sorry
theorem sp_X11_heads (hG : GOK G) {τ σ : Sg} {b nk : Nat} {U : List Nat} {T : Nat → Tk} (hd : 7 ≤ d) (hM : MJ τ σ b U) (hnk : nk ≤ 12) (h23 : σ.I 2123 0 b = nI nk) (hcU : ∀ k, k < nk → 12 * b + k ∈ U) (hP : ∀ k, k < nk → MK3 τ σ T (12 * b + k)) (hcb : ∀ k, k < nk → τ.R 1126 (12 * b + k) 0 = some b) (hI : SIv σ) (hq : FLq σ T (.ok ())) : CT l G yX11_heads (ws_ yX11_heads cX11_heads 3 none) d [.ref (G.adr 11 0)] σ (rV (fun u => FJ pHd σ u ∧ SIv u ∧ FLq u T (bnd (jFor (fun k => jHd τ b (12 * b + k)) nk 0) fun _ => jFor (jHe τ b) nk 0))) := sorry
end SPX
