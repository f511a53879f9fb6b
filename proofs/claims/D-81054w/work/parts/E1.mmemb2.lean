/-! The model reads a member: its block, what counts without being told. -/
/-- a member is being read -/
def MZ (σ st : Sg) (s : Nat) (B : Nat → Nat) (n e m e1 : Nat) (r : PR Nat) (gI : Nat → Int32) (gB : Nat → Bool) (gL : Nat → Int64) : Prop := FJ (pRm s e m) σ st ∧ PS st s B n 0 e1 r ∧ MQm st m gI gB gL ∧ e ≤ e1 ∧ (∀ t, r = .ok t → e1 ≤ t) ∧ e1 ≤ 900 ∧ m < 7344
section MZ
variable {σ st u : Sg} {s n e m e1 : Nat} {B : Nat → Nat} {r r' : PR Nat} {gI : Nat → Int32} {gB : Nat → Bool} {gL : Nat → Int64}
theorem MZ.re {f : Nat → PR Nat} (h : MZ σ st s B n e m e1 r gI gB gL) (hf : Fw f) (hp : PS st s B n 0 e1 (bnd r f)) : MZ σ st s B n e m e1 (bnd r f) gI gB gL := sorry
theorem MZ.fg (h : MZ σ st s B n e m e1 r gI gB gL) (hF : FJ pG st u) (hp : PS u s B n 0 e1 r) : MZ σ u s B n e m e1 r gI gB gL := sorry
theorem MZ.go {f : Nat → PR Nat} (h : MZ σ st s B n e m e1 r gI gB gL) (hf : Fw f) (hF : FJ pG st u) (hp : PS u s B n 0 e1 (bnd r f)) : MZ σ u s B n e m e1 (bnd r f) gI gB gL := sorry
theorem MZ.vI {c0 : Nat} {v : Int32} (h : MZ σ st s B n e m e1 r gI gB gL) (hc : 2141 < c0 ∧ c0 ≤ 2168 ∧ ¬ (2155 < c0 ∧ c0 ≤ 2159)) : MZ σ (sI st c0 0 m v) s B n e m e1 r (fun c => if c = c0 then v else gI c) gB gL := sorry
theorem MZ.vB {c0 : Nat} {v : Bool} (h : MZ σ st s B n e m e1 r gI gB gL) (hc : 2141 < c0 ∧ c0 ≤ 2168 ∧ ¬ (2155 < c0 ∧ c0 ≤ 2159)) : MZ σ (sB st c0 0 m v) s B n e m e1 r gI (fun c => if c = c0 then v else gB c) gL := sorry
theorem MZ.vL {c0 : Nat} {v : Int64} (h : MZ σ st s B n e m e1 r gI gB gL) (hc : 2141 < c0 ∧ c0 ≤ 2168 ∧ ¬ (2155 < c0 ∧ c0 ≤ 2159)) : MZ σ (sL st c0 0 m v) s B n e m e1 r gI gB (fun c => if c = c0 then v else gL c) := sorry
theorem MZ.in (h : MZ σ st s B n e m e1 r gI gB gL) : vp_in (nI m) 7344 ∧ (nI m).toNatClampNeg = m := sorry
/-- a tree is read -/
theorem MZ.sub {rr : PR (Tr × Nat)} {row : Bool} {v : Int32} (h : MZ σ st s B n e m e1 r gI gB gL) (hE : oEv st s B n 0 e1 r rr 0 row v u) : ∃ e2, e1 ≤ e2 ∧ Sb u s B n e1 e2 rr row v ∧ FJ (pE s e1) st u ∧ MZ σ u s B n e m e2 (bnd rr (fun a => .ok a.2)) gI gB gL := sorry
end MZ
theorem bnd_p {α β : Type} {r : PR Nat} {f : Nat → PR α} {K : Nat → α → PR β} {p : Nat} (h : ∀ t, r = .ok t → p = t) : bnd r (fun t => bnd (f t) (K t)) = bnd (bnd r f) (K p) := sorry
def selT (rr : PR (Tr × Nat)) : Tr := match rr with
  | .ok a => a.1
  | .error _ => nl
def selP (rr : PR (List (Nat × Nat) × Nat)) : List (Nat × Nat) := match rr with
  | .ok a => a.1
  | .error _ => []
theorem bnd_selT {β : Type} {rr : PR (Tr × Nat)} {K : Tr × Nat → PR β} : bnd rr K = bnd (bnd rr fun a => .ok a.2) (fun t => K (selT rr, t)) := sorry
theorem bnd_selP {β : Type} {rr : PR (List (Nat × Nat) × Nat)} {K : List (Nat × Nat) × Nat → PR β} : bnd rr K = bnd (bnd rr fun a => .ok a.2) (fun t => K (selP rr, t)) := sorry
/-- a word that may stand, in the grammar and in the state -/
theorem bnd_tw {β : Type} {T : Nat → Tk} {r : PR Nat} {q : Nat} {K : Bool × Nat → PR β} {b : Bool} (h1 : b = true → ∃ t, r = .ok t ∧ (T t).1 = q) (h2 : b = false → ∀ t, r = .ok t → ¬ (T t).1 = q) : bnd r (fun t => bnd (pHa T q t) K) = bnd (bnd r (pHt T q)) (fun t => K (b, t)) := sorry
/-- the columns of a member's block -/
def pBd (s e1 m c j : Nat) : Bool := pE s e1 c j || (rg 2160 2163 c && Nat.beq j m)
theorem pE_pBd {s e1 m : Nat} : ∀ c j, pE s e1 c j = true → pBd s e1 m c j = true := sorry
theorem pG_pBd {s e1 m : Nat} : ∀ c j, pG c j = true → pBd s e1 m c j = true := sorry
theorem pBd_m {s e1 m c : Nat} (h : 2160 < c ∧ c ≤ 2163) : pBd s e1 m c m = true := sorry
theorem pBd_no {s e1 m c j : Nat} (h1 : pE s e1 c j = false) (h2 : c ≤ 2160 ∨ 2163 < c) : pBd s e1 m c j = false := sorry
section SPX
variable {l : Launch} {G : Gl}
theorem mx_body (hG : GOK G) (hZ : SOK G) {B : Nat → Nat} {n f d : Nat} {σ st : Sg} {s e m e1 : Nat} {r : PR Nat} {gI : Nat → Int32} {gB : Nat → Bool} {gL : Nat → Int64} (hd : 162 ≤ d) (hf : 12 * 701 + 6 ≤ f) (h : MZ σ st s B n e m e1 r gI gB gL) : CT l G yX11_body (ws_ yX11_body cX11_body 2 none) d [.ref (G.adr 11 0), .int (nI m)] st (fun o u => o = .returned none ∧ ∃ e2 v x y, e1 ≤ e2 ∧ MZ σ u s B n e m e2 (bnd (bnd r fun t => pp (yTok B n) f 21 t 0 nl) fun a => .ok a.2) (fun c => if c = 2163 then y else if c = 2161 then v else if c = 2162 then x else gI c) gB gL ∧ FJ (pBd s e1 m) st u ∧ (∀ t a, r = .ok t → pp (yTok B n) f 21 t 0 nl = .ok a → x = nI t ∧ y = nI a.2 ∧ isT a.1 = true ∧ MTr u s (yTok B n) a.1 e1 e2 v)) := sorry
/-- the access that counts -/
def pEf (m c j : Nat) : Bool := rg 2143 2147 c && Nat.beq j m
theorem pEf_iff {m c j : Nat} : pEf m c j = true ↔ 2143 < c ∧ c ≤ 2147 ∧ j = m := sorry
theorem pEf_no {m c j : Nat} (h : ¬ (2143 < c ∧ c ≤ 2147 ∧ j = m)) : pEf m c j = false := sorry
def mAcM (face : Bool) (so told : Nat) : Int32 := if face = true ∧ so = 0 then 3 else mAc face so told
def mBrM (face : Bool) (so : Nat) (blk bt : Bool) : Bool := so == 1 && (if face = true then !blk else bt)
theorem mx_effects (hG : GOK G) {B : Nat → Nat} {n d : Nat} {σ st : Sg} {s e m e1 cI so told : Nat} {r : PR Nat} {face bt blk : Bool} {gI : Nat → Int32} {gB : Nat → Bool} {gL : Nat → Int64} (hd : 1 ≤ d) (hc : cI < 216) (h : MZ σ st s B n e m e1 r gI gB gL) (hfa : st.I 2127 0 cI = 3 ↔ face = true) (hso : gI 2142 = nI so) (hso3 : so < 4) (hto : gI 2143 = nI told) (hto3 : told < 4) (hbt : gB 2148 = bt) (hbk : gI 2161 = -2 ↔ blk = false) : CT l G yX11_effects (ws_ yX11_effects cX11_effects 4 none) d [.ref (G.adr 11 0), .int (nI cI), .int (nI m)] st (fun o u => o = .returned none ∧ MZ σ u s B n e m e1 r (fun c => if c = 2144 then mAcM face so told else gI c) (fun c => if c = 2147 then mBrM face so blk bt else if c = 2145 ∨ c = 2146 then (if face = true ∧ so = 0 then true else gB c) else gB c) gL ∧ FJ (pEf m) st u) := sorry
end SPX
