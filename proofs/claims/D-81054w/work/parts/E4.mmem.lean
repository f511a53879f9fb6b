/-! The model reads a member: the whole. -/
/-- the places of the members lo .. hi -/
def pMr (lo hi c i : Nat) : Bool := (rg 2141 2168 c && (!(rg 2155 2159 c) && (Nat.ble lo i && Nat.ble (i + 1) hi))) || (rg 2155 2159 c && (Nat.ble (4 * lo) i && Nat.ble (i + 1) (4 * hi)))
theorem pMr_iff {lo hi c i : Nat} : pMr lo hi c i = true ↔ (2141 < c ∧ c ≤ 2168 ∧ ¬ (2155 < c ∧ c ≤ 2159) ∧ lo ≤ i ∧ i < hi) ∨ (2155 < c ∧ c ≤ 2159 ∧ 4 * lo ≤ i ∧ i < 4 * hi) := sorry
/-- the columns of reading the members of class cI, from the j-th on -/
def pRk (s e cI j c i : Nat) : Bool := pE s e c i || (pMr (cI * 34 + j) (cI * 34 + 34) c i || (Nat.beq c 2141 && Nat.beq i cI))
theorem pRk_iff {s e cI j c i : Nat} : pRk s e cI j c i = true ↔ pE s e c i = true ∨ ((2141 < c ∧ c ≤ 2168 ∧ ¬ (2155 < c ∧ c ≤ 2159) ∧ cI * 34 + j ≤ i ∧ i < cI * 34 + 34) ∨ (2155 < c ∧ c ≤ 2159 ∧ 4 * (cI * 34 + j) ≤ i ∧ i < 4 * (cI * 34 + 34))) ∨ (c = 2141 ∧ i = cI) := sorry
theorem pRk_no {s e cI j c i : Nat} (h1 : pE s e c i = false) (h2 : ¬ ((2141 < c ∧ c ≤ 2168 ∧ ¬ (2155 < c ∧ c ≤ 2159) ∧ cI * 34 + j ≤ i ∧ i < cI * 34 + 34) ∨ (2155 < c ∧ c ≤ 2159 ∧ 4 * (cI * 34 + j) ≤ i ∧ i < 4 * (cI * 34 + 34)))) (h3 : ¬ (c = 2141 ∧ i = cI)) : pRk s e cI j c i = false := sorry
theorem pG_pRk {s e cI j : Nat} : ∀ c i, pG c i = true → pRk s e cI j c i = true := sorry
theorem pRm_pRk {s e cI j : Nat} (hj : j < 34) : ∀ c i, pRm s e (cI * 34 + j) c i = true → pRk s e cI j c i = true := sorry
theorem pEf_pRk {s e cI j : Nat} (hj : j < 34) : ∀ c i, pEf (cI * 34 + j) c i = true → pRk s e cI j c i = true := sorry
theorem pRk_up {s e e1 cI j j1 : Nat} (he : e ≤ e1) (hj : j ≤ j1) : ∀ c i, pRk s e1 cI j1 c i = true → pRk s e cI j c i = true := sorry
theorem MFa.fj {u u' : Sg} {s : Nat} {T : Nat → Tk} {m : Nat} {mr : MRc} {lo hi : Nat} {gI : Nat → Int32} {gB : Nat → Bool} {gL : Nat → Int64} {p : Nat → Nat → Bool} (hs : s < 16) (h : MFa u s T m mr lo hi gI gB gL) (hF : FJ p u u') (hp1 : ∀ c k, 2155 < c → c ≤ 2159 → k < 4 → p c (4 * m + k) = false) (hp2 : ∀ c j, 2169 < c → c ≤ 2188 → lo ≤ j → j < hi → p c (s * 1700 + j) = false) : MFa u' s T m mr lo hi gI gB gL := sorry
/-- the record of member m -/
def MRq (u : Sg) (s : Nat) (T : Nat → Tk) (face : Bool) (m : Nat) (mr : MRc) (lo hi : Nat) : Prop := ∃ gI gB gL gJ gC, MQm u m gI gB gL ∧ MFa u s T m mr lo hi gJ gC gL ∧ N1 gI gB gL ∧ gI 2143 = nI mr.2.1 ∧ mr.2.1 < 4 ∧ (∀ c, gI c = if c = 2144 then mAcM face mr.1 mr.2.1 else gJ c) ∧ (∀ c, gB c = if c = 2147 then mBrM face mr.1 (isT mr.2.2.2.2.2.2.2.2.2.2) mr.2.2.2.2.1 else if c = 2145 ∨ c = 2146 then (if face = true ∧ mr.1 = 0 then true else gC c) else gC c)
theorem MRq.fj {u u' : Sg} {s : Nat} {T : Nat → Tk} {face : Bool} {m : Nat} {mr : MRc} {lo hi : Nat} {p : Nat → Nat → Bool} (hs : s < 16) (h : MRq u s T face m mr lo hi) (hF : FJ p u u') (hp0 : ∀ c, 2141 < c → c ≤ 2168 → ¬ (2155 < c ∧ c ≤ 2159) → p c m = false) (hp1 : ∀ c k, 2155 < c → c ≤ 2159 → k < 4 → p c (4 * m + k) = false) (hp2 : ∀ c j, 2169 < c → c ≤ 2188 → lo ≤ j → j < hi → p c (s * 1700 + j) = false) : MRq u' s T face m mr lo hi := sorry
/-- one member, and whether it begins as one and there is room -/
def pOm (T : Nat → Tk) (f j t : Nat) : PR (MRc × Nat) := bnd (pPk T t) fun x => if cBm x = false then .error (2, t) else if j = 20 then .error (3, t) else pMem T f t
def oMe (σ : Sg) (s : Nat) (B : Nat → Nat) (n e cI j : Nat) (face : Bool) (f : Nat) (r : PR Nat) (o : Outcome) (u : Sg) : Prop := o = .returned none ∧ ∃ e2, FJ (pRk s e cI j) σ u ∧ PS u s B n 0 e2 (bnd r fun t => bnd (pOm (yTok B n) f j t) fun a => .ok a.2) ∧ e ≤ e2 ∧ e2 ≤ 900 ∧ (∀ t a, r = .ok t → pOm (yTok B n) f j t = .ok a → e2 ≤ a.2 ∧ u.I 2141 0 cI = nI (j + 1) ∧ MRq u s (yTok B n) face (cI * 34 + j) a.1 e e2) ∧ (∀ z, r = .error z → Fld u (.error z : PR Nat))
/-- a new member -/
def nwM (σ : Sg) (m : Nat) : Sg := sI (sI (sL (sI (sB (sI (sI (sI (sI (sI (sL (sL (sB (sB (sB (sB (sB σ 2145 0 m false) 2146 0 m false) 2148 0 m false) 2149 0 m false) 2150 0 m false) 2151 0 m 0) 2153 0 m 1) 2155 0 m 0) 2160 0 m (-2)) 2161 0 m (-2)) 2162 0 m 0) 2163 0 m 0) 2164 0 m false) 2165 0 m 0) 2166 0 m 0) 2167 0 m (-2)) 2168 0 m 0
def N2 (gB : Nat → Bool) (gL : Nat → Int64) : Prop := gB 2145 = false ∧ gB 2146 = false ∧ gB 2148 = false ∧ gL 2151 = 0
theorem MZ.new {σ : Sg} {s n e m : Nat} {B : Nat → Nat} {r : PR Nat} (h : PS σ s B n 0 e r) (he : ∀ t, r = .ok t → e ≤ t) (he9 : e ≤ 900) (hm : m < 7344) : ∃ gI gB gL, MZ σ (nwM σ m) s B n e m e r gI gB gL ∧ N0 gI gB gL ∧ N1 gI gB gL ∧ N2 gB gL := sorry
section SPX
variable {l : Launch} {G : Gl}
theorem sp_X11_newMember (hG : GOK G) {d m : Nat} {σ : Sg} (hd : 1 ≤ d) (hm : m < 7344) : CT l G yX11_newMember (ws_ yX11_newMember cX11_newMember 2 none) d [.ref (G.adr 11 0), .int (nI m)] σ (rV (fun st => st = nwM σ m)) := sorry
/-- effects, whatever stands there -/
theorem mx_eff0 (hG : GOK G) {B : Nat → Nat} {n d : Nat} {σ st : Sg} {s e m e1 cI : Nat} {r : PR Nat} {gI : Nat → Int32} {gB : Nat → Bool} {gL : Nat → Int64} (hd : 1 ≤ d) (hc : cI < 216) (h : MZ σ st s B n e m e1 r gI gB gL) : CT l G yX11_effects (ws_ yX11_effects cX11_effects 4 none) d [.ref (G.adr 11 0), .int (nI cI), .int (nI m)] st (fun o u => o = .returned none ∧ PS u s B n 0 e1 r ∧ FJ (pEf m) st u) := sorry
end SPX
