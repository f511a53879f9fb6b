/-! The model reads a member: tools, params. -/
/-- the places of member m -/
def pMm (m c j : Nat) : Bool := (rg 2141 2168 c && (!(rg 2155 2159 c) && Nat.beq j m)) || (rg 2155 2159 c && (Nat.ble (4 * m) j && Nat.ble (j + 1) (4 * m + 4)))
theorem pMm_iff {m c j : Nat} : pMm m c j = true ↔ (2141 < c ∧ c ≤ 2168 ∧ ¬ (2155 < c ∧ c ≤ 2159) ∧ j = m) ∨ (2155 < c ∧ c ≤ 2159 ∧ 4 * m ≤ j ∧ j < 4 * m + 4) := sorry
theorem pMm_no {m c j : Nat} (h : ¬ ((2141 < c ∧ c ≤ 2168 ∧ ¬ (2155 < c ∧ c ≤ 2159) ∧ j = m) ∨ (2155 < c ∧ c ≤ 2159 ∧ 4 * m ≤ j ∧ j < 4 * m + 4))) : pMm m c j = false := sorry
/-- the columns of reading member m, nodes from e0 on -/
def pRm (s e0 m c j : Nat) : Bool := pE s e0 c j || pMm m c j
theorem pE_pRm {s e0 m : Nat} : ∀ c j, pE s e0 c j = true → pRm s e0 m c j = true := sorry
theorem pG_pRm {s e0 m : Nat} : ∀ c j, pG c j = true → pRm s e0 m c j = true := sorry
theorem pMm_pRm {s e0 m : Nat} : ∀ c j, pMm m c j = true → pRm s e0 m c j = true := sorry
theorem pRm_no {s e0 m c j : Nat} (h1 : pE s e0 c j = false) (h2 : pMm m c j = false) : pRm s e0 m c j = false := sorry
def iMc (c : Nat) : Bool := rg 2141 2144 c || (c == 2152 || (c == 2154 || (c == 2155 || (rg 2159 2163 c || (c == 2165 || (c == 2167 || c == 2168))))))
def bMc (c : Nat) : Bool := rg 2144 2150 c || c == 2164
def lMc (c : Nat) : Bool := c == 2151 || (c == 2153 || c == 2166)
theorem iMc_c {c : Nat} (h : iMc c = true) : c = 2142 ∨ c = 2143 ∨ c = 2144 ∨ c = 2152 ∨ c = 2154 ∨ c = 2155 ∨ c = 2160 ∨ c = 2161 ∨ c = 2162 ∨ c = 2163 ∨ c = 2165 ∨ c = 2167 ∨ c = 2168 := sorry
theorem bMc_c {c : Nat} (h : bMc c = true) : c = 2145 ∨ c = 2146 ∨ c = 2147 ∨ c = 2148 ∨ c = 2149 ∨ c = 2150 ∨ c = 2164 := sorry
theorem lMc_c {c : Nat} (h : lMc c = true) : c = 2151 ∨ c = 2153 ∨ c = 2166 := sorry
/-- the columns of member m -/
def MQm (st : Sg) (m : Nat) (gI : Nat → Int32) (gB : Nat → Bool) (gL : Nat → Int64) : Prop := (∀ c, iMc c = true → st.I c 0 m = gI c) ∧ (∀ c, bMc c = true → st.B c 0 m = gB c) ∧ ∀ c, lMc c = true → st.L c 0 m = gL c
theorem oneB {σ : Sg} {c X : Nat} {v : Bool} : FJ (fun c' j => Nat.beq c' c && Nat.beq j X) σ (sB σ c 0 X v) := sorry
section MQm
variable {st u : Sg} {m : Nat} {gI : Nat → Int32} {gB : Nat → Bool} {gL : Nat → Int64}
theorem MQm.vI {c0 : Nat} {v : Int32} (h : MQm st m gI gB gL) : MQm (sI st c0 0 m v) m (fun c => if c = c0 then v else gI c) gB gL := sorry
theorem MQm.vB {c0 : Nat} {v : Bool} (h : MQm st m gI gB gL) : MQm (sB st c0 0 m v) m gI (fun c => if c = c0 then v else gB c) gL := sorry
theorem MQm.vL {c0 : Nat} {v : Int64} (h : MQm st m gI gB gL) : MQm (sL st c0 0 m v) m gI gB (fun c => if c = c0 then v else gL c) := sorry
theorem MQm.fj {p : Nat → Nat → Bool} (h : MQm st m gI gB gL) (hF : FJ p st u) (hp : ∀ c, 2141 < c → c ≤ 2168 → ¬ (2155 < c ∧ c ≤ 2159) → p c m = false) : MQm u m gI gB gL := sorry
theorem MQm.ext {fI : Nat → Int32} {fB : Nat → Bool} {fL : Nat → Int64} (h : MQm st m gI gB gL) (e1 : ∀ c, iMc c = true → gI c = fI c) (e2 : ∀ c, bMc c = true → gB c = fB c) (e3 : ∀ c, lMc c = true → gL c = fL c) : MQm st m fI fB fL := sorry
end MQm
/-- the params of member m are those of ps -/
def PQ (st : Sg) (T : Nat → Tk) (m : Nat) (ps : List (Nat × Nat)) : Prop := ∀ k, k < ps.length → st.L 2156 0 (4 * m + k) = tM (lN (tyT T (ps.getD k (0, 0)).1)) ∧ st.I 2157 0 (4 * m + k) = nI (T (ps.getD k (0, 0)).1).2.2.1 ∧ st.L 2158 0 (4 * m + k) = lN (T (ps.getD k (0, 0)).2).2.1 ∧ st.I 2159 0 (4 * m + k) = nI (T (ps.getD k (0, 0)).2).2.2.1
theorem PQ.fj {st u : Sg} {T : Nat → Tk} {m : Nat} {ps : List (Nat × Nat)} {p : Nat → Nat → Bool} (h : PQ st T m ps) (hF : FJ p st u) (hp : ∀ c k, 2155 < c → c ≤ 2159 → k < ps.length → p c (4 * m + k) = false) : PQ u T m ps := sorry
/-- the columns of params -/
def pPq (m c j : Nat) : Bool := pG c j || ((Nat.beq c 2155 && Nat.beq j m) || (rg 2155 2159 c && (Nat.ble (4 * m) j && Nat.ble (j + 1) (4 * m + 4))))
theorem pPq_iff {m c j : Nat} : pPq m c j = true ↔ (2119 < c ∧ c ≤ 2122) ∨ (c = 2155 ∧ j = m) ∨ (2155 < c ∧ c ≤ 2159 ∧ 4 * m ≤ j ∧ j < 4 * m + 4) := sorry
theorem pPq_no {m c j : Nat} (h : ¬ ((2119 < c ∧ c ≤ 2122) ∨ (c = 2155 ∧ j = m) ∨ (2155 < c ∧ c ≤ 2159 ∧ 4 * m ≤ j ∧ j < 4 * m + 4))) : pPq m c j = false := sorry
theorem pG_pPq {m : Nat} : ∀ c j, pG c j = true → pPq m c j = true := sorry
section SPX
variable {l : Launch} {G : Gl}
/-- one param, and whether another is to come -/
def pOne (T : Nat → Tk) (k t : Nat) : PR Nat := if ((T t).1 = 216 ∨ (T t).1 = 2) ∧ k = 4 then .error (3, t) else bnd (pTy T t) fun t1 => pWa T 1 t1
theorem pPar_1 {T : Nat → Tk} {g k t : Nat} : pPar T (g + 1) k t = bnd (pOne T k t) fun t2 => bnd (pHa T 44 t2) fun y => if y.1 = true then (bnd (pPar T g (k + 1) y.2) fun z => .ok ((t, t2 - 1) :: z.1, z.2)) else bnd (pWa T 41 t2) fun t3 => .ok ([(t, t2 - 1)], t3) := sorry
theorem mx_params (hG : GOK G) (hZ : SOK G) {B : Nat → Nat} {n d : Nat} {σ : Sg} {s w e m : Nat} {r : PR Nat} (hd : 11 ≤ d) (hm : m < 7344) (h : PS σ s B n w e r) (h0 : σ.I 2155 0 m = nI 0) : CT l G yX11_params (ws_ yX11_params cX11_params 6 none) d [.ref (G.adr 11 0), .int (nI m)] σ (fun o st => o = .returned none ∧ FJ (pPq m) σ st ∧ PS st s B n w e (bnd r fun t => bnd (pWa (yTok B n) 40 t) fun t1 => bnd (pPs (yTok B n) t1) fun z => .ok z.2) ∧ (∀ t t1 z, r = .ok t → pWa (yTok B n) 40 t = .ok t1 → pPs (yTok B n) t1 = .ok z → st.I 2155 0 m = nI z.1.length ∧ z.1.length ≤ 4 ∧ PQ st (yTok B n) m z.1) ∧ Fld st (bnd r fun t => bnd (pWa (yTok B n) 40 t) fun t1 => bnd (pPs (yTok B n) t1) fun z => .ok z.2)) := sorry
end SPX
