/-! LinkHouse reads a member: its columns, more, block. -/
def iC (c : Nat) : Bool := c == 1200 || c == 1202 || c == 1208 || rg 1212 1215 c || rg 1218 1221 c
def bC (c : Nat) : Bool := rg 1202 1206 c || c == 1212
def lC (c : Nat) : Bool := c == 1201 || c == 1207
theorem iC_c {c : Nat} (h : iC c = true) : c = 1200 ∨ c = 1202 ∨ c = 1208 ∨ c = 1213 ∨ c = 1214 ∨ c = 1215 ∨ c = 1219 ∨ c = 1220 ∨ c = 1221 := sorry
theorem bC_c {c : Nat} (h : bC c = true) : c = 1203 ∨ c = 1204 ∨ c = 1205 ∨ c = 1206 ∨ c = 1212 := sorry
theorem lC_c {c : Nat} (h : lC c = true) : c = 1201 ∨ c = 1207 := sorry
/-- the columns of member q -/
def MB (s : Sg) (q kk : Nat) (fI : Nat → Int32) (fB : Nat → Bool) (fL : Nat → Int64) (x y z : Int32) : Prop := s.R 1222 q 0 = some kk ∧ (∀ c, iC c = true → s.I c q 0 = fI c) ∧ (∀ c, bC c = true → s.B c q 0 = fB c) ∧ (∀ c, lC c = true → s.L c q 0 = fL c) ∧ s.I 1216 q 0 = x ∧ s.I 1217 q 0 = y ∧ s.I 1218 q 0 = z
section MB
variable {s s' : Sg} {q kk b : Nat} {fI : Nat → Int32} {fB : Nat → Bool} {fL : Nat → Int64} {x y z : Int32}
theorem MB.fl {p : Nat → Nat → Bool} (hF : Fl p s s') (hp : ∀ c, 1199 < c → c ≤ 1222 → p c q = false) (h : MB s q kk fI fB fL x y z) : MB s' q kk fI fB fL x y z := sorry
theorem MB.vI {c0 : Nat} {v : Int32} (h : MB s q kk fI fB fL x y z) (hc : iC c0 = true) : MB (sI s c0 q 0 v) q kk (fun c => if c = c0 then v else fI c) fB fL x y z := sorry
theorem MB.vB {c0 : Nat} {v : Bool} (h : MB s q kk fI fB fL x y z) : MB (sB s c0 q 0 v) q kk fI (fun c => if c = c0 then v else fB c) fL x y z := sorry
theorem MB.vL {c0 : Nat} {v : Int64} (h : MB s q kk fI fB fL x y z) : MB (sL s c0 q 0 v) q kk fI fB (fun c => if c = c0 then v else fL c) x y z := sorry
theorem MB.v6 {v : Int32} (h : MB s q kk fI fB fL x y z) : MB (sI s 1216 q 0 v) q kk fI fB fL v y z := sorry
theorem MB.v7 {v : Int32} (h : MB s q kk fI fB fL x y z) : MB (sI s 1217 q 0 v) q kk fI fB fL x v z := sorry
theorem MB.v8 {v : Int32} (h : MB s q kk fI fB fL x y z) : MB (sI s 1218 q 0 v) q kk fI fB fL x y v := sorry
theorem MB.pm {v : Int32} (h : MB s q kk fI fB fL x y z) (hF : Fl (pPm b q) s s') (h8 : s'.I 1208 q 0 = v) : MB s' q kk (fun c => if c = 1208 then v else fI c) fB fL x y z := sorry
theorem MB.ext {gI : Nat → Int32} {gB : Nat → Bool} {gL : Nat → Int64} (h : MB s q kk fI fB fL x y z) (e1 : ∀ c, iC c = true → fI c = gI c) (e2 : ∀ c, bC c = true → fB c = gB c) (e3 : ∀ c, lC c = true → fL c = gL c) : MB s q kk gI gB gL x y z := sorry
end MB
/-- the columns of reading, of member q, how many members kk has -/
def pMb (b q kk c i : Nat) : Bool := pT b c i || ((rg 1199 1222 c && Nat.beq i q) || (Nat.beq c 1117 && Nat.beq i kk))
theorem pT_pMb {b q kk : Nat} : ∀ c i, pT b c i = true → pMb b q kk c i = true := sorry
theorem pU_pMb {b q kk : Nat} : ∀ c i, pU b c i = true → pMb b q kk c i = true := sorry
theorem pPm_pMb {b q kk : Nat} : ∀ c i, pPm b q c i = true → pMb b q kk c i = true := sorry
theorem pMb_pCL {b q kk : Nat} (hk : 12 * b ≤ kk ∧ kk < 12 * b + 12) (hq : 396 * b ≤ q ∧ q < 396 * b + 396) : ∀ c i, pMb b q kk c i = true → pCL b c i = true := sorry
theorem pMb_q {b q kk c : Nat} (hc : 1199 < c ∧ c ≤ 1222) : pMb b q kk c q = true := sorry
theorem pT_mem {b q : Nat} : ∀ c, 1199 < c → c ≤ 1222 → pT b c q = false := sorry
theorem pU_mem {b q : Nat} : ∀ c, 1199 < c → c ≤ 1222 → pU b c q = false := sorry
/-- while a member is read -/
def MX (σ s : Sg) (b : Nat) (B : Nat → Nat) (n q kk nm t m r : Nat) (fI : Nat → Int32) (fB : Nat → Bool) (fL : Nat → Int64) (x y z : Int32) : Prop := Fl (pMb b q kk) σ s ∧ Pn s ∧ LT s b B n t 0 m r ∧ (∀ j, NdS σ s j) ∧ s.I 1117 kk 0 = nI (nm + 1) ∧ MB s q kk fI fB fL x y z
section MX
variable {σ s u : Sg} {b n q kk nm t m r : Nat} {B : Nat → Nat} {fI : Nat → Int32} {fB : Nat → Bool} {fL : Nat → Int64} {x y z : Int32}
theorem MX.tk {t' r' : Nat} (h : MX σ s b B n q kk nm t m r fI fB fL x y z) (hF : Fl (pU b) s u) (hL : LT u b B n t' 0 m r') : MX σ u b B n q kk nm t' m r' fI fB fL x y z := sorry
theorem MX.k {s' : Sg} {gI : Nat → Int32} {gB : Nat → Bool} {gL : Nat → Int64} {x' y' z' : Int32} (h : MX σ s b B n q kk nm t m r fI fB fL x y z) (hF : Fl (pMb b q kk) s s') (hK : Fl (pKM b) s s') (h17 : s'.I 1117 kk 0 = s.I 1117 kk 0) (hM : MB s' q kk gI gB gL x' y' z') : MX σ s' b B n q kk nm t m r gI gB gL x' y' z' := sorry
theorem MX.vI {c0 : Nat} {v : Int32} (h : MX σ s b B n q kk nm t m r fI fB fL x y z) (hq : 396 * b ≤ q ∧ q < 396 * b + 396) (hc : iC c0 = true) : MX σ (sI s c0 q 0 v) b B n q kk nm t m r (fun c => if c = c0 then v else fI c) fB fL x y z := sorry
theorem MX.vB {c0 : Nat} {v : Bool} (h : MX σ s b B n q kk nm t m r fI fB fL x y z) (hq : 396 * b ≤ q ∧ q < 396 * b + 396) (hc : bC c0 = true) : MX σ (sB s c0 q 0 v) b B n q kk nm t m r fI (fun c => if c = c0 then v else fB c) fL x y z := sorry
theorem MX.vL {c0 : Nat} {v : Int64} (h : MX σ s b B n q kk nm t m r fI fB fL x y z) (hq : 396 * b ≤ q ∧ q < 396 * b + 396) (hc : lC c0 = true) : MX σ (sL s c0 q 0 v) b B n q kk nm t m r fI fB (fun c => if c = c0 then v else fL c) x y z := sorry
theorem MX.v6 {v : Int32} (h : MX σ s b B n q kk nm t m r fI fB fL x y z) (hq : 396 * b ≤ q ∧ q < 396 * b + 396) : MX σ (sI s 1216 q 0 v) b B n q kk nm t m r fI fB fL v y z := sorry
end MX
/-- what a member's columns are when it begins -/
def fI0 (v : Int32) (c : Nat) : Int32 := if c = 1200 then v else if c = 1202 then 1 else if c = 1208 then 0 else if c = 1213 then 0 else if c = 1220 then 0 else -2
section SPX
variable {l : Launch} {G : Gl}
theorem sp_X1_more (hG : GOK G) {σ0 σ : Sg} {d b n t m r kk nm : Nat} {B : Nat → Nat} (hd : 2 ≤ d) (hL : LT σ b B n t 0 m r) (hP : Pn σ) (hF : Fl (pU b) σ0 σ) (hkk : 12 * b ≤ kk ∧ kk < 12 * b + 12) (h17 : σ0.I 1117 kk 0 = nI nm) (hn : nm < 33) : CT l G yX1_more (ws_ yX1_more cX1_more 2 (some (.object "LinkHouse$Member"))) d [.ref (G.adr 1 kk)] σ (rR G 2 (some (33 * kk + nm)) (fun s => MX σ0 s b B n (33 * kk + nm) kk nm t m r (fI0 (s.I 1200 (33 * kk + nm) 0)) (fun _ => false) (fun _ => 0) (-2) (-2) (-2))) := sorry
end SPX
