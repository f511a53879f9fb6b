/-! LinkHouse reads a class: its columns, Build.more. -/
def iK (c : Nat) : Bool := c == 1101 || c == 1109 || c == 1112 || c == 1114 || rg 1117 1124 c || rg 1126 1128 c
def bK (c : Nat) : Bool := rg 1101 1106 c || c == 1115
def lK (c : Nat) : Bool := c == 1100 || c == 1107 || c == 1110
theorem iK_c {c : Nat} (h : iK c = true) : c = 1101 ∨ c = 1109 ∨ c = 1112 ∨ c = 1114 ∨ c = 1118 ∨ c = 1119 ∨ c = 1120 ∨ c = 1121 ∨ c = 1122 ∨ c = 1123 ∨ c = 1124 ∨ c = 1127 ∨ c = 1128 := sorry
theorem bK_c {c : Nat} (h : bK c = true) : c = 1102 ∨ c = 1103 ∨ c = 1104 ∨ c = 1105 ∨ c = 1106 ∨ c = 1115 := sorry
theorem lK_c {c : Nat} (h : lK c = true) : c = 1100 ∨ c = 1107 ∨ c = 1110 := sorry
/-- the columns of class kk -/
def KB (s : Sg) (kk b : Nat) (fI : Nat → Int32) (fB : Nat → Bool) (fL : Nat → Int64) : Prop := s.R 1126 kk 0 = some b ∧ (∀ c, iK c = true → s.I c kk 0 = fI c) ∧ (∀ c, bK c = true → s.B c kk 0 = fB c) ∧ (∀ c, lK c = true → s.L c kk 0 = fL c)
def RowOK (s : Sg) (T : Nat → Tk) (kk fa at_ : Nat) (zs : List Nat) : Prop := ∀ j, j < zs.length → s.L fa kk j = lN (T (zs.getD j 0)).2.1 ∧ s.I 1125 kk (at_ + j) = nI (zs.getD j 0)
/-- the head of class kk: tokens + 1 of what it is and of its host, three rows -/
def KH (s : Sg) (T : Nat → Tk) (kk p0 p5 : Nat) (fs ws os : List Nat) : Prop := (0 < p0 → s.I 1125 kk 0 = nI (p0 - 1)) ∧ (0 < p5 → s.I 1125 kk 5 = nI (p5 - 1)) ∧ (fs.length ≤ 4 ∧ RowOK s T kk 1108 1 fs) ∧ (ws.length ≤ 8 ∧ RowOK s T kk 1111 6 ws) ∧ (os.length ≤ 8 ∧ RowOK s T kk 1113 14 os)
section KB
variable {s s' : Sg} {kk b : Nat} {fI : Nat → Int32} {fB : Nat → Bool} {fL : Nat → Int64}
theorem KB.to (h : KB s kk b fI fB fL) (h1 : s'.R 1126 kk 0 = s.R 1126 kk 0) (h2 : ∀ c, iK c = true → s'.I c kk 0 = s.I c kk 0) (h3 : ∀ c, bK c = true → s'.B c kk 0 = s.B c kk 0) (h4 : ∀ c, lK c = true → s'.L c kk 0 = s.L c kk 0) : KB s' kk b fI fB fL := sorry
theorem KB.fl {p : Nat → Nat → Bool} (h : KB s kk b fI fB fL) (hF : Fl p s s') (hp : ∀ c, 1099 < c → c ≤ 1128 → c ≠ 1108 → c ≠ 1111 → c ≠ 1113 → c ≠ 1117 → c ≠ 1125 → p c kk = false) : KB s' kk b fI fB fL := sorry
theorem KB.vI {c0 : Nat} {v : Int32} (h : KB s kk b fI fB fL) : KB (sI s c0 kk 0 v) kk b (fun c => if c = c0 then v else fI c) fB fL := sorry
theorem KB.vB {c0 : Nat} {v : Bool} (h : KB s kk b fI fB fL) : KB (sB s c0 kk 0 v) kk b fI (fun c => if c = c0 then v else fB c) fL := sorry
theorem KB.vL {c0 : Nat} {v : Int64} (h : KB s kk b fI fB fL) : KB (sL s c0 kk 0 v) kk b fI fB (fun c => if c = c0 then v else fL c) := sorry
theorem KH.to {T : Nat → Tk} {p0 p5 : Nat} {fs ws os : List Nat} (h : KH s T kk p0 p5 fs ws os) (h1 : ∀ j, s'.I 1125 kk j = s.I 1125 kk j) (h2 : ∀ j, s'.L 1108 kk j = s.L 1108 kk j) (h3 : ∀ j, s'.L 1111 kk j = s.L 1111 kk j) (h4 : ∀ j, s'.L 1113 kk j = s.L 1113 kk j) : KH s' T kk p0 p5 fs ws os := sorry
end KB
/-- the columns of reading, of class kk and its members, how many classes b has -/
def pKd (b kk c i : Nat) : Bool := pT b c i || ((rg 1099 1128 c && Nat.beq i kk) || ((rg 1199 1222 c && (Nat.ble (33 * kk) i && Nat.ble (i + 1) (33 * kk + 33))) || (Nat.beq c 2007 && Nat.beq i b)))
theorem pT_pKd {b kk : Nat} : ∀ c i, pT b c i = true → pKd b kk c i = true := sorry
theorem pU_pKd {b kk : Nat} : ∀ c i, pU b c i = true → pKd b kk c i = true := sorry
theorem pKd_k {b kk c : Nat} (hc : 1099 < c ∧ c ≤ 1128) : pKd b kk c kk = true := sorry
theorem pKd_pCL {b kk : Nat} (hk : 12 * b ≤ kk ∧ kk < 12 * b + 12) : ∀ c i, pKd b kk c i = true → pCL b c i = true := sorry
/-- while a class's head is read -/
def KX (σ s : Sg) (b : Nat) (B : Nat → Nat) (n kk k t m r : Nat) (fI : Nat → Int32) (fB : Nat → Bool) (fL : Nat → Int64) (p0 p5 : Nat) (fs ws os : List Nat) : Prop := Fl (pKd b kk) σ s ∧ Pn s ∧ LT s b B n t 0 m r ∧ (∀ j, NdS σ s j) ∧ s.I 2007 b 0 = nI (k + 1) ∧ s.I 1117 kk 0 = nI 0 ∧ KB s kk b fI fB fL ∧ KH s (yTok B n) kk p0 p5 fs ws os
