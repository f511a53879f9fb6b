/-! LinkHouse reads tokens: readToken, peek, take, want, has, enter. -/
theorem sI_L {σ : Sg} {c i j : Nat} {v : Int32} : (sI σ c i j v).L = σ.L := sorry
theorem sI_R {σ : Sg} {c i j : Nat} {v : Int32} : (sI σ c i j v).R = σ.R := sorry
theorem sI_B {σ : Sg} {c i j : Nat} {v : Int32} : (sI σ c i j v).B = σ.B := sorry
theorem sL_I {σ : Sg} {c i j : Nat} {v : Int64} : (sL σ c i j v).I = σ.I := sorry
theorem sL_R {σ : Sg} {c i j : Nat} {v : Int64} : (sL σ c i j v).R = σ.R := sorry
theorem sL_B {σ : Sg} {c i j : Nat} {v : Int64} : (sL σ c i j v).B = σ.B := sorry
theorem sB_I {σ : Sg} {c i j : Nat} {v : Bool} : (sB σ c i j v).I = σ.I := sorry
theorem sB_L {σ : Sg} {c i j : Nat} {v : Bool} : (sB σ c i j v).L = σ.L := sorry
theorem sB_R {σ : Sg} {c i j : Nat} {v : Bool} : (sB σ c i j v).R = σ.R := sorry
theorem sR_I {σ : Sg} {c i j : Nat} {v : Option Nat} : (sR σ c i j v).I = σ.I := sorry
theorem sR_L {σ : Sg} {c i j : Nat} {v : Option Nat} : (sR σ c i j v).L = σ.L := sorry
theorem sR_B {σ : Sg} {c i j : Nat} {v : Option Nat} : (sR σ c i j v).B = σ.B := sorry
/-- the columns that reading a token changes -/
def pR (b c i : Nat) : Bool := rg 1405 1407 c || (rg 1502 1506 c || (rg 2002 2005 c && Nat.beq i b))
theorem pR_pT {b : Nat} : ∀ c i, pR b c i = true → pT b c i = true := sorry
theorem pR_b3 {b : Nat} : pR b 2003 b = true := sorry
theorem pR_b4 {b : Nat} : pR b 2004 b = true := sorry
theorem pR_b5 {b : Nat} : pR b 2005 b = true := sorry
theorem LX.flR {σ s : Sg} {b n : Nat} {B : Nat → Nat} (h : Fl (pR b) σ s) (hX : LX σ b B n) : LX s b B n := sorry
/-- token j is read -/
def TkR (σ : Sg) (b : Nat) (T : Nat → Tk) (j : Nat) : Prop := ¬ (T j).1 = 999 ∧ σ.I 1503 0 j = nI (T j).1 ∧ σ.I 2003 b j = nI (T j).2.2.1 ∧ σ.I 2004 b j = nI ((T j).2.2.2 - (T j).2.2.1) ∧ (((T j).1 = 1 ∨ (T j).1 = 2 ∨ (T j).1 = 3 ∨ 200 ≤ (T j).1) → σ.L 1504 0 j = lN (T j).2.1)
def LRd (σ : Sg) (b : Nat) (B : Nat → Nat) (n r : Nat) : Prop := LX σ b B n ∧ σ.I 1505 0 0 = nI r ∧ σ.I 1506 0 0 = nI (yPo B n r) ∧ ∀ j, j < r → TkR σ b (yTok B n) j
section SPX
variable {l : Launch} {G : Gl} {d : Nat} {σ : Sg}
/-- what throws a refusal leaves -/
def oTh (G : Gl) (b : Nat) (σ : Sg) (f e : Nat) (o : Outcome) (st : Sg) : Prop := o = .threw (G.adr 4 0) ∧ Fl (pT b) σ st ∧ st.I 1406 0 0 = nI f ∧ st.I 1407 0 0 = nI e
def oRt (G : Gl) (σ : Sg) (b : Nat) (B : Nat → Nat) (n r : Nat) (o : Outcome) (st : Sg) : Prop := ((yTok B n r).1 = 999 ∧ oTh G b σ 1 (yTok B n r).2.2.1 o st) ∨ (¬ (yTok B n r).1 = 999 ∧ o = .returned none ∧ Fl (pR b) σ st ∧ LRd st b B n (r + 1))
theorem LRd.next {b n r : Nat} {B : Nat → Nat} (h : LRd σ b B n r) {k : Tk} (hk : k = yTok B n r) (h9 : ¬ k.1 = 999) {v : Int64} (hv : (k.1 = 1 ∨ k.1 = 2 ∨ k.1 = 3 ∨ 200 ≤ k.1) → v = lN k.2.1) {S : Sg} (hF : Fl (pR b) σ S) (e1 : S.I 1505 0 0 = nI (r + 1)) (e2 : S.I 1506 0 0 = nI k.2.2.2) (e3 : S.I 1503 0 r = nI k.1) (e4 : S.I 2003 b r = nI k.2.2.1) (e5 : S.I 2004 b r = nI (k.2.2.2 - k.2.2.1)) (e6 : S.L 1504 0 r = v) (o3 : ∀ j, j < r → S.I 1503 0 j = σ.I 1503 0 j) (o4 : ∀ j, j < r → S.I 2003 b j = σ.I 2003 b j) (o5 : ∀ j, j < r → S.I 2004 b j = σ.I 2004 b j) (o6 : ∀ j, j < r → S.L 1504 0 j = σ.L 1504 0 j) : LRd S b B n (r + 1) := sorry
set_option maxHeartbeats 1000000 in
theorem sp_X5_readToken (hG : GOK G) (hd : 4 ≤ d) {b n r : Nat} {B : Nat → Nat} (h : LRd σ b B n r) (hr : r < 702) : CT l G yX5_readToken (ws_ yX5_readToken cX5_readToken 3 none) d [.ref (G.adr 5 0)] σ (oRt G σ b B n r) := sorry
end SPX
