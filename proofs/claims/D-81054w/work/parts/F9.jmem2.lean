/-! Judging, LinkHouse: a member. -/
/-- the columns that p names -/
def stP (p : Nat → Bool) (σ : Sg) : Sg := (fun c i j => cond (p c) (σ.1 c i j) 0, fun c i j => cond (p c) (σ.2.1 c i j) false, fun c i j => cond (p c) (σ.2.2.1 c i j) 0, fun c i j => cond (p c) (σ.2.2.2 c i j) none)
theorem stP_Fl {p : Nat → Bool} {q : Nat → Nat → Bool} {σ s : Sg} (hF : Fl q σ s) (h : ∀ c i, p c = true → q c i = false) : stP p s = stP p σ := sorry
/-- what judging the members leaves as it is -/
def sm (c : Nat) : Bool := rg 1099 1122 c || (rg 1123 1202 c || (rg 1205 1220 c || rg 1221 1303 c))
theorem sm_iff {c : Nat} (h : sm c = true) : (1099 < c ∧ c ≤ 1122) ∨ (1123 < c ∧ c ≤ 1202) ∨ (1205 < c ∧ c ≤ 1220) ∨ (1221 < c ∧ c ≤ 1303) := sorry
theorem jTy_sm {σ : Sg} {k : Nat} {T : Nat → Tk} {t : Nat} : jTy (stP sm σ) k T t = jTy σ k T t := sorry
theorem jTy_e {σ s : Sg} {k : Nat} {T : Nat → Tk} {t : Nat} (h : stP sm s = stP sm σ) : jTy s k T t = jTy σ k T t := sorry
theorem WOK_sm {σ s : Sg} {w : Nat} (h : stP sm s = stP sm σ) (k : WOK σ w) : WOK s w := sorry
theorem Shp_sm {σ s : Sg} (h : stP sm s = stP sm σ) (k : Shp σ) : Shp s := sorry
theorem sm_I {σ s : Sg} {c i j : Nat} (h : stP sm s = stP sm σ) (hc : sm c = true) : s.I c i j = σ.I c i j := sorry
theorem sm_B {σ s : Sg} {c i j : Nat} (h : stP sm s = stP sm σ) (hc : sm c = true) : s.B c i j = σ.B c i j := sorry
theorem sm_L {σ s : Sg} {c i j : Nat} (h : stP sm s = stP sm σ) (hc : sm c = true) : s.L c i j = σ.L c i j := sorry
/-- told twice -/
def jDup (σ : Sg) (m o : Nat) : Bool := (decide (σ.I 1200 m 0 = 0) && (decide (σ.I 1200 o 0 = 0) && decide (σ.L 1201 o 0 = σ.L 1201 m 0))) || (mAlk σ m o || (decide (σ.I 1200 m 0 = 2) && (decide (σ.I 1200 o 0 = 2) && mPar σ m o)))
theorem jDup_sm {σ : Sg} {m o : Nat} : jDup (stP sm σ) m o = jDup σ m o := sorry
theorem mAlk_sm {σ : Sg} {m o : Nat} : mAlk (stP sm σ) m o = mAlk σ m o := sorry
theorem mPar_sm {σ : Sg} {m o : Nat} : mPar (stP sm σ) m o = mPar σ m o := sorry
theorem mAlk_e {σ s : Sg} {m o : Nat} (h : stP sm s = stP sm σ) : mAlk s m o = mAlk σ m o := sorry
theorem mPar_e {σ s : Sg} {m o : Nat} (h : stP sm s = stP sm σ) : mPar s m o = mPar σ m o := sorry
/-- a member, as it is in the end: static, final, bare -/
def jSta (σ : Sg) (k m : Nat) : Bool := if σ.B 1102 k 0 = true ∧ σ.I 1200 m 0 = 0 then true else σ.B 1203 m 0
def jFin (σ : Sg) (k m : Nat) : Bool := if σ.B 1102 k 0 = true ∧ σ.I 1200 m 0 = 0 then true else σ.B 1204 m 0
def jBar (σ : Sg) (k m : Nat) : Bool := if σ.B 1102 k 0 = true ∧ σ.I 1200 m 0 = 1 then decide (σ.I 1218 m 0 = (-2)) else σ.B 1205 m 0
/-- the slot of the j-th member, if it is a field; static or not -/
def jSl2 (σ : Sg) (k : Nat) (st : Bool) (j : Nat) : Nat := fcount (fun i => decide (σ.I 1200 (33 * k + i) 0 = 0) && (jSta σ k (33 * k + i) == st)) j 0
/-- the j-th member of class k is judged -/
def jMm (σ : Sg) (k : Nat) (T : Nat → Tk) (j : Nat) : PR Unit := bnd (ckP (jMay σ k (33 * k + j)) 8 (tkN (σ.I 1214 (33 * k + j) 0))) fun _ => bnd (if σ.I 1215 (33 * k + j) 0 = (-2) then .ok () else jTy σ k T (tkN (σ.I 1215 (33 * k + j) 0))) fun _ => bnd (jFor (fun i => jTy σ k T (tkN (σ.I 1211 (33 * k + j) i))) (nPa σ (33 * k + j)) 0) fun _ => jFor (fun i => ckP (!jDup σ (33 * k + j) (33 * k + i)) 6 (tkN (σ.I 1214 (33 * k + j) 0))) j 0
/-- the columns of judging member m of class k -/
def pMc (k m c i : Nat) : Bool := (Nat.beq i m && (rg 1202 1205 c || Nat.beq c 1221)) || (Nat.beq c 1123 && Nat.beq i k)
theorem pMc_m {k m c : Nat} (h : (1202 < c ∧ c ≤ 1205) ∨ c = 1221) : pMc k m c m = true := sorry
theorem pMc_k {k m : Nat} : pMc k m 1123 k = true := sorry
theorem pMc_no {k m c i : Nat} (h : ¬ (i = m ∧ ((1202 < c ∧ c ≤ 1205) ∨ c = 1221)) ∧ ¬ (c = 1123 ∧ i = k)) : pMc k m c i = false := sorry
theorem sm_pMc {k m : Nat} (c i : Nat) (h : sm c = true) : pMc k m c i = false := sorry
theorem pMc_pJ {b k m : Nat} (hk : 12 * b ≤ k ∧ k < 12 * b + 12) (hm : 396 * b ≤ m ∧ m < 396 * b + 396) : ∀ c i, pMc k m c i = true → pJ b c i = true := sorry
/-- the tokens of a member were read -/
def MmT (σ : Sg) (T : Nat → Tk) (m r : Nat) : Prop := TkB (σ.I 1214 m 0) r ∧ (σ.I 1215 m 0 = (-2) ∨ (TkB (σ.I 1215 m 0) r ∧ tyS (T (tkN (σ.I 1215 m 0))).1)) ∧ ∀ i, i < nPa σ m → TkB (σ.I 1211 m i) r ∧ tyS (T (tkN (σ.I 1211 m i))).1
section SPX
variable {l : Launch} {G : Gl} {d : Nat}
theorem sp_X6_member (hG : GOK G) {τ σ : Sg} {b n r k j so : Nat} {B : Nat → Nat} (hd : 6 ≤ d) (hL : LRd σ b B n r) (hr : r ≤ 702) (h603 : σ.R 1603 0 0 = some k) (hb : b < 16) (hk : 12 * b ≤ k ∧ k < 12 * b + 12) (hj : j < 33) (hW : WOK σ 1) (hS : Shp σ) (he : stP sm σ = stP sm τ) (hT : MmT τ (yTok B n) (33 * k + j) r) (hso : τ.I 1200 (33 * k + j) 0 = nI so) (hso4 : so < 4) (h03 : σ.B 1203 (33 * k + j) 0 = τ.B 1203 (33 * k + j) 0) (h04 : σ.B 1204 (33 * k + j) 0 = τ.B 1204 (33 * k + j) 0) (h05 : σ.B 1205 (33 * k + j) 0 = τ.B 1205 (33 * k + j) 0) (hp : ∀ i, i < j → σ.B 1203 (33 * k + i) 0 = jSta τ k (33 * k + i)) {x : Int32} (hx : x = nI j) : CT l G yX6_member (ws_ yX6_member cX6_member 5 none) d [.ref (G.adr 6 0), rv G 2 (some (33 * k + j)), .int x] σ (oJ G b (yTok B n) σ (jMm τ k (yTok B n) j) (fun _ o s => o = .returned none ∧ Fl (pMc k (33 * k + j)) σ s ∧ s.B 1203 (33 * k + j) 0 = jSta τ k (33 * k + j) ∧ s.B 1204 (33 * k + j) 0 = jFin τ k (33 * k + j) ∧ s.B 1205 (33 * k + j) 0 = jBar τ k (33 * k + j) ∧ (so = 0 → s.I 1221 (33 * k + j) 0 = nI (jSl2 τ k (jSta τ k (33 * k + j)) j) ∧ s.I 1123 k 0 = σ.I 1123 k 0 + bI (!jSta τ k (33 * k + j))) ∧ (¬ so = 0 → s.I 1221 (33 * k + j) 0 = σ.I 1221 (33 * k + j) 0 ∧ s.I 1123 k 0 = σ.I 1123 k 0))) := sorry
end SPX
