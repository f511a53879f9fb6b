/-! LinkHouse reads a text: the state between tokens, peek, take, want, has, enter, more; trees in the tables. -/
/-- at token t, within w, nd nodes; r tokens are read -/
def LT (σ : Sg) (b : Nat) (B : Nat → Nat) (n t w m r : Nat) : Prop := LRd σ b B n r ∧ t ≤ r ∧ r ≤ t + 1 ∧ σ.I 1507 0 0 = nI t ∧ t ≤ 700 ∧ σ.I 1508 0 0 = nI w ∧ w ≤ 13 ∧ σ.I 1515 0 0 = nI m ∧ m ≤ t + 1
/-- no super and no class's name is pending -/
def Pn (σ : Sg) : Prop := σ.I 1516 0 0 = -2 ∧ σ.I 1517 0 0 = -2
/-- reading and the token at hand -/
def pU (b c i : Nat) : Bool := rg 1405 1407 c || (rg 1502 1507 c || (rg 2002 2005 c && Nat.beq i b))
theorem pR_pU {b : Nat} : ∀ c i, pR b c i = true → pU b c i = true := sorry
theorem pU_pT {b : Nat} : ∀ c i, pU b c i = true → pT b c i = true := sorry
theorem Fl.i {p : Nat → Nat → Bool} {a s : Sg} (h : Fl p a s) {c i j : Nat} (hc : p c i = false) : s.I c i j = a.I c i j := sorry
theorem Fl.l {p : Nat → Nat → Bool} {a s : Sg} (h : Fl p a s) {c i j : Nat} (hc : p c i = false) : s.L c i j = a.L c i j := sorry
theorem Pn.fl {b : Nat} {σ s : Sg} (h : Fl (pU b) σ s) (k : Pn σ) : Pn s := sorry
theorem LT.flR {b n t w m r : Nat} {B : Nat → Nat} {σ s : Sg} (h : Fl (pR b) σ s) {r' : Nat} (hR : LRd s b B n r') (h1 : t ≤ r') (h2 : r' ≤ t + 1) (k : LT σ b B n t w m r) : LT s b B n t w m r' := sorry
theorem LRd.upd {b n r c j : Nat} {B : Nat → Nat} {σ : Sg} {v : Int32} (h : LRd σ b B n r) (hc : 1506 < c ∧ c ≤ 1517) : LRd (sI σ c 0 j v) b B n r := sorry
/-- an answer of the grammar, or its refusal -/
def oP {α : Type} (G : Gl) (b : Nat) (T : Nat → Tk) (σ : Sg) (r : PR α) (K : α → Outcome → Sg → Prop) (o : Outcome) (s : Sg) : Prop := match r with
  | .error e => oTh G b σ e.1 (T e.2).2.2.1 o s
  | .ok a => K a o s
section SPX
variable {l : Launch} {G : Gl} {d : Nat} {σ : Sg} {α β : Type}
theorem oTh.up {b f e : Nat} {σ1 : Sg} {o : Outcome} {s : Sg} (hF : Fl (pT b) σ σ1) (h : oTh G b σ1 f e o s) : oTh G b σ f e o s := sorry
section STEP
variable {y : MethodName} {ws : List Cond} {av : List Value} {b : Nat} {T : Nat → Tk} {σ1 : Sg} {r : PR α} {k : α → PR β} {K0 : β → Outcome → Sg → Prop} {Q : Outcome → Sg → Prop}
/-- a call that answers by the grammar: it is refused, or one goes on -/
theorem stI {P : α → Int32 → Sg → Prop} {K' : Int32 → Sg → Prop} (h : CT l G y ws d av σ1 (oP G b T σ1 r (fun a o s => ∃ v, o = .returned (some (.int v)) ∧ P a v s))) (hF : Fl (pT b) σ σ1) (hQ : oP G b T σ (bnd r k) K0 = Q) (hk : ∀ a v s, r = .ok a → oP G b T σ (k a) K0 = Q → P a v s → K' v s) : CT l G y ws d av σ1 (oI K' (fun x s => Q (.threw x) s)) := sorry
theorem stZ {P : α → Bool → Sg → Prop} {K' : Bool → Sg → Prop} (h : CT l G y ws d av σ1 (oP G b T σ1 r (fun a o s => ∃ v : Bool, o = .returned (some (.int (bI v))) ∧ P a v s))) (hF : Fl (pT b) σ σ1) (hQ : oP G b T σ (bnd r k) K0 = Q) (hk : ∀ a v s, r = .ok a → oP G b T σ (k a) K0 = Q → P a v s → K' v s) : CT l G y ws d av σ1 (oZ K' (fun x s => Q (.threw x) s)) := sorry
theorem stV {P : α → Sg → Prop} {K' : Sg → Prop} (h : CT l G y ws d av σ1 (oP G b T σ1 r (fun a o s => o = .returned none ∧ P a s))) (hF : Fl (pT b) σ σ1) (hQ : oP G b T σ (bnd r k) K0 = Q) (hk : ∀ a s, r = .ok a → oP G b T σ (k a) K0 = Q → P a s → K' s) : CT l G y ws d av σ1 (oV K' (fun x s => Q (.threw x) s)) := sorry
end STEP
theorem sp_X5_refuse (hG : GOK G) (hd : 2 ≤ d) {b : Nat} (hb : σ.R 1502 0 0 = some b) {x y : Int32} {j : Nat} (hj : j < 702) (hy : y = nI j) : CT l G yX5_refuse (ws_ yX5_refuse cX5_refuse 3 (some (.object "java/lang/RuntimeException"))) d [.ref (G.adr 5 0), .int x, .int y] σ (rR G 4 (some 0) (fun s => s = sI (sI σ 1406 0 0 x) 1407 0 0 (σ.I 2003 b j))) := sorry
/-- refused at a token that is read -/
theorem stRf {b n r j f : Nat} {B : Nat → Nat} {σ1 : Sg} {Q : Outcome → Sg → Prop} {K0 : β → Outcome → Sg → Prop} (hG : GOK G) (hd : 2 ≤ d) (hL : LRd σ1 b B n r) (hj : j < r) (hr : r ≤ 702) (hf : f < 100) {x y : Int32} (hx : x = nI f) (hy : y = nI j) (hF : Fl (pT b) σ σ1) (hQ : oP G b (yTok B n) σ (.error (f, j)) K0 = Q) : CT l G yX5_refuse (ws_ yX5_refuse cX5_refuse 3 (some (.object "java/lang/RuntimeException"))) d (.ref (G.adr 5 0) :: [.int x, .int y]) σ1 (oR G 4 (fun v σ' => ∃ k : Nat, v = some k ∧ (k < cnt 4 → Q (.threw (G.adr 4 k)) σ')) (fun x s => Q (.threw x) s)) := sorry
theorem sp_X5_peek (hG : GOK G) (hd : 5 ≤ d) {b n t w m r : Nat} {B : Nat → Nat} (h : LT σ b B n t w m r) : CT l G yX5_peek (ws_ yX5_peek cX5_peek 1 (some .int)) d [.ref (G.adr 5 0)] σ (oP G b (yTok B n) σ (pPk (yTok B n) t) (fun x o s => ∃ v, o = .returned (some (.int v)) ∧ v = nI x ∧ Fl (pR b) σ s ∧ LT s b B n t w m (t + 1))) := sorry
theorem sp_X5_take (hG : GOK G) (hd : 3 ≤ d) {b n t w m : Nat} {B : Nat → Nat} (h : LT σ b B n t w m (t + 1)) : CT l G yX5_take (ws_ yX5_take cX5_take 1 (some .int)) d [.ref (G.adr 5 0)] σ (oP G b (yTok B n) σ (pTa t) (fun t' o s => ∃ v, o = .returned (some (.int v)) ∧ v = nI t ∧ Fl (pU b) σ s ∧ LT s b B n t' w m t')) := sorry
theorem sp_X5_want (hG : GOK G) (hd : 6 ≤ d) {b n t w m r : Nat} {B : Nat → Nat} (h : LT σ b B n t w m r) {z : Nat} (hz : z < 1000) {x : Int32} (hx : x = nI z) : CT l G yX5_want (ws_ yX5_want cX5_want 2 (some .int)) d [.ref (G.adr 5 0), .int x] σ (oP G b (yTok B n) σ (pWa (yTok B n) z t) (fun t' o s => ∃ v, o = .returned (some (.int v)) ∧ v = nI t ∧ Fl (pU b) σ s ∧ LT s b B n t' w m t')) := sorry
theorem sp_X5_has (hG : GOK G) (hd : 6 ≤ d) {b n t w m r : Nat} {B : Nat → Nat} (h : LT σ b B n t w m r) {z : Nat} (hz : z < 1000) {x : Int32} (hx : x = nI z) : CT l G yX5_has (ws_ yX5_has cX5_has 2 (some .boolean)) d [.ref (G.adr 5 0), .int x] σ (oP G b (yTok B n) σ (pHa (yTok B n) z t) (fun c o s => ∃ v : Bool, o = .returned (some (.int (bI v))) ∧ v = c.1 ∧ Fl (pU b) σ s ∧ LT s b B n c.2 w m (t + 1))) := sorry
theorem sp_X5_canBeginExp (hG : GOK G) (hd : 1 ≤ d) {z : Nat} (hz : z < 1000) {x : Int32} (hx : x = nI z) : CT l G yX5_canBeginExp (ws_ yX5_canBeginExp cX5_canBeginExp 2 (some .boolean)) d [.ref (G.adr 5 0), .int x] σ (rZ (cBe z) (fun s => s = σ)) := sorry
theorem LT.w {b n t w m r w' : Nat} {B : Nat → Nat} (h : LT σ b B n t w m r) (hw : w' ≤ 13) : LT (sI σ 1508 0 0 (nI w')) b B n t w' m r := sorry
theorem sp_X5_enter (hG : GOK G) (hd : 3 ≤ d) {b n t w m : Nat} {B : Nat → Nat} (h : LT σ b B n t w m (t + 1)) (hw : w ≤ 12) {c : Bool} : CT l G yX5_enter (ws_ yX5_enter cX5_enter 2 none) d [.ref (G.adr 5 0), .int (bI c)] σ (oP G b (yTok B n) σ (pEn c t w) (fun w1 o s => o = .returned none ∧ s = sI σ 1508 0 0 (nI w1) ∧ LT s b B n t w1 m (t + 1))) := sorry
/-- a node is made -/
def mkN (σ : Sg) (m : Nat) (x y : Int32) : Sg := sI (sI (sI (sI (sI (sI (sI σ 1509 0 m x) 1510 0 m y) 1511 0 m (-2)) 1512 0 m (-2)) 1513 0 m (-2)) 1514 0 m (-2)) 1515 0 0 (nI (m + 1))
theorem sp_X5_more (hG : GOK G) (hd : 1 ≤ d) {m : Nat} (h : σ.I 1515 0 0 = nI m) (hm : m < 1410) {x y : Int32} : CT l G yX5_more (ws_ yX5_more cX5_more 3 (some .int)) d [.ref (G.adr 5 0), .int x, .int y] σ (rI (nI m) (fun s => s = mkN σ m x y)) := sorry
theorem LT.mk {b n t w m r : Nat} {B : Nat → Nat} {x y : Int32} (h : LT σ b B n t w m r) (hm : m ≤ t) : LT (mkN σ m x y) b B n t w (m + 1) r := sorry
/-- columns of a node are written -/
theorem LT.nd {b n t w m r c j : Nat} {B : Nat → Nat} {v : Int32} (h : LT σ b B n t w m r) (hc : 1508 < c ∧ c ≤ 1514) : LT (sI σ c 0 j v) b B n t w m r := sorry
end SPX
