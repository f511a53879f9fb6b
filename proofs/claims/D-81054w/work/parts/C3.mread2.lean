/-! The model goes along the tokens: faults, steps, tests. -/
/-- the token at hand cannot stand there -/
def pWr (T : Nat → Tk) (t : Nat) : PR Nat := bnd (pPk T t) fun _ => .error (2, t)
/-- a word that may stand: where it goes on -/
def pHt (T : Nat → Tk) (q t : Nat) : PR Nat := bnd (pHa T q t) fun y => .ok y.2
/-- a token of a sort that must stand, none if it is one too many -/
def pWn (T : Nat → Tk) (b : Bool) (q t : Nat) : PR Nat := bnd (pPk T t) fun x => if x = q then (if b = true then .error (3, t) else pTa t) else .error (2, t)
theorem pWn_f {T : Nat → Tk} {q t : Nat} : pWn T false q t = pWa T q t := sorry
theorem pPk_b {T : Nat → Tk} {t : Nat} (h : (T t).1 = 999) : pPk T t = .error (1, t) := sorry
theorem pPk_g {T : Nat → Tk} {t : Nat} (h : ¬ (T t).1 = 999) : pPk T t = .ok (T t).1 := sorry
theorem bnd_e {α β : Type} {z : Nat × Nat} {k : α → PR β} : bnd (.error z : PR α) k = .error z := sorry
theorem LvT.succ {T : Nat → Tk} {t : Nat} (h : LvT T t) (h1 : ¬ (T t).1 = 0) (h2 : ¬ (T t).1 = 999) : LvT T (t + 1) := sorry
/-- what a step of the reader leaves -/
def oSt (σ : Sg) (s : Nat) (B : Nat → Nat) (n w e : Nat) (r : PR Nat) (st : Sg) : Prop := FJ pG σ st ∧ PS st s B n w e r ∧ Fld st r
section SPX
variable {l : Launch} {G : Gl} {d : Nat} {σ : Sg} {s n w e : Nat} {B : Nat → Nat} {r : PR Nat}
theorem sp_place (hG : GOK G) (hd : 1 ≤ d) (h : PS σ s B n w e r) : CT l G yX11_placeAt (ws_ yX11_placeAt cX11_placeAt 2 (some .int)) d [.ref (G.adr 11 0), .int (σ.I 2122 0 0)] σ (fun o st => st = σ ∧ ∃ v, o = .returned (some (.int v)) ∧ (∀ t, r = .ok t → v = nI (yTok B n t).2.2.1) ∧ (∀ z, r = .error z → σ.I 2120 0 0 = nI 0 → v = nI (yTok B n z.2).2.2.1)) := sorry
theorem sp_X11_fault (hG : GOK G) (hd : 1 ≤ d) {x y : Int32} : CT l G yX11_fault (ws_ yX11_fault cX11_fault 3 none) d [.ref (G.adr 11 0), .int x, .int y] σ (rV (fun st => (¬ σ.I 2120 0 0 = nI 0 ∧ st = σ) ∨ (σ.I 2120 0 0 = nI 0 ∧ st = sI (sI σ 2120 0 0 x) 2121 0 0 y))) := sorry
/-- a fault is laid, if there is none -/
theorem sp_flt (hG : GOK G) (hd : 1 ≤ d) (h : PS σ s B n w e r) {f : Nat} (hf : 0 < f ∧ f < 100) {x y : Int32} (hx : x = nI f) (hy : ∀ t, r = .ok t → y = nI (yTok B n t).2.2.1) (hz : ∀ z, r = .error z → σ.I 2120 0 0 = nI 0 → f = 1 ∧ y = nI (yTok B n z.2).2.2.1) : CT l G yX11_fault (ws_ yX11_fault cX11_fault 3 none) d [.ref (G.adr 11 0), .int x, .int y] σ (rV (oSt σ s B n w e (bnd r (fun t => .error (f, t))))) := sorry
theorem sp_X11_wrong (hG : GOK G) (hd : 2 ≤ d) (h : PS σ s B n w e r) : CT l G yX11_wrong (ws_ yX11_wrong cX11_wrong 1 none) d [.ref (G.adr 11 0)] σ (rV (oSt σ s B n w e (bnd r (pWr (yTok B n))))) := sorry
theorem sp_X11_step (hG : GOK G) (hd : 2 ≤ d) (h : PS σ s B n w e r) (hs : ∀ t, r = .ok t → ¬ (yTok B n t).1 = 0 ∧ ¬ (yTok B n t).1 = 999) (hf : Fld σ r) : CT l G yX11_step (ws_ yX11_step cX11_step 1 none) d [.ref (G.adr 11 0)] σ (rV (oSt σ s B n w e (bnd r pTa))) := sorry
/-- what stands at hand is taken if it is of a sort, else it is a fault -/
theorem sp_X11_wantSign (hG : GOK G) (hd : 3 ≤ d) (h : PS σ s B n w e r) {q : Nat} (hq : 3 < q ∧ q < 200) {x : Int32} (hx : x = nI (mSv q)) : CT l G yX11_wantSign (ws_ yX11_wantSign cX11_wantSign 2 none) d [.ref (G.adr 11 0), .int x] σ (rV (oSt σ s B n w e (bnd r (pWa (yTok B n) q)))) := sorry
theorem sp_X11_wantWord (hG : GOK G) (hZ : SOK G) (hd : 8 ≤ d) (h : PS σ s B n w e r) {k q : Nat} (hk : WK k q) : CT l G yX11_wantWord (ws_ yX11_wantWord cX11_wantWord 2 none) d [.ref (G.adr 11 0), .ref (G.adr 5000 k)] σ (rV (oSt σ s B n w e (bnd r (pWa (yTok B n) q)))) := sorry
/-- a step: where it is -/
theorem sp_step2 (hG : GOK G) (hd : 2 ≤ d) {t : Nat} (h : PS σ s B n w e (.ok t)) (h0 : ¬ (yTok B n t).1 = 0) (h9 : ¬ (yTok B n t).1 = 999) : CT l G yX11_step (ws_ yX11_step cX11_step 1 none) d [.ref (G.adr 11 0)] σ (rV (fun st => oSt σ s B n w e (pTa t) st ∧ (st.I 2122 0 0 = nI t ∨ st.I 2122 0 0 = nI (t + 1)))) := sorry
/-- what a word that may stand leaves -/
def oTw (σ : Sg) (s : Nat) (B : Nat → Nat) (n w e : Nat) (r : PR Nat) (q : Nat) (o : Outcome) (st : Sg) : Prop := ∃ b : Bool, o = .returned (some (.int (bI b))) ∧ FJ pG σ st ∧ PS st s B n w e (bnd r (pHt (yTok B n) q)) ∧ (b = true → (∃ t, r = .ok t ∧ (yTok B n t).1 = q ∧ (st.I 2122 0 0 = nI t ∨ st.I 2122 0 0 = nI (t + 1))) ∧ Fld st (bnd r (pHt (yTok B n) q))) ∧ (b = false → st = σ ∧ ∀ t, r = .ok t → ¬ (yTok B n t).1 = q)
theorem sp_X11_takesWord (hG : GOK G) (hZ : SOK G) (hd : 8 ≤ d) (h : PS σ s B n w e r) {k q : Nat} (hk : WK k q) : CT l G yX11_takesWord (ws_ yX11_takesWord cX11_takesWord 3 (some .boolean)) d [.ref (G.adr 11 0), .ref (G.adr 5000 k)] σ (oTw σ s B n w e r q) := sorry
/-- what a token that must stand leaves: its number -/
def oWn (σ : Sg) (s : Nat) (B : Nat → Nat) (n w e : Nat) (r : PR Nat) (b : Bool) (q : Nat) (o : Outcome) (st : Sg) : Prop := ∃ p, p ≤ 700 ∧ o = .returned (some (.int (nI p))) ∧ (∀ t, r = .ok t → p = t) ∧ oSt σ s B n w e (bnd r (pWn (yTok B n) b q)) st
theorem sp_X11_want (hG : GOK G) (hd : 3 ≤ d) (h : PS σ s B n w e r) {kk q : Nat} (hk : kk = 1 ∧ q = 2 ∨ kk = 2 ∧ q = 1) {b : Bool} {x : Int32} (hx : x = nI kk) : CT l G yX11_want (ws_ yX11_want cX11_want 4 (some .int)) d [.ref (G.adr 11 0), .int x, .int (bI b)] σ (oWn σ s B n w e r b q) := sorry
end SPX
