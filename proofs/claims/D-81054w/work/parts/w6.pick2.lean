/-! THE HOUSE: pick, both. -/
/-- both are called; the answers agree; Q holds then -/
def Two (l : Launch) (G : Gl) (d : Nat) (y1 : MethodName) (w1 : List Cond) (y2 : MethodName) (w2 : List Cond) (av : List Value) (s : Sg) (Q : Sg → Prop) : Prop := CT l G y1 w1 d (.ref (G.adr 0 0) :: av) s (oI (fun v t => CT l G y2 w2 d (.ref (G.adr 11 0) :: av) t (oI (fun w u => v = w ∧ Q u) (fun _ _ => False))) (fun _ _ => False))
theorem HsP.fl {s t : Sg} {p : Nat → Nat → Bool} (h : HsP s) (hF : Fl p s t) (h1 : p 1006 0 = false ∧ p 1008 0 = false ∧ p 2190 0 = false) : HsP t := sorry
section PK2
variable {l : Launch} {G : Gl} {d n : Nat} {s t u : Sg} {P : Pg} {M : MSt}
/-- the columns that picking changes -/
def pPc (c i : Nat) : Bool := decide (c = 1008) || (decide (c = 2190) || (pRn c i || pSe c i))
theorem pPc_no {c i : Nat} (h1 : ¬ c = 1008 ∧ ¬ c = 2190) (h2 : pRn c i = false) (h3 : pSe c i = false) : pPc c i = false := sorry
theorem pPc_b (c i : Nat) (h : bKc c = true) : pPc c i = false := sorry
theorem pPc_r {c i : Nat} (h : pPc c i = false) : pRn c i = false := sorry
theorem pPc_s {c i : Nat} (h : pPc c i = false) : pSe c i = false := sorry
theorem hB_fl {p : Nat → Nat → Bool} (hF : Fl p s t) (h1 : p 1006 0 = false ∧ p 1007 0 = false) {x y : Int32} : hB t x y = hB s x y := sorry
theorem pkO_fl {p : Nat → Nat → Bool} (hF : Fl p s t) (h1 : p 1006 0 = false ∧ p 1007 0 = false) {x y : Int32} : pkO t x y = pkO s x y := sorry
theorem inv_pick (hG : GOK G) (hd : 6 ≤ d) (h : INV s n) (x y : Int32) : Two l G d yX0_pick (ws_ yX0_pick cX0_pick 4 (some .int)) yX11_pick (ws_ yX11_pick cX11_pick 4 (some .int)) [.int x, .int y] s (fun u => INV u (n + 1)) := sorry
end PK2
