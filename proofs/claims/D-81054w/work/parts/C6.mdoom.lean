/-! The model's reader when it is doomed; a node's columns; steps on trees. -/
def iNc (c : Nat) : Bool := rg 2169 2173 c || (rg 2176 2182 c || (c == 2185 || (c == 2187 || c == 2188)))
def lNc (c : Nat) : Bool := rg 2173 2176 c
theorem iNc_c {c : Nat} (h : iNc c = true) : c = 2170 ∨ c = 2171 ∨ c = 2172 ∨ c = 2173 ∨ c = 2177 ∨ c = 2178 ∨ c = 2179 ∨ c = 2180 ∨ c = 2181 ∨ c = 2182 ∨ c = 2185 ∨ c = 2187 ∨ c = 2188 := sorry
theorem lNc_c {c : Nat} (h : lNc c = true) : c = 2174 ∨ c = 2175 ∨ c = 2176 := sorry
/-- the columns of the node at X -/
def NB (σ : Sg) (X : Nat) (fI : Nat → Int32) (fL : Nat → Int64) : Prop := (∀ c, iNc c = true → σ.I c 0 X = fI c) ∧ ∀ c, lNc c = true → σ.L c 0 X = fL c
def f0N (k pl : Int32) (c : Nat) : Int32 := if c = 2170 then k else if c ≤ 2173 then pl else if c = 2181 ∨ c = 2185 then 0 else -2
section NB
variable {σ st : Sg} {X : Nat} {fI : Nat → Int32} {fL : Nat → Int64}
theorem NB.vI {c0 : Nat} {v : Int32} (h : NB σ X fI fL) : NB (sI σ c0 0 X v) X (fun c => if c = c0 then v else fI c) fL := sorry
theorem NB.vL {c0 : Nat} {v : Int64} (h : NB σ X fI fL) : NB (sL σ c0 0 X v) X fI (fun c => if c = c0 then v else fL c) := sorry
theorem NB.fj {p : Nat → Nat → Bool} (h : NB σ X fI fL) (hF : FJ p σ st) (hp : ∀ c, 2169 < c → c ≤ 2188 → p c X = false) : NB st X fI fL := sorry
theorem NB.ext {gI : Nat → Int32} {gL : Nat → Int64} (h : NB σ X fI fL) (e1 : ∀ c, iNc c = true → fI c = gI c) (e2 : ∀ c, lNc c = true → fL c = gL c) : NB σ X gI gL := sorry
end NB
theorem mkM_nb {σ : Sg} {s e : Nat} {k pl : Int32} : NB (mkM σ s e k pl) (s * 1700 + e) (f0N k pl) (fun _ => 0) := sorry
theorem MTr.node {st : Sg} {s : Nat} {T : Nat → Tk} {k at_ a1 a2 nm cn lo hi j : Nat} {x y : Tr} (hk : ¬ k = 0 ∧ ¬ k = 41 ∧ k < 100) (hr : lo ≤ j ∧ j < hi ∧ j < 1700) (px : isP x = false) (py : isP y = true → k = 32 ∨ k = 33) (hc : NdC st T (lb k at_ a1 a2 nm cn) (s * 1700 + j)) (mx : MTr st s T x lo j (st.I 2177 0 (s * 1700 + j)) ∨ MTr st s T x (j + 1) hi (st.I 2177 0 (s * 1700 + j))) (my : isP y = false → MTr st s T y (j + 1) hi (st.I 2178 0 (s * 1700 + j))) (my2 : isP y = true → MTr st s T y (j + 1) hi (nI (s * 1700 + j))) : MTr st s T (nd (lb k at_ a1 a2 nm cn) x y) lo hi (nI (s * 1700 + j)) := sorry
section SPX
variable {l : Launch} {G : Gl} {d : Nat} {σ : Sg} {s n w e : Nat} {B : Nat → Nat}
/-- a tree's reader when it is doomed: no node -/
def oDm (σ : Sg) (s : Nat) (B : Nat → Nat) (n w e : Nat) (z : Nat × Nat) (o : Outcome) (st : Sg) : Prop := o = .returned (some (.int (-2))) ∧ oSt σ s B n w e (.error z) st
theorem dm_begin {P : Nat → Bool} {y : MethodName} {ws : List Cond} {av : List Value} {z : Nat × Nat} {K : Bool → Sg → Prop} {TT' : Nat → Sg → Prop} (h : CT l G y ws d av σ (oTs σ (yTok B n) (.error z) P)) (h0 : σ.I 2120 0 0 = nI 0) (hK : K false σ) : CT l G y ws d av σ (oZ K TT') := sorry
theorem dm_X11_expression (hG : GOK G) (hZ : SOK G) (hd : 10 ≤ d) {z : Nat × Nat} (h : PS σ s B n w e (.error z)) : CT l G yX11_expression (ws_ yX11_expression cX11_expression 3 (some .int)) d [.ref (G.adr 11 0)] σ (oDm σ s B n w e z) := sorry
theorem dm_X11_statement (hG : GOK G) (hZ : SOK G) (hd : 10 ≤ d) {z : Nat × Nat} (h : PS σ s B n w e (.error z)) : CT l G yX11_statement (ws_ yX11_statement cX11_statement 2 (some .int)) d [.ref (G.adr 11 0)] σ (oDm σ s B n w e z) := sorry
theorem dm_X11_unit (hG : GOK G) (hZ : SOK G) (hd : 10 ≤ d) {z : Nat × Nat} (h : PS σ s B n w e (.error z)) : CT l G yX11_unit (ws_ yX11_unit cX11_unit 6 (some .int)) d [.ref (G.adr 11 0)] σ (oDm σ s B n w e z) := sorry
theorem dm_X11_product (hG : GOK G) (hZ : SOK G) (hd : 11 ≤ d) {z : Nat × Nat} (h : PS σ s B n w e (.error z)) : CT l G yX11_product (ws_ yX11_product cX11_product 3 (some .int)) d [.ref (G.adr 11 0)] σ (oDm σ s B n w e z) := sorry
theorem dm_X11_sum (hG : GOK G) (hZ : SOK G) (hd : 12 ≤ d) {z : Nat × Nat} (h : PS σ s B n w e (.error z)) : CT l G yX11_sum (ws_ yX11_sum cX11_sum 3 (some .int)) d [.ref (G.adr 11 0)] σ (oDm σ s B n w e z) := sorry
theorem dm_X11_arguments (hG : GOK G) (hd : 10 ≤ d) {z : Nat × Nat} (h : PS σ s B n w e (.error z)) : CT l G yX11_arguments (ws_ yX11_arguments cX11_arguments 5 (some .int)) d [.ref (G.adr 11 0)] σ (oDm σ s B n w e z) := sorry
/-- a doomed reader's end is an end of the reader for any grammar -/
theorem oDm.to {z : Nat × Nat} {k : Nat} {row : Bool} {r : PR (Tr × Nat)} (hr : r = .error z) : ∀ o st, oDm σ s B n w e z o st → oEm σ s B n w e (.error z) r k row o st := sorry
end SPX
