/-! Judging, LinkHouse: names, fields and calls of one node. -/
/-- the columns that judging an E may change -/
def pCk (c i : Nat) : Bool := pCd c i || rg 1605 1609 c
theorem pCk_iff {c i : Nat} : pCk c i = true ↔ (1303 < c ∧ c ≤ 1313) ∨ (1614 < c ∧ c ≤ 1617) ∨ (1605 < c ∧ c ≤ 1609) := sorry
theorem pCk_no {c i : Nat} (h : c ≤ 1303 ∨ (1313 < c ∧ c ≤ 1605) ∨ (1609 < c ∧ c ≤ 1614) ∨ 1617 < c) : pCk c i = false := sorry
theorem pCd_pCk : ∀ c i, pCd c i = true → pCk c i = true := sorry
theorem pCk_pJ {b : Nat} : ∀ c i, pCk c i = true → pJ b c i = true := sorry
theorem stat_ck {σ s : Sg} (hF : Fl pCk σ s) : stat s = stat σ := sorry
theorem jCds_e {σ s : Sg} {c x : Nat} {nm : Int64} {ts : List Int64} (h : stat s = stat σ) : jCds s c x nm ts = jCds σ c x nm ts := sorry
/-- the locals that are known -/
def LcS (σ : Sg) (Lc : List (Int64 × Int64 × Nat)) : Prop := σ.I 1613 0 0 = nI Lc.length ∧ Lc.length ≤ 700 ∧ ∀ (j : Nat) (c : Int64 × Int64 × Nat), Lc[j]? = some c → σ.L 1610 0 j = c.1 ∧ σ.L 1611 0 j = c.2.1 ∧ σ.I 1612 0 j = nI c.2.2
/-- LinkHouse while it judges a body of class k -/
def JE (σ : Sg) (b : Nat) (B : Nat → Nat) (n r k : Nat) (st : Bool) (Lc : List (Int64 × Int64 × Nat)) : Prop := LRd σ b B n r ∧ r ≤ 702 ∧ WOK σ 1 ∧ Shp σ ∧ MOK σ ∧ σ.R 1603 0 0 = some k ∧ k < 194 ∧ σ.B 1605 0 0 = st ∧ LcS σ Lc ∧ ∀ x nm ts, x < 194 → (jCds σ k x nm ts).length ≤ 1344
theorem JE.fl {σ s : Sg} {b n r k : Nat} {B : Nat → Nat} {st : Bool} {Lc : List (Int64 × Int64 × Nat)} (h : JE σ b B n r k st Lc) (hF : Fl pCk σ s) : JE s b B n r k st Lc := sorry
/-- only node q, of what was found -/
def FrQ (σ s : Sg) (q : Nat) : Prop := Fl pCk σ s ∧ ∀ j, ¬ j = q → AnE σ s j
theorem AnE.refl {σ : Sg} {j : Nat} : AnE σ σ j := sorry
theorem AnE.trans {σ s u : Sg} {j : Nat} (h : AnE σ s j) (k : AnE s u j) : AnE σ u j := sorry
theorem AnE_cd {σ s : Sg} {j : Nat} (h : Fl pCd σ s) : AnE σ s j := sorry
theorem FrQ.trans {σ s u : Sg} {q : Nat} (h : FrQ σ s q) (k : FrQ s u q) : FrQ σ u q := sorry
theorem FrQ_cd {σ s : Sg} {q : Nat} (h : Fl pCd σ s) : FrQ σ s q := sorry
/-- what stands at q -/
def AnQ (s : Sg) (q : Nat) (ty : Int64) (me cl : Option Nat) (sl : Int32) : Prop := s.L 1606 0 q = ty ∧ s.R 1607 0 q = me ∧ s.R 1608 0 q = cl ∧ s.I 1609 0 q = sl
theorem FrQ_lay {σ s : Sg} {q : Nat} {ty : Int64} {me cl : Option Nat} (h : Fl pCd σ s) : FrQ σ (sL (sR (sR s 1607 0 q me) 1608 0 q cl) 1606 0 q ty) q ∧ AnQ (sL (sR (sR s 1607 0 q me) 1608 0 q cl) 1606 0 q ty) q ty me cl (σ.I 1609 0 q) := sorry
theorem om_s {m : Nat} : om (m + 1) = some m := sorry
theorem om_K {xo : Option Nat} : om (oK xo) = xo := sorry
theorem AnQ.an {s : Sg} {q : Nat} {ty : Int64} {m cl : Nat} {b : Lb} (h : AnQ s q ty (om m) (om cl) (-2)) : AnN s q (an b ty m cl 0) := sorry
section SPX
variable {l : Launch} {G : Gl} {d : Nat} {σ : Sg} {b n r k : Nat} {B : Nat → Nat} {st : Bool} {Lc : List (Int64 × Int64 × Nat)}
theorem sp_X6_isObject (hG : GOK G) (hd : 1 ≤ d) (t : Int64) : CT l G yX6_isObject (ws_ yX6_isObject cX6_isObject 3 (some .boolean)) d [.ref (G.adr 6 0), .long t] σ (rZ (isOb t) (fun s => s = σ)) := sorry
theorem sp_X6_expect (hG : GOK G) (hd : 5 ≤ d) (hJ : JE σ b B n r k st Lc) {q tk : Nat} {ty t : Int64} {v : Int32} (hv : v = nI q) (hq : q < 1410) (hty : σ.L 1606 0 q = ty) (htk : σ.I 1510 0 q = nI tk) (htr : tk < r) : CT l G yX6_expect (ws_ yX6_expect cX6_expect 4 none) d [.ref (G.adr 6 0), .int v, .long t] σ (oJ G b (yTok B n) σ (ckP (wFits σ 1 ty t) 13 tk) (fun _ o s => o = .returned none ∧ Fl pCd σ s)) := sorry
theorem sp_X6_objectAt (hG : GOK G) (hd : 4 ≤ d) (hJ : JE σ b B n r k st Lc) {q tk : Nat} {ty : Int64} {v : Int32} (hv : v = nI q) (hq : q < 1410) (hty : σ.L 1606 0 q = ty) (htk : σ.I 1510 0 q = nI tk) (htr : tk < r) : CT l G yX6_objectAt (ws_ yX6_objectAt cX6_objectAt 2 (some (.object "LinkHouse$Kind"))) d [.ref (G.adr 6 0), .int v] σ (oJ G b (yTok B n) σ (ckO ty tk) (fun _ o s => ∃ v, o = .returned (some (rv G 1 v)) ∧ (∀ k, v = some k → k < cnt 1) ∧ (v = wFind σ 1 ty ∧ s = σ))) := sorry
theorem sp_X6_asField (hG : GOK G) (hd : 70 ≤ d) (hJ : JE σ b B n r k st Lc) {q t : Nat} {xo : Option Nat} {nm : Int64} {v : Int32} (hv : v = nI q) (hq : q < 1410) (hx : ∀ x, xo = some x → x < cnt 1) (ht : σ.I 1512 0 q = nI t) (htr : t < r) (h1t : (yTok B n t).1 = 1) (hnm : nm = lN (yTok B n t).2.1) : CT l G yX6_asField (ws_ yX6_asField cX6_asField 4 none) d [.ref (G.adr 6 0), .int v, rv G 1 xo] σ (oJ G b (yTok B n) σ (ckF σ k xo nm t) (fun f o s => o = .returned none ∧ (f < 22404 ∧ FrQ σ s q ∧ AnQ s q (σ.L 1207 f 0) (some f) xo (σ.I 1609 0 q)))) := sorry
theorem sp_X6_asCall (hG : GOK G) (hd : 70 ≤ d) (hJ : JE σ b B n r k st Lc) {q t : Nat} {xo : Option Nat} {nm : Int64} {ts : List Int64} {v : Int32} (hv : v = nI q) (hq : q < 1410) (hx : ∀ x, xo = some x → x < cnt 1) (ht : σ.I 1512 0 q = nI t) (htr : t < r) (h1t : (yTok B n t).1 = 1) (hnm : nm = lN (yTok B n t).2.1) (hA : LAr σ ts (σ.I 1513 0 q)) : CT l G yX6_asCall (ws_ yX6_asCall cX6_asCall 4 none) d [.ref (G.adr 6 0), .int v, rv G 1 xo] σ (oJ G b (yTok B n) σ (ckC σ k xo nm ts t) (fun m o s => o = .returned none ∧ (m < 22404 ∧ FrQ σ s q ∧ AnQ s q (σ.L 1207 m 0) (some m) xo (σ.I 1609 0 q)))) := sorry
end SPX
