/-! LinkHouse: bodies are judged and written; the state, params. -/
theorem LW.fg {σ s : Sg} {w b k n0 : Nat} {U : List Us} {p : Nat → Nat → Bool} (h : LW σ w b k U n0) (hF : Fl p σ s) (hp : ∀ c i, (1601 < c ∧ c ≤ 1603) ∨ (1699 < c ∧ c ≤ 1704) ∨ (1199 < c ∧ c ≤ 1222 ∧ ¬ c = 1219 ∧ ¬ c = 1220) ∨ (1199 < c ∧ c ≤ 1222 ∧ 6402 ≤ i) ∨ (1108 < c ∧ c ≤ 1119) ∨ c = 2009 → p c i = false) : LW s w b k U n0 := sorry
theorem SmJ.fg {τ σ s : Sg} {p : Nat → Nat → Bool} (h : SmJ τ σ) (hF : Fl p σ s) (hp : ∀ c i, (1099 < c ∧ c ≤ 1199 ∧ ¬ c = 1119 ∧ ¬ c = 1120) ∨ (1299 < c ∧ c ≤ 1303) ∨ (1199 < c ∧ c ≤ 1222 ∧ i < 6402 ∧ ¬ c = 1219 ∧ ¬ c = 1220) → p c i = false) : SmJ τ s := sorry
theorem SmJ.mok {τ s : Sg} (h : SmJ τ s) (hS : Shp τ) (hM : MOK τ) : MOK s := sorry
theorem SmJ.cds {τ s : Sg} (h : SmJ τ s) (hW : WOK τ 1) (hS : Shp τ) {c x : Nat} {nm : Int64} {ts : List Int64} (hx : x < 194) : jCds s c x nm ts = jCds τ c x nm ts := sorry
/-- while the bodies of class k of build b are judged and written -/
def BW (τ σ : Sg) (b k n0 p q : Nat) (U : List Us) (B : Nat → Nat) (n r : Nat) : Prop := WX τ σ b k n0 p U B n r ∧ σ.I 2013 b 0 = nI q ∧ WOK τ 1 ∧ MOK τ ∧ k < 194 ∧ wFind τ 1 (τ.L 1100 k 0) = some k ∧ ∀ x nm ts, x < 194 → (jCds τ k x nm ts).length ≤ 1344
theorem BW.je {τ σ : Sg} {b k n0 p q : Nat} {U : List Us} {B : Nat → Nat} {n r : Nat} {st : Bool} {Lc : Lcs} (h : BW τ σ b k n0 p q U B n r) (h5 : σ.B 1605 0 0 = st) (hl : LcS σ Lc) : JE σ b B n r k st Lc := sorry
theorem BW.fg {τ σ s : Sg} {b k n0 p q : Nat} {U : List Us} {B : Nat → Nat} {n r : Nat} {pp : Nat → Nat → Bool} (h : BW τ σ b k n0 p q U B n r) (hF : Fl pp σ s) (hp : ∀ c i, (1601 < c ∧ c ≤ 1603) ∨ (1699 < c ∧ c ≤ 1704) ∨ (1199 < c ∧ c ≤ 1222 ∧ ¬ c = 1219 ∧ ¬ c = 1220) ∨ (1199 < c ∧ c ≤ 1222 ∧ 6402 ≤ i) ∨ (1099 < c ∧ c ≤ 1199 ∧ ¬ c = 1120) ∨ (1299 < c ∧ c ≤ 1303) ∨ (1500 < c ∧ c ≤ 1506) ∨ (2000 < c ∧ c ≤ 2004) ∨ c = 2009 ∨ c = 2011 ∨ c = 2013 → pp c i = false) : BW τ s b k n0 p q U B n r := sorry
theorem BW.st {τ σ s : Sg} {b k n0 p q : Nat} {U : List Us} {B : Nat → Nat} {n r : Nat} (h : BW τ σ b k n0 p q U B n r) (hF : Fl pSt σ s) : BW τ s b k n0 p q U B n r := sorry
section SPX
variable {l : Launch} {G : Gl} {d : Nat} {τ σ : Sg} {b k n0 p q m n r : Nat} {U : List Us} {B : Nat → Nat} {st : Bool}
/-- the params of m are in order -/
def PmW (τ : Sg) (m r : Nat) : Prop := nPa τ m ≤ 4 ∧ ∀ i, i < nPa τ m → τ.I 1211 m i = nI (tkN (τ.I 1211 m i)) ∧ tkN (τ.I 1211 m i) + 1 < r
theorem sp_X6_paramsOf (hG : GOK G) {sn : Nat} (hd : 5 ≤ d) (hm : m < 6402) (hB : BW τ σ b k n0 p q U B n r) (h5 : σ.B 1605 0 0 = st) (hl : LcS σ []) (h14 : σ.I 1614 0 0 = nI sn) (hP : PmW τ m r) : CT l G yX6_paramsOf (ws_ yX6_paramsOf cX6_paramsOf 3 none) d [.ref (G.adr 6 0), rv G 2 (some m)] σ (oJ G b (yTok B n) σ (pmK τ m (nPa τ m) 0 [] sn) (fun z o s => o = .returned none ∧ (Fl pKw σ s ∧ LcS s z.1 ∧ s.I 1614 0 0 = nI z.2))) := sorry
end SPX
