/-! The model goes along the tokens. -/
theorem vpn {a N : Nat} (h : a < N) (hN : N < 2 ^ 31 := by omega) : vp_in (nI a) N := sorry
theorem yWl_w (v : Nat) : ∀ m, 200 ≤ yWl v m → yWs.getD (yWl v m - 200) 0 = v := sorry
theorem yTa_word {B : Nat → Nat} {n s : Nat} (hB : BOK B n) : 200 ≤ (yTa B n s).1 → (yTa B n s).1 < 999 → (yTa B n s).1 < 230 ∧ (yTa B n s).2.1 = yWs.getD ((yTa B n s).1 - 200) 0 := sorry
theorem yTok_word {B : Nat → Nat} {n j : Nat} (hB : BOK B n) (h : 200 ≤ (yTok B n j).1) (h9 : (yTok B n j).1 < 999) : (yTok B n j).1 < 230 ∧ (yTok B n j).2.1 = yWs.getD ((yTok B n j).1 - 200) 0 := sorry
theorem yTok_sort {B : Nat → Nat} {n j : Nat} (hB : BOK B n) : (yTok B n j).1 < 1000 := sorry
theorem yWs_inj : ∀ a, a < 30 → ∀ b, b < 30 → yWs.getD a 0 = yWs.getD b 0 → a = b := sorry
theorem mKd_0 {q : Nat} : mKd q = 0 ↔ q = 0 := sorry
theorem mKd_6 {q : Nat} : mKd q = 6 ↔ q = 999 := sorry
theorem mKd_1 {q : Nat} : mKd q = 1 ↔ q = 2 := sorry
theorem mKd_2 {q : Nat} : mKd q = 2 ↔ q = 1 := sorry
theorem mKd_3 {q : Nat} : mKd q = 3 ↔ 200 ≤ q ∧ ¬ q = 999 := sorry
theorem mKd_4 {q : Nat} : mKd q = 4 ↔ q = 3 := sorry
theorem mKd_5 {q : Nat} : mKd q = 5 ↔ 3 < q ∧ q < 200 := sorry
theorem mKd_lt {q : Nat} : mKd q < 7 := sorry
/-- a fault is laid, or the token at hand is bad -/
def Dm (σ : Sg) (T : Nat → Tk) (f k : Nat) : Prop := k ≤ 700 ∧ ((σ.I 2120 0 0 = nI f ∧ 0 < f ∧ f < 100 ∧ σ.I 2121 0 0 = nI (T k).2.2.1) ∨ (σ.I 2120 0 0 = nI 0 ∧ f = 1 ∧ σ.I 2122 0 0 = nI k ∧ LvT T k ∧ (T k).1 = 999))
def PSr (σ : Sg) (T : Nat → Tk) (r : PR Nat) : Prop := match r with
  | .ok t => σ.I 2120 0 0 = nI 0 ∧ σ.I 2122 0 0 = nI t ∧ t ≤ 700 ∧ LvT T t
  | .error z => Dm σ T z.1 z.2
/-- the state of the model's reader: at token t if r = .ok t, doomed if r is an error -/
def PS (σ : Sg) (s : Nat) (B : Nat → Nat) (n w e : Nat) (r : PR Nat) : Prop := σ.I 2119 0 0 = nI s ∧ s < 16 ∧ BOK B n ∧ TT σ s (yTok B n) ∧ σ.I 2189 0 0 = nI w ∧ σ.I 2169 0 s = nI e ∧ (∃ p, p ≤ 700 ∧ σ.I 2122 0 0 = nI p) ∧ PSr σ (yTok B n) r
/-- the columns: fault, place, token at hand -/
def pG (c _j : Nat) : Bool := rg 2119 2122 c
theorem pG_no {c j : Nat} (h : c ≤ 2119 ∨ 2122 < c) : pG c j = false := sorry
/-- a fault is laid already -/
def Fld (σ : Sg) (r : PR Nat) : Prop := ∀ z, r = .error z → ¬ σ.I 2120 0 0 = nI 0
theorem PS.to {σ st : Sg} {s n w e w' e' : Nat} {B : Nat → Nat} {r r' : PR Nat} {p : Nat → Nat → Bool} (h : PS σ s B n w e r) (hF : FJ p σ st) (hp : ∀ c j, c = 2119 ∨ (2110 < c ∧ c ≤ 2115) → p c j = false) (hw : st.I 2189 0 0 = nI w') (he : st.I 2169 0 s = nI e') (h2 : ∃ p, p ≤ 700 ∧ st.I 2122 0 0 = nI p) (hr : PSr st (yTok B n) r') : PS st s B n w' e' r' := sorry
/-- what does not touch the reader's state -/
theorem PS.fj {σ st : Sg} {s n w e : Nat} {B : Nat → Nat} {r : PR Nat} {p : Nat → Nat → Bool} (h : PS σ s B n w e r) (hF : FJ p σ st) (hp : ∀ c j, c = 2119 ∨ c = 2120 ∨ c = 2121 ∨ c = 2122 ∨ c = 2169 ∨ c = 2189 ∨ (2110 < c ∧ c ≤ 2115) → p c j = false) : PS st s B n w e r := sorry
theorem PS.tk {σ : Sg} {s n w e t : Nat} {B : Nat → Nat} (h : PS σ s B n w e (.ok t)) : TkM σ s (yTok B n) t := sorry
/-- the token at hand is bad: so it is doomed -/
theorem PS.bad {σ : Sg} {s n w e t : Nat} {B : Nat → Nat} (h : PS σ s B n w e (.ok t)) (hb : (yTok B n t).1 = 999) : PS σ s B n w e (.error (1, t)) := sorry
/-- what a test answers -/
def oTs (σ : Sg) (T : Nat → Tk) (r : PR Nat) (P : Nat → Bool) (o : Outcome) (st : Sg) : Prop := st = σ ∧ ∃ b : Bool, o = .returned (some (.int (bI b))) ∧ (∀ t, r = .ok t → b = P (T t).1) ∧ (∀ z, r = .error z → σ.I 2120 0 0 = nI 0 → b = false)
def nmp (k : Nat) : Nat → Nat
  | 0 => 0
  | j + 1 => 64 * nmp k j + yLt ((sByt.getD k []).getD j 0).toNatClampNeg
theorem nmp_lt (k : Nat) : ∀ j, nmp k j < 64 ^ j := sorry
/-- literal k is the word of sort q -/
def WK (k q : Nat) : Prop := k < 108 ∧ sLen.getD k 0 ≤ 9 ∧ (∀ j, j < sLen.getD k 0 → (sByt.getD k []).getD j 0 = nI ((sByt.getD k []).getD j 0).toNatClampNeg ∧ ((sByt.getD k []).getD j 0).toNatClampNeg < 256) ∧ 200 ≤ q ∧ q < 230 ∧ nmp k (sLen.getD k 0) = yWs.getD (q - 200) 0
def wkL : List (Nat × Nat) := [(58, 216), (59, 214), (61, 207), (62, 210), (63, 211), (64, 201), (65, 200), (66, 203), (67, 202), (68, 204), (69, 205), (70, 206), (71, 208), (72, 209), (73, 212), (74, 215), (75, 213), (76, 226), (77, 227), (78, 228), (79, 217), (80, 218), (81, 220), (82, 221), (83, 222), (84, 223), (85, 225), (86, 219), (87, 224), (88, 229)]
theorem WK_all : ∀ x, x ∈ wkL → WK x.1 x.2 := sorry
theorem wk {k q : Nat} (h : (k, q) ∈ wkL) : WK k q := sorry
section SPX
variable {l : Launch} {G : Gl} {d : Nat} {σ : Sg}
section TS
variable {y : MethodName} {ws : List Cond} {av : List Value} {s n w e : Nat} {B : Nat → Nat} {T : Nat → Tk} {r : PR Nat} {P : Nat → Bool} {K : Bool → Sg → Prop} {TT' : Nat → Sg → Prop}
theorem oTs_use (h : CT l G y ws d av σ (oTs σ T r P)) (k1 : (∀ t, r = .ok t → P (T t).1 = true) → Fld σ r → K true σ) (k0 : (∀ t, r = .ok t → P (T t).1 = false) → K false σ) : CT l G y ws d av σ (oZ K TT') := sorry
/-- 'no fault yet, and a test' -/
theorem fl_if {A E : Sg → Prop} (h : CT l G y ws d av σ (oTs σ T r P)) (kA : ∀ t, r = .ok t → P (T t).1 = true → A σ) (kE : (∀ t, r = .ok t → P (T t).1 = false) → E σ) (hr : PSr σ T r) : ((¬ σ.I 2120 0 0 = 0) → E σ) ∧ ((σ.I 2120 0 0 = 0) → CT l G y ws d av σ (oZ (fun b st => ((b = false) → E st) ∧ ((b = true) → A st)) TT')) := sorry
end TS
theorem nI_0' : nI 0 = 0 := sorry
theorem sp_X11_kindAt (hG : GOK G) (hd : 1 ≤ d) {s p : Nat} (h1 : σ.I 2119 0 0 = nI s) (hs : s < 16) (hp : p < 702) {x : Int32} (hx : x = nI p) : CT l G yX11_kindAt (ws_ yX11_kindAt cX11_kindAt 2 (some .int)) d [.ref (G.adr 11 0), .int x] σ (rI (σ.I 2111 0 (s * 702 + p)) (fun st => st = σ)) := sorry
theorem sp_X11_placeAt (hG : GOK G) (hd : 1 ≤ d) {s p : Nat} (h1 : σ.I 2119 0 0 = nI s) (hs : s < 16) (hp : p < 702) {x : Int32} (hx : x = nI p) : CT l G yX11_placeAt (ws_ yX11_placeAt cX11_placeAt 2 (some .int)) d [.ref (G.adr 11 0), .int x] σ (rI (σ.I 2112 0 (s * 702 + p)) (fun st => st = σ)) := sorry
theorem sp_X11_nameAt (hG : GOK G) (hd : 1 ≤ d) {s p : Nat} (h1 : σ.I 2119 0 0 = nI s) (hs : s < 16) (hp : p < 702) {x : Int32} (hx : x = nI p) : CT l G yX11_nameAt (ws_ yX11_nameAt cX11_nameAt 2 (some .long)) d [.ref (G.adr 11 0), .int x] σ (rL (σ.L 2114 0 (s * 702 + p)) (fun st => st = σ)) := sorry
/-- the kind at hand is tested -/
theorem sp_kind (hG : GOK G) (hd : 1 ≤ d) {s n w e : Nat} {B : Nat → Nat} {r : PR Nat} (h : PS σ s B n w e r) : CT l G yX11_kindAt (ws_ yX11_kindAt cX11_kindAt 2 (some .int)) d [.ref (G.adr 11 0), .int (σ.I 2122 0 0)] σ (fun o st => st = σ ∧ ∃ v, o = .returned (some (.int v)) ∧ (∀ t, r = .ok t → v = nI (mKd (yTok B n t).1)) ∧ (∀ z, r = .error z → σ.I 2120 0 0 = nI 0 → v = nI 6)) := sorry
theorem mSv_inj {a q : Nat} (ha : a < 200) (hq : q < 200) : mSv a = mSv q ↔ a = q := sorry
theorem sp_X11_isSign (hG : GOK G) (hd : 2 ≤ d) {s n w e : Nat} {B : Nat → Nat} {r : PR Nat} (h : PS σ s B n w e r) {q : Nat} (hq : 3 < q ∧ q < 200) {x : Int32} (hx : x = nI (mSv q)) : CT l G yX11_isSign (ws_ yX11_isSign cX11_isSign 2 (some .boolean)) d [.ref (G.adr 11 0), .int x] σ (oTs σ (yTok B n) r (fun a => a == q)) := sorry
theorem sp_X11_nameOf (hG : GOK G) (hZ : SOK G) (hd : 5 ≤ d) {k q : Nat} (hk : WK k q) : CT l G yX11_nameOf (ws_ yX11_nameOf cX11_nameOf 4 (some .long)) d [.ref (G.adr 5000 k)] σ (rL (lN (yWs.getD (q - 200) 0)) (fun st => st = σ)) := sorry
theorem sp_X11_isWordAt (hG : GOK G) (hZ : SOK G) (hd : 6 ≤ d) {s n w e : Nat} {B : Nat → Nat} {r : PR Nat} (h : PS σ s B n w e r) {k q : Nat} (hk : WK k q) : CT l G yX11_isWordAt (ws_ yX11_isWordAt cX11_isWordAt 2 (some .boolean)) d [.ref (G.adr 11 0), .ref (G.adr 5000 k)] σ (oTs σ (yTok B n) r (fun a => a == q)) := sorry
end SPX
