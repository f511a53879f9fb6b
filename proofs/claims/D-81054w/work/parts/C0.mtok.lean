/-! The model reads tokens: bytes, letters, one token. -/
/-- all but the columns and places of p is kept -/
def FJ (p : Nat → Nat → Bool) (σ s : Sg) : Prop := ∀ c j, p c j = false → ∀ i, s.I c i j = σ.I c i j ∧ s.B c i j = σ.B c i j ∧ s.L c i j = σ.L c i j ∧ s.R c i j = σ.R c i j
theorem FJ.refl {p : Nat → Nat → Bool} {σ : Sg} : FJ p σ σ := sorry
theorem FJ.trans {p : Nat → Nat → Bool} {a b c : Sg} (h : FJ p a b) (k : FJ p b c) : FJ p a c := sorry
theorem FJ.mono {p q : Nat → Nat → Bool} {a b : Sg} (hpq : ∀ c j, p c j = true → q c j = true) (h : FJ p a b) : FJ q a b := sorry
theorem FJ.sI {p : Nat → Nat → Bool} {σ s : Sg} {c i j : Nat} {v : Int32} (h : FJ p σ s) (hp : p c j = true) : FJ p σ (sI s c i j v) := sorry
theorem FJ.sB {p : Nat → Nat → Bool} {σ s : Sg} {c i j : Nat} {v : Bool} (h : FJ p σ s) (hp : p c j = true) : FJ p σ (sB s c i j v) := sorry
theorem FJ.sL {p : Nat → Nat → Bool} {σ s : Sg} {c i j : Nat} {v : Int64} (h : FJ p σ s) (hp : p c j = true) : FJ p σ (sL s c i j v) := sorry
theorem FJ.i {p : Nat → Nat → Bool} {a s : Sg} (h : FJ p a s) {c i j : Nat} (hc : p c j = false) : s.I c i j = a.I c i j := sorry
theorem FJ.b {p : Nat → Nat → Bool} {a s : Sg} (h : FJ p a s) {c i j : Nat} (hc : p c j = false) : s.B c i j = a.B c i j := sorry
theorem FJ.l {p : Nat → Nat → Bool} {a s : Sg} (h : FJ p a s) {c i j : Nat} (hc : p c j = false) : s.L c i j = a.L c i j := sorry
theorem FJ.r {p : Nat → Nat → Bool} {a s : Sg} (h : FJ p a s) {c i j : Nat} (hc : p c j = false) : s.R c i j = a.R c i j := sorry
theorem nI_ix {a b c : Nat} : nI a * (@OfNat.ofNat Int32 c _) + nI b = nI (a * c + b) := sorry
theorem lN_cb {v : Nat} (h : v < 2 ^ 60) : lN v ||| 2305843009213693952 = lN (v + 2305843009213693952) := sorry
/-- the model's words -/
def yWm : List Nat := [53482707, 1577157, 595, 83, 590, 6067464, 3990297, 3998030, 45646, 62926, 103080012, 529541, 20736983619, 324015252, 5829188, 57687, 37780, 49492, 582, 1361093, 388010757, 19416568974, 337716183, 83097, 50675912, 62804, 3756812, 5276243, 324338002, 5323]
theorem yWm_s : ∀ k, k < 30 → yWm.getD k 0 = yWs.getD (if k = 2 then 3 else if k = 3 then 2 else k) 0 := sorry
theorem yWs_m : ∀ k, k < 30 → yWs.getD k 0 = yWm.getD (if k = 2 then 3 else if k = 3 then 2 else k) 0 := sorry
theorem yWm_lt : ∀ k, k < 30 → yWm.getD k 0 < 2 ^ 60 := sorry
theorem yWl_1 (v : Nat) : ∀ m, yWl v m = 1 ↔ ∀ k, k < m → ¬ yWs.getD k 0 = v := sorry
theorem yWd_m {v : Nat} : yWd v = 1 ↔ ∀ k, k < 30 → ¬ yWm.getD k 0 = v := sorry
theorem yWl_or (v : Nat) : ∀ m, yWl v m = 1 ∨ (200 ≤ yWl v m ∧ yWl v m < 200 + m) := sorry
theorem yWd_or {v : Nat} : yWd v = 1 ∨ (200 ≤ yWd v ∧ yWd v < 230) := sorry
/-- the model's kind of a token of a sort -/
def mKd (q : Nat) : Nat := if q = 0 then 0 else if q = 999 then 6 else if q = 2 then 1 else if q = 1 then 2 else if 200 ≤ q then 3 else if q = 3 then 4 else 5
def mSv (q : Nat) : Nat := if q = 4 then 256 else q
/-- the model's text of slot s, its words -/
def TmX (σ : Sg) (s : Nat) (B : Nat → Nat) (n : Nat) : Prop := σ.I 2119 0 0 = nI s ∧ s < 16 ∧ BOK B n ∧ σ.I 2106 0 s = nI n ∧ (∀ k, k < n → σ.I 2105 0 (s * 4000 + k) &&& 255 = nI (B k)) ∧ σ.I 2118 0 0 = nI 30 ∧ ∀ k, k < 30 → σ.L 2117 0 k = lN (yWm.getD k 0)
/-- the columns of the tokens -/
def pZ0 (c _j : Nat) : Bool := rg 2110 2116 c
theorem TmX.fj {σ st : Sg} {s n : Nat} {B : Nat → Nat} {p : Nat → Nat → Bool} (hF : FJ p σ st) (hp : ∀ c j, c = 2105 ∨ c = 2106 ∨ c = 2117 ∨ c = 2118 ∨ c = 2119 → p c j = false) (h : TmX σ s B n) : TmX st s B n := sorry
theorem pZ0_no : ∀ c j, c = 2105 ∨ c = 2106 ∨ c = 2117 ∨ c = 2118 ∨ c = 2119 → pZ0 c j = false := sorry
section SPX
variable {l : Launch} {G : Gl} {d : Nat} {σ : Sg}
theorem sp_X11_sym (hG : GOK G) (hd : 1 ≤ d) {c : Nat} (hc : c < 256) {x : Int32} (hx : x = nI c) : CT l G yX11_sym (ws_ yX11_sym cX11_sym 1 (some .int)) d [.int x] σ (rI (nI (yLt c)) (fun s => s = σ)) := sorry
theorem sp_X11_byteAt (hG : GOK G) (hd : 1 ≤ d) {s n : Nat} {B : Nat → Nat} (hX : TmX σ s B n) {k : Nat} (hk : k < 5000) {x : Int32} (hx : x = nI k) : CT l G yX11_byteAt (ws_ yX11_byteAt cX11_byteAt 2 (some .int)) d [.ref (G.adr 11 0), .int x] σ (rI (nI (B k)) (fun s => s = σ)) := sorry
theorem sp_X11_isSmall (hG : GOK G) (hd : 1 ≤ d) {c : Nat} (hc : c < 256) {x : Int32} (hx : x = nI c) : CT l G yX11_isSmall (ws_ yX11_isSmall cX11_isSmall 1 (some .boolean)) d [.int x] σ (rZ (decide (97 ≤ c ∧ c ≤ 122)) (fun s => s = σ)) := sorry
theorem sp_X11_isGreat (hG : GOK G) (hd : 1 ≤ d) {c : Nat} (hc : c < 256) {x : Int32} (hx : x = nI c) : CT l G yX11_isGreat (ws_ yX11_isGreat cX11_isGreat 1 (some .boolean)) d [.int x] σ (rZ (decide (65 ≤ c ∧ c ≤ 90)) (fun s => s = σ)) := sorry
theorem sp_X11_wordEnd (hG : GOK G) (hd : 2 ≤ d) {s n : Nat} {B : Nat → Nat} (hX : TmX σ s B n) {k : Nat} (hk : k ≤ n) {x : Int32} (hx : x = nI k) : CT l G yX11_wordEnd (ws_ yX11_wordEnd cX11_wordEnd 3 (some .int)) d [.ref (G.adr 11 0), .int x] σ (rI (nI (yWe B n k)) (fun s => s = σ)) := sorry
theorem sp_X11_isWord (hG : GOK G) (hd : 1 ≤ d) {s n : Nat} {B : Nat → Nat} (hX : TmX σ s B n) {v : Nat} (hv : v < 2 ^ 60) {x : Int64} (hx : x = lN v) : CT l G yX11_isWord (ws_ yX11_isWord cX11_isWord 4 (some .boolean)) d [.ref (G.adr 11 0), .long x] σ (rZ (decide (¬ yWd v = 1)) (fun s => s = σ)) := sorry
/-- what reading a token K at place x leaves -/
def oMt (σ : Sg) (x : Nat) (K : Tk) (o : Outcome) (st : Sg) : Prop := o = .returned (some (.int (nI K.2.2.2))) ∧ ∃ v nm, st = sL (sI (sI σ 2111 0 x (nI (mKd K.1))) 2115 0 x v) 2114 0 x nm ∧ (K.1 = 2 → nm = lN (K.2.1 + 2305843009213693952)) ∧ ((K.1 = 1 ∨ 200 ≤ K.1 ∧ K.1 < 999) → nm = lN K.2.1) ∧ (K.1 = 3 → v = nI K.2.1) ∧ (mKd K.1 = 5 → v = nI (mSv K.1))
theorem yNm_60 {B : Nat → Nat} {m k v : Nat} (hv : v < 64) (hm : m ≤ 9) : yNm B m k v < 2 ^ 60 := sorry
theorem yNm_54 {B : Nat → Nat} {m k v : Nat} (hv : v < 64) (hm : m ≤ 8) : yNm B m k v < 2 ^ 54 := sorry
theorem yNm0_60 {B : Nat → Nat} {m k : Nat} (hm : m ≤ 10) : yNm B m k 0 < 2 ^ 60 := sorry
theorem yNm0_54 {B : Nat → Nat} {m k : Nat} (hm : m ≤ 9) : yNm B m k 0 < 2 ^ 54 := sorry
theorem sp_X11_tokenAt (hG : GOK G) (hd : 4 ≤ d) {s n : Nat} {B : Nat → Nat} (hX : TmX σ s B n) {a x : Nat} (ha : a < n) (hx : x < 12636) {x1 x2 : Int32} (h1 : x1 = nI x) (h2 : x2 = nI a) : CT l G yX11_tokenAt (ws_ yX11_tokenAt cX11_tokenAt 8 (some .int)) d [.ref (G.adr 11 0), .int x1, .int x2] σ (oMt σ x (yTa B n a)) := sorry
end SPX
