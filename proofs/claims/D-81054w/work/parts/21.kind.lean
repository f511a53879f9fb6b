/-! SPECIFICATIONS of Member and Kind: what their questions answer, over the tables. -/
/-- shapes that hold all through: counts within their arrays -/
def Shp (σ : Sg) : Prop :=
  (∀ k, k < 194 → (∃ n, n ≤ 4 ∧ σ.I 1109 k 0 = nI n) ∧ (∃ n, n ≤ 8 ∧ σ.I 1112 k 0 = nI n) ∧ (∃ n, n ≤ 8 ∧ σ.I 1114 k 0 = nI n) ∧ ∃ n, n ≤ 33 ∧ σ.I 1117 k 0 = nI n) ∧ ∀ m, m < 22404 → ∃ n, n ≤ 4 ∧ σ.I 1208 m 0 = nI n
abbrev nFc (σ : Sg) (k : Nat) : Nat := (σ.I 1109 k 0).toNatClampNeg
abbrev nWi (σ : Sg) (k : Nat) : Nat := (σ.I 1112 k 0).toNatClampNeg
abbrev nOn (σ : Sg) (k : Nat) : Nat := (σ.I 1114 k 0).toNatClampNeg
abbrev nMe (σ : Sg) (k : Nat) : Nat := (σ.I 1117 k 0).toNatClampNeg
abbrev nPa (σ : Sg) (m : Nat) : Nat := (σ.I 1208 m 0).toNatClampNeg
theorem Shp.fc {σ : Sg} (h : Shp σ) {k : Nat} (hk : k < 194) : nFc σ k ≤ 4 ∧ σ.I 1109 k 0 = nI (nFc σ k) := sorry
theorem Shp.wi {σ : Sg} (h : Shp σ) {k : Nat} (hk : k < 194) : nWi σ k ≤ 8 ∧ σ.I 1112 k 0 = nI (nWi σ k) := sorry
theorem Shp.on {σ : Sg} (h : Shp σ) {k : Nat} (hk : k < 194) : nOn σ k ≤ 8 ∧ σ.I 1114 k 0 = nI (nOn σ k) := sorry
theorem Shp.me {σ : Sg} (h : Shp σ) {k : Nat} (hk : k < 194) : nMe σ k ≤ 33 ∧ σ.I 1117 k 0 = nI (nMe σ k) := sorry
theorem Shp.pa {σ : Sg} (h : Shp σ) {m : Nat} (hm : m < 22404) : nPa σ m ≤ 4 ∧ σ.I 1208 m 0 = nI (nPa σ m) := sorry
theorem cnt1 : cnt 1 = 194 := sorry
theorem cnt2 : cnt 2 = 22404 := sorry
theorem cnt3 : cnt 3 = 3 := sorry
/-- all of m ones from k on -/
def fall (p : Nat → Bool) : Nat → Nat → Bool
  | 0, _ => true
  | m + 1, k => p k && fall p m (k + 1)
/-- the same params -/
def mPar (σ : Sg) (a b : Nat) : Bool := decide (σ.I 1208 a 0 = σ.I 1208 b 0) && fall (fun k => decide (σ.L 1209 a k = σ.L 1209 b k)) (nPa σ a) 0
def mAlk (σ : Sg) (a b : Nat) : Bool := decide (σ.I 1200 a 0 = 1) && (decide (σ.I 1200 b 0 = 1) && (decide (σ.L 1201 a 0 = σ.L 1201 b 0) && mPar σ a b))
def mOne (σ : Sg) (a b : Nat) : Bool := mAlk σ a b && decide (σ.L 1207 a 0 = σ.L 1207 b 0)
def mObj (σ : Sg) (a : Nat) : Bool := decide (σ.I 1200 a 0 = 1) && (!σ.B 1203 a 0 && !decide (σ.I 1202 a 0 = 0))
section SPK
variable {l : Launch} {G : Gl} {d : Nat} {σ : Sg}
theorem sp_X2_hasParams (hG : GOK G) (hd : 1 ≤ d) (hS : Shp σ) {a b : Nat} (ha : a < cnt 2) (hb : b < cnt 2) : CT l G yX2_hasParams (ws_ yX2_hasParams cX2_hasParams 4 (some .boolean)) d [.ref (G.adr 2 a), .ref (G.adr 2 b)] σ (rZ (mPar σ a b) (fun s => s = σ)) := sorry
theorem sp_X2_isAlike (hG : GOK G) (hd : 2 ≤ d) (hS : Shp σ) {a b : Nat} (ha : a < cnt 2) (hb : b < cnt 2) : CT l G yX2_isAlike (ws_ yX2_isAlike cX2_isAlike 2 (some .boolean)) d [.ref (G.adr 2 a), .ref (G.adr 2 b)] σ (rZ (mAlk σ a b) (fun s => s = σ)) := sorry
theorem sp_X2_isOne (hG : GOK G) (hd : 3 ≤ d) (hS : Shp σ) {a b : Nat} (ha : a < cnt 2) (hb : b < cnt 2) : CT l G yX2_isOne (ws_ yX2_isOne cX2_isOne 2 (some .boolean)) d [.ref (G.adr 2 a), .ref (G.adr 2 b)] σ (rZ (mOne σ a b) (fun s => s = σ)) := sorry
theorem sp_X2_isOfObjects (hG : GOK G) (hd : 1 ≤ d) {a : Nat} (ha : a < cnt 2) : CT l G yX2_isOfObjects (ws_ yX2_isOfObjects cX2_isOfObjects 1 (some .boolean)) d [.ref (G.adr 2 a)] σ (rZ (mObj σ a) (fun s => s = σ)) := sorry
/-- KIND -/
theorem lt33 {k j : Nat} (hk : k < cnt 1) (hj : j < 33) : 33 * k + j < cnt 2 := sorry
def kFac (σ : Sg) (q : Nat) (nm : Int64) : Bool := fany (fun j => decide (σ.L 1108 q j = nm)) (nFc σ q) 0
theorem sp_X1_hasFace (hG : GOK G) (hd : 1 ≤ d) (hS : Shp σ) {q : Nat} (hq : q < cnt 1) (nm : Int64) : CT l G yX1_hasFace (ws_ yX1_hasFace cX1_hasFace 5 (some .boolean)) d [.ref (G.adr 1 q), .long nm] σ (rZ (kFac σ q nm) (fun s => s = σ)) := sorry
def kWit (σ : Sg) (q : Nat) (nm : Int64) : Bool := fany (fun j => decide (σ.L 1111 q j = nm)) (nWi σ q) 0
theorem sp_X1_hasWith (hG : GOK G) (hd : 1 ≤ d) (hS : Shp σ) {q : Nat} (hq : q < cnt 1) (nm : Int64) : CT l G yX1_hasWith (ws_ yX1_hasWith cX1_hasWith 5 (some .boolean)) d [.ref (G.adr 1 q), .long nm] σ (rZ (kWit σ q nm) (fun s => s = σ)) := sorry
def kLet (σ : Sg) (q : Nat) (nm : Int64) : Bool := !σ.B 1115 q 0 || fany (fun j => decide (σ.L 1113 q j = nm)) (nOn σ q) 0
theorem sp_X1_lets (hG : GOK G) (hd : 1 ≤ d) (hS : Shp σ) {q : Nat} (hq : q < cnt 1) (nm : Int64) : CT l G yX1_lets (ws_ yX1_lets cX1_lets 5 (some .boolean)) d [.ref (G.adr 1 q), .long nm] σ (rZ (kLet σ q nm) (fun s => s = σ)) := sorry
def kMet (σ : Sg) (q m : Nat) : Option Nat := (ffirst (fun j => mOne σ (33 * q + j) m) (nMe σ q) 0).map (fun j => 33 * q + j)
theorem sp_X1_method (hG : GOK G) (hd : 4 ≤ d) (hS : Shp σ) {q m : Nat} (hq : q < cnt 1) (hm : m < cnt 2) : CT l G yX1_method (ws_ yX1_method cX1_method 3 (some (.object "LinkHouse$Member"))) d [.ref (G.adr 1 q), .ref (G.adr 2 m)] σ (rR G 2 (kMet σ q m) (fun s => s = σ)) := sorry
def kMak (σ : Sg) (q m : Nat) : Option Nat := (ffirst (fun j => decide (σ.I 1200 (33 * q + j) 0 = 2) && mPar σ (33 * q + j) m) (nMe σ q) 0).map (fun j => 33 * q + j)
theorem sp_X1_maker (hG : GOK G) (hd : 2 ≤ d) (hS : Shp σ) {q m : Nat} (hq : q < cnt 1) (hm : m < cnt 2) : CT l G yX1_maker (ws_ yX1_maker cX1_maker 3 (some (.object "LinkHouse$Member"))) d [.ref (G.adr 1 q), .ref (G.adr 2 m)] σ (rR G 2 (kMak σ q m) (fun s => s = σ)) := sorry
def kFld (σ : Sg) (q : Nat) (nm ty : Int64) : Option Nat := (ffirst (fun j => decide (σ.I 1200 (33 * q + j) 0 = 0) && (decide (σ.L 1201 (33 * q + j) 0 = nm) && (decide (ty = 2) || decide (σ.L 1207 (33 * q + j) 0 = ty)))) (nMe σ q) 0).map (fun j => 33 * q + j)
theorem sp_X1_field (hG : GOK G) (hd : 1 ≤ d) (hS : Shp σ) {q : Nat} (hq : q < cnt 1) (nm ty : Int64) : CT l G yX1_field (ws_ yX1_field cX1_field 7 (some (.object "LinkHouse$Member"))) d [.ref (G.adr 1 q), .long nm, .long ty] σ (rR G 2 (kFld σ q nm ty) (fun s => s = σ)) := sorry
def kHMk (σ : Sg) (q : Nat) : Bool := fany (fun j => decide (σ.I 1200 (33 * q + j) 0 = 2)) (nMe σ q) 0
theorem sp_X1_hasMaker (hG : GOK G) (hd : 1 ≤ d) (hS : Shp σ) {q : Nat} (hq : q < cnt 1) : CT l G yX1_hasMaker (ws_ yX1_hasMaker cX1_hasMaker 3 (some .boolean)) d [.ref (G.adr 1 q)] σ (rZ (kHMk σ q) (fun s => s = σ)) := sorry
def kHWh (σ : Sg) (q : Nat) : Bool := fany (fun j => decide (σ.I 1200 (33 * q + j) 0 = 1) && (!σ.B 1205 (33 * q + j) 0 && !σ.B 1203 (33 * q + j) 0)) (nMe σ q) 0
theorem sp_X1_hasWhole (hG : GOK G) (hd : 1 ≤ d) (hS : Shp σ) {q : Nat} (hq : q < cnt 1) : CT l G yX1_hasWhole (ws_ yX1_hasWhole cX1_hasWhole 3 (some .boolean)) d [.ref (G.adr 1 q)] σ (rZ (kHWh σ q) (fun s => s = σ)) := sorry
end SPK
