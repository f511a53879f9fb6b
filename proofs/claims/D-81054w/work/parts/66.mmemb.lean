/-! The model: members, their signs -/
/-- name, type and params of member m of LinkHouse are those of member q of the model -/
def MSg (τ σ : Sg) (m q : Nat) : Prop := q < 7344 ∧ m < cnt 2 ∧ σ.L 2151 0 q = τ.L 1201 m 0 ∧ TyOK (τ.L 1207 m 0) ∧ σ.L 2153 0 q = tM (τ.L 1207 m 0) ∧ σ.I 2155 0 q = τ.I 1208 m 0 ∧ (∃ n, n ≤ 4 ∧ τ.I 1208 m 0 = nI n) ∧ ∀ j, j < nPa τ m → TyOK (τ.L 1209 m j) ∧ σ.L 2156 0 (4 * q + j) = tM (τ.L 1209 m j)
/-- a member of LinkHouse is one of the model -/
def MM (τ σ : Sg) (m q : Nat) : Prop := MSg τ σ m q ∧ σ.I 2142 0 q = τ.I 1200 m 0 ∧ σ.I 2144 0 q = τ.I 1202 m 0 ∧ σ.B 2145 0 q = τ.B 1203 m 0 ∧ σ.B 2146 0 q = τ.B 1204 m 0 ∧ σ.B 2147 0 q = τ.B 1205 m 0 ∧ σ.B 2149 0 q = τ.B 1206 m 0 ∧ σ.B 2164 0 q = τ.B 1212 m 0 ∧ σ.I 2165 0 q = τ.I 1213 m 0
/-- the members of a class -/
def MKm (τ σ : Sg) (c : Nat) : Prop := σ.I 2141 0 (cM c) = τ.I 1117 c 0 ∧ ∀ j, j < nMe τ c → MM τ σ (33 * c + j) (34 * cM c + j)
/-- the number of a member in the model -/
def mM (m : Nat) : Nat := 34 * cM (m / 33) + m % 33
theorem mM_e {c j : Nat} (hj : j < 33) : mM (33 * c + j) = 34 * cM c + j := sorry
theorem MSg.p {τ σ : Sg} {m q : Nat} (h : MSg τ σ m q) : nPa τ m ≤ 4 ∧ τ.I 1208 m 0 = nI (nPa τ m) := sorry
section SPML
variable {l : Launch} {G : Gl} {τ σ : Sg}
theorem sp_X11_sameParams (hG : GOK G) {d : Nat} (hd : 1 ≤ d) {a b a' b' : Nat} (ha : MSg τ σ a a') (hb : MSg τ σ b b') {x y : Int32} (hx : x = nI a') (hy : y = nI b') : CT l G yX11_sameParams (ws_ yX11_sameParams cX11_sameParams 5 (some .boolean)) d [.ref (G.adr 11 0), .int x, .int y] σ (rZ (mPar τ a b) (fun s => s = σ)) := sorry
/-- the same name, type, params -/
def mSgn (τ : Sg) (a b : Nat) : Bool := decide (τ.L 1201 a 0 = τ.L 1201 b 0) && (decide (τ.L 1207 a 0 = τ.L 1207 b 0) && mPar τ a b)
theorem mOne_sgn {τ : Sg} {a b : Nat} (hb : τ.I 1200 b 0 = 1) : mOne τ a b = (decide (τ.I 1200 a 0 = 1) && mSgn τ a b) := sorry
theorem sp_X11_sameSign (hG : GOK G) {d : Nat} (hd : 2 ≤ d) {a b a' b' : Nat} (ha : MSg τ σ a a') (hb : MSg τ σ b b') {x y : Int32} (hx : x = nI a') (hy : y = nI b') : CT l G yX11_sameSign (ws_ yX11_sameSign cX11_sameSign 3 (some .boolean)) d [.ref (G.adr 11 0), .int x, .int y] σ (rZ (mSgn τ a b) (fun s => s = σ)) := sorry
theorem sp_X11_ownMethod (hG : GOK G) {d : Nat} (hd : 3 ≤ d) (hS : Shp τ) {c m m' : Nat} (hc : c < cnt 1) (hK : MKm τ σ c) (hm : MSg τ σ m m') (h1 : τ.I 1200 m 0 = 1) {x y : Int32} (hx : x = nI (cM c)) (hy : y = nI m') : CT l G yX11_ownMethod (ws_ yX11_ownMethod cX11_ownMethod 5 (some .int)) d [.ref (G.adr 11 0), .int x, .int y] σ (rI (oN ((kMet τ c m).map mM)) (fun s => s = σ)) := sorry
theorem sp_X11_isFree (hG : GOK G) {d : Nat} (hd : 1 ≤ d) {m m' : Nat} (hm : MM τ σ m m') (h1 : τ.I 1200 m 0 = 1) {x : Int32} (hx : x = nI m') : CT l G yX11_isFree (ws_ yX11_isFree cX11_isFree 2 (some .boolean)) d [.ref (G.adr 11 0), .int x] σ (rZ (mObj τ m) (fun s => s = σ)) := sorry
/-- a type that is asked of a field: none is NULL -/
def tyF (t : Int64) : Int64 := if t = 2 then 0 else tM t
theorem sp_X11_ownField (hG : GOK G) {d : Nat} (hd : 1 ≤ d) (hS : Shp τ) {c : Nat} (hc : c < cnt 1) (hK : MKm τ σ c) (nm : Int64) {ty : Int64} (hty : TyOK ty) {x : Int32} (hx : x = nI (cM c)) : CT l G yX11_ownField (ws_ yX11_ownField cX11_ownField 8 (some .int)) d [.ref (G.adr 11 0), .int x, .long nm, .long (tyF ty)] σ (rI (oN ((kFld τ c nm ty).map mM)) (fun s => s = σ)) := sorry
theorem sp_X11_classOfMember (hG : GOK G) {d : Nat} (hd : 1 ≤ d) {m : Nat} (hm : m < 7344) {x : Int32} (hx : x = nI m) : CT l G yX11_classOfMember (ws_ yX11_classOfMember cX11_classOfMember 2 (some .int)) d [.ref (G.adr 11 0), .int x] σ (rI (nI (m / 34)) (fun s => s = σ)) := sorry
end SPML
