/-! The model's reader: what can begin, nodes. -/
/-- what an S can begin with, what a member can -/
def cBt (x : Nat) : Bool := cBe x || (x == 123 || (x == 217 || (x == 218 || (x == 220 || (x == 221 || (x == 222 || (x == 223 || x == 225)))))))
theorem oTs.ret {σ : Sg} {T : Nat → Tk} {r : PR Nat} {P : Nat → Bool} {b : Bool} (h1 : ∀ t, r = .ok t → P (T t).1 = b) (h2 : b = true → Fld σ r) : oTs σ T r P (.returned (some (.int (bI b)))) σ := sorry
section SPX
variable {l : Launch} {G : Gl} {d : Nat} {σ : Sg} {s n w e : Nat} {B : Nat → Nat} {r : PR Nat}
theorem tk_use {P : Nat → Bool} {q kk : Nat} (hP : ∀ a, mKd a = kk ↔ a = q) (hk : kk < 6) {K : Int32 → Sg → Prop} {TT' : Nat → Sg → Prop} (hG : GOK G) (hd : 1 ≤ d) (h : PS σ s B n w e r) (k1 : (∀ t, r = .ok t → (yTok B n t).1 = q) → Fld σ r → K (nI kk) σ) (k0 : ∀ v, ¬ v = nI kk → (∀ t, r = .ok t → ¬ (yTok B n t).1 = q) → K v σ) : CT l G yX11_kindAt (ws_ yX11_kindAt cX11_kindAt 2 (some .int)) d [.ref (G.adr 11 0), .int (σ.I 2122 0 0)] σ (oI K TT') := sorry
theorem sp_X11_beginsE (hG : GOK G) (hZ : SOK G) (hd : 7 ≤ d) (h : PS σ s B n w e r) : CT l G yX11_beginsE (ws_ yX11_beginsE cX11_beginsE 1 (some .boolean)) d [.ref (G.adr 11 0)] σ (oTs σ (yTok B n) r cBe) := sorry
theorem sp_X11_beginsS (hG : GOK G) (hZ : SOK G) (hd : 8 ≤ d) (h : PS σ s B n w e r) : CT l G yX11_beginsS (ws_ yX11_beginsS cX11_beginsS 1 (some .boolean)) d [.ref (G.adr 11 0)] σ (oTs σ (yTok B n) r cBt) := sorry
theorem sp_X11_beginsMember (hG : GOK G) (hZ : SOK G) (hd : 8 ≤ d) (h : PS σ s B n w e r) : CT l G yX11_beginsMember (ws_ yX11_beginsMember cX11_beginsMember 1 (some .boolean)) d [.ref (G.adr 11 0)] σ (oTs σ (yTok B n) r cBm) := sorry
theorem sp_X11_isSignNext (hG : GOK G) (hd : 2 ≤ d) {t : Nat} (h : PS σ s B n w e (.ok t)) {q : Nat} (hq : 3 < q ∧ q < 200) {x : Int32} (hx : x = nI (mSv q)) (h0 : ¬ (yTok B n t).1 = 0) (h9 : ¬ (yTok B n t).1 = 999) : CT l G yX11_isSignNext (ws_ yX11_isSignNext cX11_isSignNext 2 (some .boolean)) d [.ref (G.adr 11 0), .int x] σ (rZ (decide (t < 700 ∧ (yTok B n (t + 1)).1 = q)) (fun st => st = σ)) := sorry
/-- a new node -/
def mkM (σ : Sg) (s e : Nat) (k pl : Int32) : Sg := sI (sI (sI (sL (sL (sI (sI (sI (sI (sI (sI (sL (sL (sL (sI (sI (sI (sI (sI σ 2169 0 s (nI (e + 1))) 2170 0 (s * 1700 + e) k) 2171 0 (s * 1700 + e) pl) 2172 0 (s * 1700 + e) pl) 2173 0 (s * 1700 + e) pl) 2174 0 (s * 1700 + e) 0) 2175 0 (s * 1700 + e) 0) 2176 0 (s * 1700 + e) 0) 2177 0 (s * 1700 + e) (-2)) 2178 0 (s * 1700 + e) (-2)) 2179 0 (s * 1700 + e) (-2)) 2180 0 (s * 1700 + e) (-2)) 2181 0 (s * 1700 + e) 0) 2182 0 (s * 1700 + e) (-2)) 2183 0 (s * 1700 + e) 0) 2184 0 (s * 1700 + e) 0) 2185 0 (s * 1700 + e) 0) 2187 0 (s * 1700 + e) (-2)) 2188 0 (s * 1700 + e) (-2)
theorem sp_X11_node (hG : GOK G) (hd : 1 ≤ d) (h : PS σ s B n w e r) (he : e < 1700) {x y : Int32} : CT l G yX11_node (ws_ yX11_node cX11_node 4 (some .int)) d [.ref (G.adr 11 0), .int x, .int y] σ (rI (nI (s * 1700 + e)) (fun st => st = mkM σ s e x y)) := sorry
/-- the columns of nodes, from node e0 of slot s on; how many -/
def pNd (s e0 c j : Nat) : Bool := (Nat.beq c 2169 && Nat.beq j s) || (rg 2169 2188 c && (Nat.ble (s * 1700 + e0) j && Nat.ble (j + 1) (s * 1700 + 1700)))
theorem pNd_iff {s e0 c j : Nat} : pNd s e0 c j = true ↔ (c = 2169 ∧ j = s) ∨ (2169 < c ∧ c ≤ 2188 ∧ s * 1700 + e0 ≤ j ∧ j < s * 1700 + 1700) := sorry
theorem mkM_fj {e0 : Nat} {x y : Int32} (he : e < 1700) (h0 : e0 ≤ e) : FJ (pNd s e0) σ (mkM σ s e x y) := sorry
theorem PS.mk {x y : Int32} (h : PS σ s B n w e r) (he : e < 1700) : PS (mkM σ s e x y) s B n w (e + 1) r := sorry
end SPX
