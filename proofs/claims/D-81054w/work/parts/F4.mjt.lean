/-! Judging, the model: tools. -/
/-- a fault is laid as r says -/
def FLq {α : Type} (u : Sg) (T : Nat → Tk) (r : PR α) : Prop := match r with
  | .ok _ => u.I 2120 0 0 = nI 0
  | .error z => u.I 2120 0 0 = nI z.1 ∧ 0 < z.1 ∧ z.1 < 100 ∧ u.I 2121 0 0 = nI (T z.2).2.2.1
/-- the columns of a fault -/
def pFt (c _j : Nat) : Bool := rg 2119 2121 c
theorem pFt_no {c j : Nat} (h : c ≤ 2119 ∨ 2121 < c) : pFt c j = false := sorry
theorem bnd_u {r : PR Unit} : bnd r (fun _ => .ok ()) = r := sorry
theorem nI_xL {a b c : Nat} : (@OfNat.ofNat Int32 a _) * nI b + nI c = nI (a * b + c) := sorry
theorem nI_mL {a b : Nat} : (@OfNat.ofNat Int32 a _) * nI b = nI (a * b) := sorry
/-- the model's columns but the slot, the fault, the token at hand -/
def scJ (c : Nat) : Bool := rg 2104 2118 c || rg 2122 2192 c
theorem scJ_iff {c : Nat} (h : scJ c = true) : (2104 < c ∧ c ≤ 2118) ∨ (2122 < c ∧ c ≤ 2192) := sorry
def stJ (σ : Sg) : Sg := (fun c i j => cond (scJ c) (σ.1 c i j) 0, fun c i j => cond (scJ c) (σ.2.1 c i j) false, fun c i j => cond (scJ c) (σ.2.2.1 c i j) 0, fun c i j => cond (scJ c) (σ.2.2.2 c i j) none)
theorem stJ_FJ {p : Nat → Nat → Bool} {σ s : Sg} (hF : FJ p σ s) (h : ∀ c j, scJ c = true → p c j = false) : stJ s = stJ σ := sorry
theorem mIn_stJ {σ : Sg} {s : Nat} {nm : Int64} : mIn (stJ σ) s nm = mIn σ s nm := sorry
theorem mLp_stJ {σ : Sg} {nm : Int64} : ∀ n k, mLp (stJ σ) nm n k = mLp σ nm n k := sorry
theorem mFnd_stJ {σ : Sg} {nm : Int64} : mFnd (stJ σ) nm = mFnd σ nm := sorry
theorem MWd_stJ {τ σ : Sg} {w : Nat} {U : List Nat} : MWd τ (stJ σ) w U ↔ MWd τ σ w U := sorry
theorem MK2_stJ {τ σ : Sg} {c : Nat} : MK2 τ (stJ σ) c ↔ MK2 τ σ c := sorry
/-- the places of a class's head -/
def MK3 (τ σ : Sg) (T : Nat → Tk) (c : Nat) : Prop := (τ.B 1106 c 0 = true → σ.L 2128 0 (cM c) = tM (τ.L 1107 c 0) ∧ TyC (τ.L 1107 c 0)) ∧ (τ.B 1106 c 0 = false → σ.L 2128 0 (cM c) = 0) ∧ σ.I 2125 0 (cM c) = nI (T (tkN (τ.I 1124 c 0))).2.2.1 ∧ (τ.B 1106 c 0 = true → σ.I 2129 0 (cM c) = nI (T (tkN (τ.I 1125 c 0))).2.2.1) ∧ (∀ i, i < nFc τ c → σ.I 2131 0 (4 * cM c + i) = nI (T (tkN (τ.I 1125 c (1 + i)))).2.2.1) ∧ (¬ τ.L 1110 c 0 = 0 → σ.I 2134 0 (cM c) = nI (T (tkN (τ.I 1125 c 5))).2.2.1) ∧ (∀ i, i < nWi τ c → σ.I 2136 0 (8 * cM c + i) = nI (T (tkN (τ.I 1125 c (6 + i)))).2.2.1) ∧ ∀ i, i < nOn τ c → σ.I 2139 0 (8 * cM c + i) = nI (T (tkN (τ.I 1125 c (14 + i)))).2.2.1
theorem MK3_stJ {τ σ : Sg} {T : Nat → Tk} {c : Nat} : MK3 τ (stJ σ) T c ↔ MK3 τ σ T c := sorry
/-- while build b is judged: the model's classes U (among them all of the world's) are LinkHouse's -/
def MJ (τ σ : Sg) (b : Nat) (U : List Nat) : Prop := MWd τ σ 1 U ∧ (∀ c, c ∈ wKs τ 1 → c ∈ U) ∧ (∀ c, c ∈ U → MK2 τ σ c) ∧ σ.I 2119 0 0 = nI b ∧ b < 16 ∧ ∀ nm, TyC nm → mIn σ b (tM nm) = (jOfT τ b nm).map cM
theorem MJ.e {τ σ s : Sg} {b : Nat} {U : List Nat} (h : MJ τ σ b U) (e : stJ s = stJ σ) (e2 : s.I 2119 0 0 = σ.I 2119 0 0) : MJ τ s b U := sorry
theorem stJ_ft {σ s : Sg} (h : FJ pFt σ s) : stJ s = stJ σ := sorry
theorem MJ.ft {τ σ s : Sg} {b : Nat} {U : List Nat} (h : MJ τ σ b U) (hF : FJ pFt σ s) : MJ τ s b U := sorry
theorem MK3.ft {τ σ s : Sg} {T : Nat → Tk} {c : Nat} (h : MK3 τ σ T c) (hF : FJ pFt σ s) : MK3 τ s T c := sorry
theorem MJ.k {τ σ : Sg} {b : Nat} {U : List Nat} (h : MJ τ σ b U) {c : Nat} (hc : c ∈ U) : c < cnt 1 ∧ MK1 τ σ c ∧ MK2 τ σ c := sorry
theorem MJ.f {τ σ : Sg} {b : Nat} {U : List Nat} (h : MJ τ σ b U) {nm : Int64} {c : Nat} (hc : wFind τ 1 nm = some c) : c ∈ U := sorry
theorem jOfT_f {τ : Sg} {b : Nat} {nm : Int64} {c : Nat} (h : jOfT τ b nm = some c) : wFind τ 1 nm = some c := sorry
theorem TyC.n0 {t : Int64} (h : TyC t) : ¬ t = 0 := sorry
theorem TyC.m0 {t : Int64} (h : TyC t) : ¬ tM t = 0 := sorry
theorem TyC.inj {a b : Int64} (ha : TyC a) (hb : TyC b) : tM a = tM b ↔ a = b := sorry
section SPX
variable {l : Launch} {G : Gl} {d : Nat}
theorem sp_fault (hG : GOK G) {σ : Sg} {T : Nat → Tk} {r : PR Unit} {f t : Nat} (hd : 1 ≤ d) (hf : 0 < f ∧ f < 100) {x y : Int32} (hx : x = nI f) (hy : y = nI (T t).2.2.1) (h : FLq σ T r) : CT l G yX11_fault (ws_ yX11_fault cX11_fault 3 none) d [.ref (G.adr 11 0), .int x, .int y] σ (rV (fun u => FJ pFt σ u ∧ FLq u T (bnd r fun _ => ckP false f t))) := sorry
/-- a fault is laid, and on -/
theorem mjF (hG : GOK G) {σ : Sg} {T : Nat → Tk} {r : PR Unit} {f t : Nat} (hd : 1 ≤ d) (hf : 0 < f ∧ f < 100) {x y : Int32} (hx : x = nI f) (hy : y = nI (T t).2.2.1) (h : FLq σ T r) {K : Sg → Prop} {TT' : Nat → Sg → Prop} (hk : ∀ u, FJ pFt σ u → FLq u T (bnd r fun _ => ckP false f t) → K u) : CT l G yX11_fault (ws_ yX11_fault cX11_fault 3 none) d (.ref (G.adr 11 0) :: [.int x, .int y]) σ (oV K TT') := sorry
/-- a name in the slot that is judged -/
theorem sp_inS (hG : GOK G) {τ σ : Sg} {b : Nat} {U : List Nat} (hd : 1 ≤ d) (hM : MJ τ σ b U) {nm : Int64} (hn : TyC nm) {x : Int32} {y : Int64} (hx : x = σ.I 2119 0 0) (hy : y = tM nm) : CT l G yX11_inSlot (ws_ yX11_inSlot cX11_inSlot 5 (some .int)) d [.ref (G.adr 11 0), .int x, .long y] σ (rI (oN ((jOfT τ b nm).map cM)) (fun s => s = σ)) := sorry
/-- a name in the world that is judged -/
theorem sp_inW (hG : GOK G) {τ σ : Sg} {b : Nat} {U : List Nat} (hd : 2 ≤ d) (hM : MJ τ σ b U) {nm : Int64} (hn : TyC nm) {y : Int64} (hy : y = tM nm) : CT l G yX11_find (ws_ yX11_find cX11_find 6 (some .int)) d [.ref (G.adr 11 0), .long y] σ (rI (oN ((wFind τ 1 nm).map cM)) (fun s => s = σ)) := sorry
end SPX
