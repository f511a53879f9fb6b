/-! Judging, LinkHouse: frames, steps, refusals. -/
/-- the columns that judging build b may change -/
def pJ (b c i : Nat) : Bool := (rg 1099 1128 c && (Nat.ble (12 * b) i && Nat.ble (i + 1) (12 * b + 12))) || ((rg 1199 1222 c && ((Nat.ble (396 * b) i && Nat.ble (i + 1) (396 * b + 396)) || ((Nat.ble (6402 + 1000 * b) i && Nat.ble (i + 1) (7402 + 1000 * b)) || Nat.ble 22402 i))) || ((rg 1699 1704 c && ((Nat.ble (1000 * b) i && Nat.ble (i + 1) (1000 * b + 1000)) || Nat.ble 16000 i)) || (rg 1303 1313 c || (rg 1405 1407 c || (rg 1601 1699 c || (rg 2007 2013 c && Nat.beq i b))))))
theorem pJ_w {b c i : Nat} (h : 1303 < c ∧ c ≤ 1313) : pJ b c i = true := sorry
theorem pJ_r {b c i : Nat} (h : 1405 < c ∧ c ≤ 1407) : pJ b c i = true := sorry
theorem pJ_j {b c i : Nat} (h : 1601 < c ∧ c ≤ 1699) : pJ b c i = true := sorry
theorem pJ_k {b c i : Nat} (h : 1099 < c ∧ c ≤ 1128) (hi : 12 * b ≤ i ∧ i < 12 * b + 12) : pJ b c i = true := sorry
theorem pJ_m {b c i : Nat} (h : 1199 < c ∧ c ≤ 1222) (hi : 396 * b ≤ i ∧ i < 396 * b + 396) : pJ b c i = true := sorry
theorem LRd.fJ {σ s : Sg} {b n r : Nat} {B : Nat → Nat} (hF : Fl (pJ b) σ s) (h : LRd σ b B n r) : LRd s b B n r := sorry
theorem stat_Fl {p : Nat → Nat → Bool} {σ s : Sg} (hF : Fl p σ s) (h : ∀ c i, sc c = true → p c i = false) : stat s = stat σ := sorry
theorem WOK_e {σ s : Sg} {w : Nat} (h : stat s = stat σ) (k : WOK σ w) : WOK s w := sorry
theorem Shp_e {σ s : Sg} (h : stat s = stat σ) (k : Shp σ) : Shp s := sorry
/-- refused while judging -/
def oTj (G : Gl) (b : Nat) (σ : Sg) (f e : Nat) (o : Outcome) (st : Sg) : Prop := o = .threw (G.adr 4 0) ∧ Fl (pJ b) σ st ∧ st.I 1406 0 0 = nI f ∧ st.I 1407 0 0 = nI e
def oJ {α : Type} (G : Gl) (b : Nat) (T : Nat → Tk) (σ : Sg) (r : PR α) (K : α → Outcome → Sg → Prop) (o : Outcome) (s : Sg) : Prop := match r with
  | .error e => oTj G b σ e.1 (T e.2).2.2.1 o s
  | .ok a => K a o s
/-- a check: a fault f at token t, if it fails -/
def ckP (c : Bool) (f t : Nat) : PR Unit := if c = true then .ok () else .error (f, t)
theorem ckP_t {f t : Nat} : ckP true f t = .ok () := sorry
theorem ckP_f {f t : Nat} : ckP false f t = .error (f, t) := sorry
/-- checks one behind the other: n of them from j on -/
def jFor (g : Nat → PR Unit) : Nat → Nat → PR Unit
  | 0, _ => .ok ()
  | n + 1, j => bnd (g j) fun _ => jFor g n (j + 1)
theorem jFor_cong {g h : Nat → PR Unit} : ∀ (n j : Nat), (∀ i, j ≤ i → i < j + n → g i = h i) → jFor g n j = jFor h n j := sorry
theorem nI_aL {a b : Nat} : (@OfNat.ofNat Int32 a _) + nI b = nI (a + b) := sorry
/-- a token's number in a column -/
abbrev tkN (x : Int32) : Nat := x.toNatClampNeg
section SPX
variable {l : Launch} {G : Gl} {d : Nat} {σ : Sg} {α β : Type}
theorem oTj.up {b f e : Nat} {σ1 : Sg} {o : Outcome} {s : Sg} (hF : Fl (pJ b) σ σ1) (h : oTj G b σ1 f e o s) : oTj G b σ f e o s := sorry
section STEP
variable {y : MethodName} {ws : List Cond} {av : List Value} {b : Nat} {T : Nat → Tk} {σ1 : Sg} {r : PR α} {k : α → PR β} {K0 : β → Outcome → Sg → Prop} {Q : Outcome → Sg → Prop}
theorem sjI {P : α → Int32 → Sg → Prop} {K' : Int32 → Sg → Prop} (h : CT l G y ws d av σ1 (oJ G b T σ1 r (fun a o s => ∃ v, o = .returned (some (.int v)) ∧ P a v s))) (hF : Fl (pJ b) σ σ1) (hQ : oJ G b T σ (bnd r k) K0 = Q) (hk : ∀ a v s, r = .ok a → oJ G b T σ (k a) K0 = Q → P a v s → K' v s) : CT l G y ws d av σ1 (oI K' (fun x s => Q (.threw x) s)) := sorry
theorem sjZ {P : α → Bool → Sg → Prop} {K' : Bool → Sg → Prop} (h : CT l G y ws d av σ1 (oJ G b T σ1 r (fun a o s => ∃ v : Bool, o = .returned (some (.int (bI v))) ∧ P a v s))) (hF : Fl (pJ b) σ σ1) (hQ : oJ G b T σ (bnd r k) K0 = Q) (hk : ∀ a v s, r = .ok a → oJ G b T σ (k a) K0 = Q → P a v s → K' v s) : CT l G y ws d av σ1 (oZ K' (fun x s => Q (.threw x) s)) := sorry
theorem sjV {P : α → Sg → Prop} {K' : Sg → Prop} (h : CT l G y ws d av σ1 (oJ G b T σ1 r (fun a o s => o = .returned none ∧ P a s))) (hF : Fl (pJ b) σ σ1) (hQ : oJ G b T σ (bnd r k) K0 = Q) (hk : ∀ a s, r = .ok a → oJ G b T σ (k a) K0 = Q → P a s → K' s) : CT l G y ws d av σ1 (oV K' (fun x s => Q (.threw x) s)) := sorry
theorem sjR {fam : Nat} {P : α → Option Nat → Sg → Prop} {K' : Option Nat → Sg → Prop} (h : CT l G y ws d av σ1 (oJ G b T σ1 r (fun a o s => ∃ v, o = .returned (some (rv G fam v)) ∧ (∀ k, v = some k → k < cnt fam) ∧ P a v s))) (hF : Fl (pJ b) σ σ1) (hQ : oJ G b T σ (bnd r k) K0 = Q) (hk : ∀ a v s, r = .ok a → oJ G b T σ (k a) K0 = Q → P a v s → K' v s) : CT l G y ws d av σ1 (oR G fam K' (fun x s => Q (.threw x) s)) := sorry
end STEP
theorem sp_X6_refuse (hG : GOK G) (hd : 3 ≤ d) {i b : Nat} (hi : i < cnt 6) (hb : σ.R 1502 0 0 = some b) {x y : Int32} {j : Nat} (hj : j < 702) (hy : y = nI j) : CT l G yX6_refuse (ws_ yX6_refuse cX6_refuse 3 (some (.object "java/lang/RuntimeException"))) d [.ref (G.adr 6 i), .int x, .int y] σ (rR G 4 (some 0) (fun s => s = sI (sI σ 1406 0 0 x) 1407 0 0 (σ.I 2003 b j))) := sorry
/-- refused at a token that was read -/
theorem sjRf {b n r j f : Nat} {B : Nat → Nat} {σ1 : Sg} {Q : Outcome → Sg → Prop} {K0 : β → Outcome → Sg → Prop} (hG : GOK G) (hd : 3 ≤ d) (hL : LRd σ1 b B n r) (hj : j < r) (hr : r ≤ 702) {x y : Int32} (hx : x = nI f) (hy : y = nI j) (hF : Fl (pJ b) σ σ1) (hQ : oJ G b (yTok B n) σ (.error (f, j)) K0 = Q) : CT l G yX6_refuse (ws_ yX6_refuse cX6_refuse 3 (some (.object "java/lang/RuntimeException"))) d (.ref (G.adr 6 0) :: [.int x, .int y]) σ1 (oR G 4 (fun v σ' => ∃ k : Nat, v = some k ∧ (k < cnt 4 → Q (.threw (G.adr 4 k)) σ')) (fun x s => Q (.threw x) s)) := sorry
/-- the class of a name in build b -/
def jOfT (σ : Sg) (b : Nat) (nm : Int64) : Option Nat := match wFind σ 1 nm with
  | none => none
  | some k => if σ.R 1126 k 0 = some b then some k else none
theorem jOfT_st {b : Nat} {nm : Int64} : jOfT (stat σ) b nm = jOfT σ b nm := sorry
theorem sp_X6_ofText (hG : GOK G) (hd : 2 ≤ d) {b : Nat} (hW : WOK σ 1) (h602 : σ.R 1602 0 0 = some b) (nm : Int64) : CT l G yX6_ofText (ws_ yX6_ofText cX6_ofText 4 (some (.object "LinkHouse$Kind"))) d [.ref (G.adr 6 0), .long nm] σ (rR G 1 (jOfT σ b nm) (fun s => s = σ)) := sorry
end SPX
