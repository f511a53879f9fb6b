/-! LinkHouse reads members and classes: frames, steps, row, params. -/
theorem Fl.r {p : Nat → Nat → Bool} {a s : Sg} (h : Fl p a s) {c i j : Nat} (hc : p c i = false) : s.R c i j = a.R c i j := sorry
theorem Fl.b {p : Nat → Nat → Bool} {a s : Sg} (h : Fl p a s) {c i j : Nat} (hc : p c i = false) : s.B c i j = a.B c i j := sorry
/-- the columns of the classes and members of build b -/
def pKM (b c i : Nat) : Bool := (rg 1099 1128 c && (Nat.ble (12 * b) i && Nat.ble (i + 1) (12 * b + 12))) || ((rg 1199 1222 c && (Nat.ble (396 * b) i && Nat.ble (i + 1) (396 * b + 396))) || (Nat.beq c 2007 && Nat.beq i b))
def pCL (b c i : Nat) : Bool := pT b c i || pKM b c i
theorem pT_pCL {b : Nat} : ∀ c i, pT b c i = true → pCL b c i = true := sorry
theorem pKM_pCL {b : Nat} : ∀ c i, pKM b c i = true → pCL b c i = true := sorry
theorem pU_pCL {b : Nat} : ∀ c i, pU b c i = true → pCL b c i = true := sorry
theorem pR_pCL {b : Nat} : ∀ c i, pR b c i = true → pCL b c i = true := sorry
theorem pKM_k {b c i : Nat} (hc : 1099 < c ∧ c ≤ 1128) (hi : 12 * b ≤ i ∧ i < 12 * b + 12) : pKM b c i = true := sorry
theorem pKM_m {b c i : Nat} (hc : 1199 < c ∧ c ≤ 1222) (hi : 396 * b ≤ i ∧ i < 396 * b + 396) : pKM b c i = true := sorry
theorem LT.km {σ s : Sg} {b n t w m r : Nat} {B : Nat → Nat} (hF : Fl (pKM b) σ s) (h : LT σ b B n t w m r) : LT s b B n t w m r := sorry
theorem Pn.km {σ s : Sg} {b : Nat} (hF : Fl (pKM b) σ s) (h : Pn σ) : Pn s := sorry
theorem NdS.km {σ s : Sg} {b j : Nat} (h : Fl (pKM b) σ s) : NdS σ s j := sorry
def oTk (G : Gl) (b : Nat) (σ : Sg) (f e : Nat) (o : Outcome) (st : Sg) : Prop := o = .threw (G.adr 4 0) ∧ Fl (pCL b) σ st ∧ st.I 1406 0 0 = nI f ∧ st.I 1407 0 0 = nI e
def oC {α : Type} (G : Gl) (b : Nat) (T : Nat → Tk) (σ : Sg) (r : PR α) (K : α → Outcome → Sg → Prop) (o : Outcome) (s : Sg) : Prop := match r with
  | .error e => oTk G b σ e.1 (T e.2).2.2.1 o s
  | .ok a => K a o s
section SPX
variable {l : Launch} {G : Gl} {d : Nat} {σ : Sg} {α β : Type}
theorem oTk.up {b f e : Nat} {σ1 : Sg} {o : Outcome} {s : Sg} (hF : Fl (pCL b) σ σ1) (h : oTk G b σ1 f e o s) : oTk G b σ f e o s := sorry
section STEP
variable {y : MethodName} {ws : List Cond} {av : List Value} {b : Nat} {T : Nat → Tk} {σ1 : Sg} {r : PR α} {k : α → PR β} {K0 : β → Outcome → Sg → Prop} {Q : Outcome → Sg → Prop}
theorem oP_c {K : α → Outcome → Sg → Prop} (h : CT l G y ws d av σ1 (oP G b T σ1 r K)) : CT l G y ws d av σ1 (oC G b T σ1 r K) := sorry
theorem scI {P : α → Int32 → Sg → Prop} {K' : Int32 → Sg → Prop} (h : CT l G y ws d av σ1 (oC G b T σ1 r (fun a o s => ∃ v, o = .returned (some (.int v)) ∧ P a v s))) (hF : Fl (pCL b) σ σ1) (hQ : oC G b T σ (bnd r k) K0 = Q) (hk : ∀ a v s, r = .ok a → oC G b T σ (k a) K0 = Q → P a v s → K' v s) : CT l G y ws d av σ1 (oI K' (fun x s => Q (.threw x) s)) := sorry
theorem scZ {P : α → Bool → Sg → Prop} {K' : Bool → Sg → Prop} (h : CT l G y ws d av σ1 (oC G b T σ1 r (fun a o s => ∃ v : Bool, o = .returned (some (.int (bI v))) ∧ P a v s))) (hF : Fl (pCL b) σ σ1) (hQ : oC G b T σ (bnd r k) K0 = Q) (hk : ∀ a v s, r = .ok a → oC G b T σ (k a) K0 = Q → P a v s → K' v s) : CT l G y ws d av σ1 (oZ K' (fun x s => Q (.threw x) s)) := sorry
theorem scV {P : α → Sg → Prop} {K' : Sg → Prop} (h : CT l G y ws d av σ1 (oC G b T σ1 r (fun a o s => o = .returned none ∧ P a s))) (hF : Fl (pCL b) σ σ1) (hQ : oC G b T σ (bnd r k) K0 = Q) (hk : ∀ a s, r = .ok a → oC G b T σ (k a) K0 = Q → P a s → K' s) : CT l G y ws d av σ1 (oV K' (fun x s => Q (.threw x) s)) := sorry
end STEP
/-- refused at a token that is read -/
theorem scRf {b n r j f : Nat} {B : Nat → Nat} {σ1 : Sg} {Q : Outcome → Sg → Prop} {K0 : β → Outcome → Sg → Prop} (hG : GOK G) (hd : 2 ≤ d) (hL : LRd σ1 b B n r) (hj : j < r) (hr : r ≤ 702) (hf : f < 100) {x y : Int32} (hx : x = nI f) (hy : y = nI j) (hF : Fl (pCL b) σ σ1) (hQ : oC G b (yTok B n) σ (.error (f, j)) K0 = Q) : CT l G yX5_refuse (ws_ yX5_refuse cX5_refuse 3 (some (.object "java/lang/RuntimeException"))) d (.ref (G.adr 5 0) :: [.int x, .int y]) σ1 (oR G 4 (fun v σ' => ∃ k : Nat, v = some k ∧ (k < cnt 4 → Q (.threw (G.adr 4 k)) σ')) (fun x s => Q (.threw x) s)) := sorry
theorem sp_X5_typeOf (hG : GOK G) (hd : 1 ≤ d) {b n r j : Nat} {B : Nat → Nat} (h : LRd σ b B n r) (hj : j < r) (h7 : r ≤ 702) (hs : (yTok B n j).1 = 216 ∨ (yTok B n j).1 = 2) {x : Int32} (hx : x = nI j) : CT l G yX5_typeOf (ws_ yX5_typeOf cX5_typeOf 2 (some .long)) d [.ref (G.adr 5 0), .int x] σ (rL (lN (tyT (yTok B n) j)) (fun s => s = σ)) := sorry
theorem wb_sar6 {n : Nat} (hn : n < 2 ^ 63) : lN n >>> (((6 : Int32)).toInt64 &&& 63) = lN (n / 2 ^ 6) := sorry
theorem pkgF_le : ∀ (f n : Nat), n < 64 ^ (f + 1) → pkgF f n < 64 := sorry
theorem sp_X0_packageOf (hG : GOK G) (hd : 1 ≤ d) {n : Nat} (h2 : n < 2 ^ 60) : CT l G yX0_packageOf (ws_ yX0_packageOf cX0_packageOf 4 (some .int)) d [.long (lN n)] σ (rI (nI (pkg n)) (fun s => s = σ)) := sorry
end SPX
