/-! LinkHouse: the bodies of a class; the places of its code. -/
theorem SmJ.kk {τ s : Sg} (h : SmJ τ s) {c k j : Nat} (hc : sk c = true) : s.I c k j = τ.I c k j ∧ s.B c k j = τ.B c k j ∧ s.L c k j = τ.L c k j := sorry
theorem pWs_pJ {b : Nat} : ∀ c i, pWs b c i = true → pJ b c i = true := sorry
theorem pBw_pJ {b m : Nat} (hm : 396 * b ≤ m ∧ m < 396 * b + 396) : ∀ c i, pBw b m c i = true → pJ b c i = true := sorry
/-- the judged tree of a member, the slots that it takes -/
noncomputable def jt (τ : Sg) (k m : Nat) (x : Tr) : Tr := match bdJ τ k m x with
  | .ok z => z.1
  | .error _ => .leaf
noncomputable def jn (τ : Sg) (k m : Nat) (x : Tr) : Nat := match bdJ τ k m x with
  | .ok z => if τ.I 1200 m 0 = 0 ∧ isLf x = true then bSn τ m else z.2.2
  | .error _ => 0
theorem jt_ok {τ : Sg} {k m : Nat} {x : Tr} {z : Tr × Lcs × Nat} (h : bdJ τ k m x = .ok z) : jt τ k m x = z.1 ∧ jn τ k m x = if τ.I 1200 m 0 = 0 ∧ isLf x = true then bSn τ m else z.2.2 := sorry
/-- code, catches, locals of any member; x its judged tree -/
noncomputable def cdX (τ : Sg) (k m t : Nat) (x : Tr) (p : Nat) (ix : Us → Int32) : List Int32 := if τ.B 1206 m 0 = true then cdB τ k m t ix else cdM τ k m x p ix
noncomputable def hdX (τ : Sg) (k m : Nat) (x : Tr) (p : Nat) (ix : Us → Int32) : List Ctc := if τ.B 1206 m 0 = true then [] else hdM τ k m x p ix
noncomputable def clX (τ : Sg) (k m t : Nat) (x : Tr) (p : Nat) : Nat := if τ.B 1206 m 0 = true then (cdB τ k m t fun _ => 0).length else cdL τ k m x p
def hsX (τ : Sg) (m : Nat) (x : Tr) : Bool := τ.B 1206 m 0 || hsC τ m x
/-- where the code and the catches of the j-th member begin -/
noncomputable def psM (τ : Sg) (k : Nat) (tg : Nat → Nat) (tr : Nat → Tr) (p0 : Nat) : Nat → Nat
  | 0 => p0
  | j + 1 => psM τ k tg tr p0 j + (cdX τ k (33 * k + j) (tg j) (tr j) (psM τ k tg tr p0 j) fun _ => 0).length
noncomputable def qsM (τ : Sg) (k : Nat) (tg : Nat → Nat) (tr : Nat → Tr) (p0 q0 : Nat) : Nat → Nat
  | 0 => q0
  | j + 1 => qsM τ k tg tr p0 q0 j + (hdX τ k (33 * k + j) (tr j) (psM τ k tg tr p0 j) fun _ => 0).length
/-- the uses of the class before its j-th member -/
noncomputable def usM (τ : Sg) (k : Nat) (tg : Nat → Nat) (tr : Nat → Tr) : Nat → List Us
  | 0 => (if τ.B 1106 k 0 = true then [uC k 18 (τ.L 1107 k 0)] else []) ++ ndFc τ k (nFc τ k) 0
  | j + 1 => usM τ k tg tr j ++ ndM τ k (33 * k + j) (tg j) (tr j)
theorem usM_ndMs {τ : Sg} {k : Nat} {tg : Nat → Nat} {tr : Nat → Tr} : ∀ (n j : Nat), usM τ k tg tr j ++ ndMs τ k tg tr n j = usM τ k tg tr (j + n) := sorry
theorem usM_ndK {τ : Sg} {k : Nat} {tg : Nat → Nat} {tr : Nat → Tr} : usM τ k tg tr (nMe τ k) = ndK τ k tg tr := sorry
/-- member m of class k is done: its code and catches lie there -/
def DnB (τ s : Sg) (b k n0 m t : Nat) (x : Tr) (p q ln : Nat) (U : List Us) : Prop := s.I 1219 m 0 = (if hsX τ m x = true then nI p else -2) ∧ s.I 1220 m 0 = nI ln ∧ (∀ ix, (cdX τ k m t x p ix).length = (cdX τ k m t x p fun _ => 0).length) ∧ ∀ UF, Pre U UF → CdA s b p (cdX τ k m t x p (ixF UF n0)) ∧ HdA s b q (hdX τ k m x p (ixF UF n0))
theorem DnB.mv {τ s u : Sg} {b k n0 m t p q ln P Q : Nat} {x : Tr} {U U' : List Us} (h : DnB τ s b k n0 m t x p q ln U) (hU : Pre U U') (h19 : u.I 1219 m 0 = s.I 1219 m 0) (h20 : u.I 1220 m 0 = s.I 1220 m 0) (hc : ∀ j, j < P → u.I 2010 b j = s.I 2010 b j) (hq : ∀ j, j < 4 * Q → u.I 2012 b j = s.I 2012 b j) (hP : p + (cdX τ k m t x p fun _ => 0).length ≤ P) (hQ : q + (hdX τ k m x p fun _ => 0).length ≤ Q) (hql : ∀ ix, (hdX τ k m x p ix).length = (hdX τ k m x p fun _ => 0).length) : DnB τ u b k n0 m t x p q ln U' := sorry
/-- what does not hang on the state, of a member whose body is to be judged and written -/
def LBs (τ : Sg) (k m : Nat) (r L : Nat) (x : Tr) (a e : Nat) : Prop := LivU τ (wKs τ 1) m ∧ (L ≤ r ∧ e ≤ 700 ∧ PmW τ m r) ∧ (whl x ∧ ht x ≤ 365) ∧ ((τ.I 1200 m 0 = 0 → x = .leaf ∨ ∃ w, wt x 0 w a e) ∧ (¬ τ.I 1200 m 0 = 0 → x = .leaf ∨ (kdO x = 30 ∧ ∃ w, wt x 2 w a e)) ∧ (τ.I 1200 m 0 = 3 → ¬ x = .leaf)) ∧ ((τ.I 1200 m 0 = 0 ∨ τ.I 1200 m 0 = 1 ∨ τ.I 1200 m 0 = 2 ∨ τ.I 1200 m 0 = 3) ∧ (τ.I 1200 m 0 = 2 → ∃ pp, wPar τ 1 k = some pp) ∧ (τ.B 1212 m 0 = true → τ.I 1200 m 0 = 0)) ∧ (τ.I 1214 m 0 = -2 ∨ (τ.I 1214 m 0 = nI (tkN (τ.I 1214 m 0)) ∧ tkN (τ.I 1214 m 0) < r)) ∧ (τ.I 1124 k 0 = nI (tkN (τ.I 1124 k 0)) ∧ tkN (τ.I 1124 k 0) < r) ∧ (¬ τ.I 1200 m 0 = 2 → τ.I 1200 m 0 = 1 → ¬ τ.I 1214 m 0 = -2) ∧ (τ.I 1200 m 0 = 3 → nPa τ m = 0)
/-- .. of a bridge -/
def LBb (τ : Sg) (k m t : Nat) : Prop := LivU τ (wKs τ 1) m ∧ ∃ j0, brT τ k m = some j0 ∧ t = 33 * k + j0 ∧ LivU τ (wKs τ 1) t ∧ τ.I 1200 t 0 = 1 ∧ (τ.L 1207 t 0 = τ.L 1207 m 0 ∨ τ.L 1207 t 0 = 2 ∨ (TyC (τ.L 1207 t 0) ∧ TyC (τ.L 1207 m 0)))
section SPX
variable {l : Launch} {G : Gl} {d : Nat} {τ σ : Sg} {b k n0 p q m n r L a e : Nat} {U : List Us} {B : Nat → Nat} {x : Tr}
/-- a member that is no bridge -/
theorem lb_any (hG : GOK G) (hd : 1700 ≤ d) (hB : BW τ σ b k n0 p q U B n r) (hS : LBs τ k m r L x a e) (hbr : τ.B 1206 m 0 = false) (h4 : σ.R 1604 0 0 = some m) (h5 : σ.B 1605 0 0 = bSt τ m) (hlc : LcS σ []) (h14 : σ.I 1614 0 0 = nI (bSn τ m)) (h19 : σ.I 1219 m 0 = -2) (hT : LTr σ (yTok B n) L x 0 1410 (τ.I 1218 m 0)) (h1 : (addL U (ndM τ k m 0 (jt τ k m x))).length ≤ 1000) (h2 : p + cdL τ k m (jt τ k m x) p ≤ 6000) (h3 : q + (hdM τ k m (jt τ k m x) p fun _ => 0).length ≤ 100) : CT l G yX6_body (ws_ yX6_body cX6_body 2 none) d [.ref (G.adr 6 0)] σ (oJ G b (yTok B n) σ (bdJ τ k m x) (fun z o s => o = .returned none ∧ RBd τ σ s b k n0 p q m U (ndM τ k m 0 (jt τ k m x)) (jt τ k m x) (jn τ k m x))) := sorry
end SPX
