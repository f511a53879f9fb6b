/-! THE MODEL's MACHINE: states, results; a use is asked. -/
/-- the number of a use in the model -/
def muA (τ : Sg) (k u : Nat) : Nat := 1800 * kB τ k + ((τ.I 1119 k 0).toNatClampNeg + u)
/-- face stamps -/
def FSv (σ s : Sg) (M : MSt) : Prop := ∃ n, s.I 2271 0 0 = nI n ∧ n + (zl M.sr).length ≤ (σ.I 2271 0 1).toNatClampNeg ∧ ∀ f, f < 216 → ∃ m, m ≤ n ∧ s.I 2270 0 f = nI m
/-- a state: what runs, the level, stop, tops of cells, tasks, faces -/
def MQst (τ σ : Sg) (M : MSt) (a : Nat) (st : Int32) (ct tt ft : Nat) (s : Sg) : Prop := FQm σ s ∧ (MMm τ s M ∧ SIv s ∧ FSv σ s M) ∧ (s.I 2262 0 0 = nI a ∧ s.I 2264 0 0 = st ∧ s.I 2255 0 0 = nI ct ∧ s.I 2261 0 0 = nI tt ∧ s.I 2273 0 0 = nI ft)
/-- faces that were seen are so still, or by a later stamp -/
def FsK (s t : Sg) : Prop := s.I 2271 0 0 ≤ t.I 2271 0 0 ∧ (∀ f, t.I 2270 0 f = s.I 2270 0 f ∨ s.I 2271 0 0 < t.I 2270 0 f) ∧ t.I 2267 0 0 = s.I 2267 0 0
theorem FsK.refl {s : Sg} : FsK s s := sorry
theorem FsK.trans {s t u : Sg} (h : FsK s t) (g : FsK t u) : FsK s u := sorry
theorem FsK.eq {s t u : Sg} (h : FsK s t) (h1 : u.I 2271 0 0 = t.I 2271 0 0) (h0 : ∀ f, u.I 2270 0 f = t.I 2270 0 f) (h2 : u.I 2267 0 0 = t.I 2267 0 0 := by repeat rw [sI_c (by omega)]) : FsK s u := sorry
/-- what lies below the tops is kept -/
def Kp (ct tt ft : Nat) (s t : Sg) : Prop := (∀ j, j < ct → t.I 2254 0 j = s.I 2254 0 j) ∧ (∀ c j, 2255 < c → c ≤ 2260 → j < tt → t.I c 0 j = s.I c 0 j) ∧ (∀ j, j < ft → t.I 2272 0 j = s.I 2272 0 j) ∧ FsK s t
/-- rows that are not touched by a search -/
def KpA (s t : Sg) : Prop := ∀ c j, 2247 < c → c ≤ 2273 → c ≠ 2264 → c ≠ 2265 → t.I c 0 j = s.I c 0 j
/-- stop, by a result -/
def stc {α : Type} (r : Rz α) : Int32 := match r.2 with
  | .ok _ => 0
  | .error x => if x.1 = true then 2 else 3
/-- a result in a state -/
def RQm (τ σ : Sg) {α : Type} (r : Rz α) (a ct tt ft : Nat) (t : Sg) : Prop := MQst τ σ r.1 a (stc r) ct tt ft t ∧ ∀ x, r.2 = .error x → (x.1 = true → t.I 2266 0 0 = x.2) ∧ (x.1 = false → t.I 2265 0 0 = x.2)
/-- a method that gives a value; none -/
def oQ (τ σ : Sg) (r : Rz Int32) (a ct tt ft : Nat) (s : Sg) (o : Outcome) (t : Sg) : Prop := ∃ v, o = .returned (some (.int v)) ∧ (∀ w, r.2 = .ok w → v = w) ∧ RQm τ σ r a ct tt ft t ∧ Kp ct tt ft s t
def oQv (τ σ : Sg) (r : Rz Unit) (a ct tt ft : Nat) (s : Sg) (o : Outcome) (t : Sg) : Prop := o = .returned none ∧ RQm τ σ r a ct tt ft t ∧ Kp ct tt ft s t
/-- what is known of the model's tables -/
def WQ (τ σ : Sg) (P : Pg) : Prop := (MLk τ σ ∧ MFB τ ∧ OvU τ σ 0 ∧ WMa τ P) ∧ (∀ k, k ∈ wKs τ 0 → ¬ τ.I 1101 k 0 = 26 → ∀ u, u < nUk τ k → ∃ v, MUx τ σ (uAt τ k u) (muA τ k u) k v) ∧ (σ.I 2271 0 1).toNatClampNeg < 2 ^ 30
section ASK
variable {l : Launch} {G : Gl} {d : Nat} {τ σ s t : Sg} {P : Pg} {M : MSt} {a ct tt ft k u : Nat}
theorem Kp.refl : Kp ct tt ft s s := sorry
theorem Kp.trans {r : Sg} (h : Kp ct tt ft s t) (g : Kp ct tt ft t r) : Kp ct tt ft s r := sorry
theorem Kp.mono {ct' tt' ft' : Nat} (h : Kp ct tt ft s t) (h1 : ct' ≤ ct) (h2 : tt' ≤ tt) (h3 : ft' ≤ ft) : Kp ct' tt' ft' s t := sorry
theorem KpA.kp (h : KpA s t) : Kp ct tt ft s t := sorry
theorem KpA.trans {r : Sg} (h : KpA s t) (g : KpA t r) : KpA s r := sorry
theorem KpA.refl : KpA s s := sorry
theorem CT.useQ {y : MethodName} {ws : List Cond} {av : List Value} {r : Rz Int32} {T : Nat → Sg → Prop} {K : Int32 → Sg → Prop} (h : CT l G y ws d av s (oQ τ σ r a ct tt ft s)) (hk : ∀ v t, (∀ w, r.2 = .ok w → v = w) → RQm τ σ r a ct tt ft t → Kp ct tt ft s t → K v t) : CT l G y ws d av s (oI K T) := sorry
theorem CT.useW {y : MethodName} {ws : List Cond} {av : List Value} {r : Rz Unit} {T : Nat → Sg → Prop} {K : Sg → Prop} (h : CT l G y ws d av s (oQv τ σ r a ct tt ft s)) (hk : ∀ t, RQm τ σ r a ct tt ft t → Kp ct tt ft s t → K t) : CT l G y ws d av s (oV K T) := sorry
/-- a column besides what runs changes -/
theorem MQst.put {st : Int32} {c j : Nat} {v : Int32} (h : MQst τ σ M a st ct tt ft s) (hc : (2253 < c ∧ c ≤ 2262) ∨ (2263 < c ∧ c ≤ 2267) ∨ c = 2272 ∨ c = 2273) : (FQm σ (sI s c 0 j v) ∧ MMm τ (sI s c 0 j v) M ∧ SIv (sI s c 0 j v) ∧ FSv σ (sI s c 0 j v) M) := sorry
theorem MQst.stop {st v : Int32} (h : MQst τ σ M a st ct tt ft s) : MQst τ σ M a v ct tt ft (sI s 2264 0 0 v) := sorry
theorem MQst.oth {st : Int32} {c j : Nat} {v : Int32} (h : MQst τ σ M a st ct tt ft s) (hc : c = 2254 ∨ (2255 < c ∧ c ≤ 2260) ∨ (2264 < c ∧ c ≤ 2267) ∨ c = 2272) : MQst τ σ M a st ct tt ft (sI s c 0 j v) := sorry
theorem MQst.ct' {st x : Int32} {ct' : Nat} (h : MQst τ σ M a st ct tt ft s) (hx : x = nI ct') : MQst τ σ M a st ct' tt ft (sI s 2255 0 0 x) := sorry
theorem MQst.tt' {st x : Int32} {tt' : Nat} (h : MQst τ σ M a st ct tt ft s) (hx : x = nI tt') : MQst τ σ M a st ct tt' ft (sI s 2261 0 0 x) := sorry
theorem MQst.lv' {st x : Int32} {a' : Nat} (h : MQst τ σ M a st ct tt ft s) (hx : x = nI a') : MQst τ σ M a' st ct tt ft (sI s 2262 0 0 x) := sorry
theorem MQst.ft' {st x : Int32} {ft' : Nat} (h : MQst τ σ M a st ct tt ft s) (hx : x = nI ft') : MQst τ σ M a st ct tt ft' (sI s 2273 0 0 x) := sorry
/-- it fails -/
theorem sp_fail (hG : GOK G) (hd : 1 ≤ d) {f st : Int32} (h : MQst τ σ M a st ct tt ft s) : CT l G yX11_fail (ws_ yX11_fail cX11_fail 2 (some .int)) d [.ref (G.adr 11 0), .int f] s (rI 0 (fun t => MQst τ σ M a 3 ct tt ft t ∧ t.I 2265 0 0 = f ∧ KpA s t)) := sorry
/-- .. as a result -/
theorem RQm.f {α : Type} {f : Int32} (h : MQst τ σ M a 3 ct tt ft t) (h2 : t.I 2265 0 0 = f) : RQm τ σ (rzf M f : Rz α) a ct tt ft t := sorry
theorem RQm.g {α : Type} {x : α} (h : MQst τ σ M a 0 ct tt ft t) : RQm τ σ (rzk M x : Rz α) a ct tt ft t := sorry
theorem MQst.ot {st : Int32} (h : MQst τ σ M a st ct tt ft s) (hI : ∀ c j, 2231 < c → c ≤ 2236 → t.I c 0 j = s.I c 0 j) (hF : FQm s t) (hS : SIv t) (hK : KpA s t) (h64 : t.I 2264 0 0 = s.I 2264 0 0) (hB : t.B 2192 0 0 = s.B 2192 0 0) : MQst τ σ M a st ct tt ft t := sorry
/-- what is loaded has changed -/
theorem MQst.ld {st : Int32} {ls : LSt} (h : MQst τ σ M a st ct tt ft s) (hI : MInv τ M) (hL : LSM s t 0 ls) (hF : FQm s t) (hS : SIv t) (hK : KpA s t) (h64 : t.I 2264 0 0 = s.I 2264 0 0) (hB : t.B 2192 0 0 = s.B 2192 0 0) : MQst τ σ (M.wLs ls) a st ct tt ft t := sorry
theorem MInv.evb (hI : MInv τ M) : EVB 0 M.ls := sorry
theorem kpa_A {σ' ρ : Sg} (h : SgE s σ') : KpA s (mix pA σ' ρ) := sorry
/-- a use is asked -/
theorem sp_asks (hG : GOK G) (hd : 144 ≤ d) (hW : WQ τ σ P) (hI : MInv τ M) (hk : k ∈ wKs τ 0) (nb : ¬ τ.I 1101 k 0 = 26) (hu : u < nUk τ k) (h : MQst τ σ M a 0 ct tt ft s) : CT l G yX11_asks (ws_ yX11_asks cX11_asks 3 (some .boolean)) d [.ref (G.adr 11 0), .int (nI (muA τ k u))] s (rZ (decide ((rsR τ (uAt τ k u) k M.ls).1 = 0)) (fun t => KpA s t ∧ ((rsR τ (uAt τ k u) k M.ls).1 = 0 → MQst τ σ (M.wLs (rsR τ (uAt τ k u) k M.ls).2.1) a 0 ct tt ft t ∧ t.I 2240 0 0 = oN ((mtN τ (uAt τ k u) (rsR τ (uAt τ k u) k M.ls)).map mM)) ∧ (¬ (rsR τ (uAt τ k u) k M.ls).1 = 0 → MQst τ σ (M.wLs (rsR τ (uAt τ k u) k M.ls).2.1) a 3 ct tt ft t ∧ t.I 2265 0 0 = (rsR τ (uAt τ k u) k M.ls).1))) := sorry
end ASK
