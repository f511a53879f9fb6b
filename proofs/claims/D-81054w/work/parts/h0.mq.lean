/-! THE MODEL's MACHINE: its columns against the plain machine. -/
/-- columns that may change while it runs -/
def pQc (c _i : Nat) : Bool := rg 2192 2202 c || (rg 2231 2236 c || (rg 2239 2243 c || rg 2247 2273 c))
theorem pQc_no {c i : Nat} (h : c ≤ 2192 ∨ (2202 < c ∧ c ≤ 2231) ∨ (2236 < c ∧ c ≤ 2239) ∨ (2243 < c ∧ c ≤ 2247) ∨ 2273 < c) : pQc c i = false := sorry
theorem pQc_y {c i : Nat} (h : (2192 < c ∧ c ≤ 2202) ∨ (2231 < c ∧ c ≤ 2236) ∨ (2239 < c ∧ c ≤ 2243) ∨ (2247 < c ∧ c ≤ 2273)) : pQc c i = true := sorry
theorem pQc_s (c i : Nat) (h : scM c = true) : pQc c i = false := sorry
theorem pA_Q {c i : Nat} (h : pA c i = true) : pQc c i = true := sorry
/-- the frame: but for those columns, s is σ (up to the sign that is asked) -/
def FQm (σ s : Sg) : Prop := SgE σ (mix pQc s σ)
section FQSx
variable {τ σ s t : Sg}
theorem mxI {p : Nat → Nat → Bool} {c i j : Nat} (h : p c i = false) : (mix p s σ).I c i j = s.I c i j ∧ (mix p s σ).B c i j = s.B c i j ∧ (mix p s σ).L c i j = s.L c i j ∧ (mix p s σ).R c i j = s.R c i j := sorry
theorem mxY {p : Nat → Nat → Bool} {c i j : Nat} (h : p c i = true) : (mix p s σ).I c i j = σ.I c i j ∧ (mix p s σ).B c i j = σ.B c i j ∧ (mix p s σ).L c i j = σ.L c i j ∧ (mix p s σ).R c i j = σ.R c i j := sorry
theorem FQm.refl : FQm σ σ := sorry
theorem FQm.i (h : FQm σ s) {c i j : Nat} (hc : pQc c i = false) (h5 : c = 2155 → j ≠ 7343) : s.I c i j = σ.I c i j := sorry
theorem FQm.b (h : FQm σ s) {c i j : Nat} (hc : pQc c i = false) (h5 : c ≠ 2192) : s.B c i j = σ.B c i j := sorry
theorem FQm.l (h : FQm σ s) {c i j : Nat} (hc : pQc c i = false) (h1 : c = 2151 → j ≠ 7343) (h2 : c = 2153 → j ≠ 7343) (h3 : c = 2156 → j < 29372) : s.L c i j = σ.L c i j := sorry
theorem FQm.r (h : FQm σ s) {c i j : Nat} (hc : pQc c i = false) : s.R c i j = σ.R c i j := sorry
theorem FQm.trans (h : FQm σ s) (g : FQm s t) : FQm σ t := sorry
/-- the search leaves this -/
theorem fq_ask {σ' ρ : Sg} (h : SgE s σ') : FQm s (mix pA σ' ρ) := sorry
theorem fq_fl {p : Nat → Nat → Bool} (hp : ∀ c i, p c i = true → pQc c i = true) (h : Fl p s t) : FQm s t := sorry
theorem FQm.fl (h : FQm σ s) (g : Fl pQc s t) : FQm σ t := sorry
theorem FQm.sI (h : FQm σ s) {c i j : Nat} {v : Int32} (hc : (2192 < c ∧ c ≤ 2202) ∨ (2231 < c ∧ c ≤ 2236) ∨ (2239 < c ∧ c ≤ 2243) ∨ (2247 < c ∧ c ≤ 2273)) : FQm σ (sI s c i j v) := sorry
/-- what is static is kept -/
theorem FQm.e (s σ : Sg) : s = mix pQc (mix pQc s σ) s := sorry
theorem MLk.q (h : MLk τ σ) (hF : FQm σ s) : MLk τ s := sorry
theorem MM.q {m q : Nat} (h : MM τ σ m q) (hF : FQm σ s) (hq : q < 7343) : MM τ s m q := sorry
theorem MUx.q {u u' b v : Nat} (h : MUx τ σ u u' b v) (hF : FQm σ s) : MUx τ s u u' b v := sorry
end FQSx
/-! states -/
/-- the model's state of a class -/
def stE (l k r : Int32) : Int32 := if l = 0 then 0 else if l = 2 then 8 else if l = 1 then (if k = 0 then 1 else if k = 1 then (if r = 0 then 2 else if r = 1 then 3 else if r = 2 then 4 else 7) else 6) else 5
def LSE (s : Sg) (M : MSt) : Prop := ∀ n, 2 ≤ n → n < 64 → s.I 2232 0 n = stE (M.ls.1 n) (M.lk n) (M.sr n) ∧ (∀ f, 0 < f → f ≤ 16 → M.ls.1 n = nI (100 + f) → s.I 2233 0 n = nI f) ∧ ∀ f, 0 < f → f ≤ 16 → M.ls.1 n = 1 → M.lk n = nI (100 + f) → s.I 2233 0 n = nI f
/-- where objects end -/
def ObX (τ s : Sg) (M : MSt) : Prop := (∀ (o c a : Nat), M.ob[o]? = some (c, a) → s.I 2250 0 (o + 2) = nI (a + fdN τ c)) ∧ (0 < M.ob.length → s.I 2250 0 (M.ob.length + 1) = nI M.us)
theorem ObX.cg {τ s t : Sg} {M : MSt} (h : ObX τ s M) (e : ∀ j, t.I 2250 0 j = s.I 2250 0 j) : ObX τ t M := sorry
/-- what runs -/
def MMm (τ s : Sg) (M : MSt) : Prop := (LSE s M ∧ (∀ n, n < 2 → s.I 2232 0 n = 4) ∧ s.I 2234 0 0 = 0 ∧ s.I 2236 0 0 = nI M.ls.2.length ∧ ∀ j, j < M.ls.2.length → M.ls.2[j]? = some (s.I 2235 0 j)) ∧
  (∀ k, k ∈ wKs τ 0 → ∀ j, j < nMe τ k → τ.I 1200 (33 * k + j) 0 = 0 → τ.B 1203 (33 * k + j) 0 = true → s.I 2248 0 (34 * cM k + j) = M.sv (svA τ (33 * k + j))) ∧
  (s.I 2251 0 0 = nI M.ob.length ∧ (∀ (o c a : Nat), M.ob[o]? = some (c, a) → s.I 2249 0 (o + 1) = nI (cM c) ∧ s.I 2250 0 (o + 1) = nI a) ∧ (∀ j, j < M.us → s.I 2252 0 j = M.ce j) ∧ s.I 2253 0 0 = nI M.us ∧ ObX τ s M) ∧
  (s.I 2269 0 0 = nI M.ou.length ∧ (∀ (j : Nat) (v : Int32), M.ou[j]? = some v → s.I 2268 0 j = v) ∧ s.I 2263 0 0 = nI M.sp) ∧ s.B 2192 0 0 = false
section MMS
variable {τ σ s t : Sg} {M : MSt}
/-- columns that hold what runs are kept -/
theorem MMm.eq (h : MMm τ s M) (hI : ∀ c j, (2231 < c ∧ c ≤ 2236) ∨ (2247 < c ∧ c ≤ 2253) ∨ c = 2263 ∨ c = 2268 ∨ c = 2269 → t.I c 0 j = s.I c 0 j) (hB : t.B 2192 0 0 = s.B 2192 0 0) : MMm τ t M := sorry
theorem gdQ_dec (l k r : Int32) : (gdQ (stE l k r) → l = 1 ∧ ¬ k = 0) ∧ (l = 1 → ¬ gdQ (stE l k r) → k = 0) := sorry
theorem stE_1 (k r : Int32) : stE 1 k r = 1 ∨ stE 1 k r = 2 ∨ stE 1 k r = 3 ∨ stE 1 k r = 4 ∨ stE 1 k r = 6 ∨ stE 1 k r = 7 := sorry
theorem nI100 {f : Nat} (h : 0 < f ∧ f ≤ 16) : ¬ nI (100 + f) = 0 ∧ ¬ nI (100 + f) = 1 ∧ ¬ nI (100 + f) = 2 := sorry
/-- the linker's view of a state of the machine -/
theorem MMm.lsm (h : MMm τ s M) (hL : LOK M.ls) : LSM s s 0 M.ls := sorry
/-- what is loaded grows -/
theorem LSM.mm {st : LSt} (h : LSM s t 0 st) (hM : MMm τ s M) (hl0 : ∀ j, M.lk j ≠ 0 → M.ls.1 j = 1) (hL : LOK M.ls) : LSE t (M.wLs st) ∧ (∀ n, n < 2 → t.I 2232 0 n = 4) ∧ t.I 2234 0 0 = 0 ∧ t.I 2236 0 0 = nI st.2.length ∧ ∀ j, j < st.2.length → st.2[j]? = some (t.I 2235 0 j) := sorry
end MMS
