/-! System.arraycopy over the tables: a stretch of one column is laid into another, element by element. -/
def cpI (σ0 : Sg) (ca ia sp cb ib dp : Nat) : Nat → Sg
  | 0 => σ0
  | n + 1 => sI (cpI σ0 ca ia sp cb ib dp n) cb ib (dp + n) (σ0.I ca ia (sp + n))
def cpB (σ0 : Sg) (ca ia sp cb ib dp : Nat) : Nat → Sg
  | 0 => σ0
  | n + 1 => sB (cpB σ0 ca ia sp cb ib dp n) cb ib (dp + n) (σ0.B ca ia (sp + n))
def cpL (σ0 : Sg) (ca ia sp cb ib dp : Nat) : Nat → Sg
  | 0 => σ0
  | n + 1 => sL (cpL σ0 ca ia sp cb ib dp n) cb ib (dp + n) (σ0.L ca ia (sp + n))
def cpR (σ0 : Sg) (ca ia sp cb ib dp : Nat) : Nat → Sg
  | 0 => σ0
  | n + 1 => sR (cpR σ0 ca ia sp cb ib dp n) cb ib (dp + n) (σ0.R ca ia (sp + n))
theorem cpI_I (σ : Sg) (ca ia sp cb ib dp n c i j : Nat) : (cpI σ ca ia sp cb ib dp n).I c i j = if c = cb ∧ i = ib ∧ dp ≤ j ∧ j < dp + n then σ.I ca ia (sp + (j - dp)) else σ.I c i j := sorry
theorem cpB_B (σ : Sg) (ca ia sp cb ib dp n c i j : Nat) : (cpB σ ca ia sp cb ib dp n).B c i j = if c = cb ∧ i = ib ∧ dp ≤ j ∧ j < dp + n then σ.B ca ia (sp + (j - dp)) else σ.B c i j := sorry
theorem cpL_L (σ : Sg) (ca ia sp cb ib dp n c i j : Nat) : (cpL σ ca ia sp cb ib dp n).L c i j = if c = cb ∧ i = ib ∧ dp ≤ j ∧ j < dp + n then σ.L ca ia (sp + (j - dp)) else σ.L c i j := sorry
theorem cpR_R (σ : Sg) (ca ia sp cb ib dp n c i j : Nat) : (cpR σ ca ia sp cb ib dp n).R c i j = if c = cb ∧ i = ib ∧ dp ≤ j ∧ j < dp + n then σ.R ca ia (sp + (j - dp)) else σ.R c i j := sorry
theorem cpI_rest (σ : Sg) (ca ia sp cb ib dp n : Nat) : (cpI σ ca ia sp cb ib dp n).2 = σ.2 := sorry
theorem cpB_rest (σ : Sg) (ca ia sp cb ib dp n : Nat) : (cpB σ ca ia sp cb ib dp n).1 = σ.1 ∧ (cpB σ ca ia sp cb ib dp n).2.2 = σ.2.2 := sorry
theorem cpL_rest (σ : Sg) (ca ia sp cb ib dp n : Nat) : (cpL σ ca ia sp cb ib dp n).1 = σ.1 ∧ (cpL σ ca ia sp cb ib dp n).2.1 = σ.2.1 ∧ (cpL σ ca ia sp cb ib dp n).2.2.2 = σ.2.2.2 := sorry
theorem cpR_rest (σ : Sg) (ca ia sp cb ib dp n : Nat) : (cpR σ ca ia sp cb ib dp n).1 = σ.1 ∧ (cpR σ ca ia sp cb ib dp n).2.1 = σ.2.1 ∧ (cpR σ ca ia sp cb ib dp n).2.2.1 = σ.2.2.1 := sorry
theorem cpI_en (G : Gl) (σ : Sg) (ca ia sp cb ib dp n : Nat) : ∀ g k, k < cnt g → ¬ (g = ow cb ∧ k = ib) → en G (cpI σ ca ia sp cb ib dp n) g k = en G σ g k := sorry
theorem cpB_en (G : Gl) (σ : Sg) (ca ia sp cb ib dp n : Nat) : ∀ g k, k < cnt g → ¬ (g = ow cb ∧ k = ib) → en G (cpB σ ca ia sp cb ib dp n) g k = en G σ g k := sorry
theorem cpL_en (G : Gl) (σ : Sg) (ca ia sp cb ib dp n : Nat) : ∀ g k, k < cnt g → ¬ (g = ow cb ∧ k = ib) → en G (cpL σ ca ia sp cb ib dp n) g k = en G σ g k := sorry
theorem cpR_en (G : Gl) (σ : Sg) (ca ia sp cb ib dp n : Nat) : ∀ g k, k < cnt g → ¬ (g = ow cb ∧ k = ib) → en G (cpR σ ca ia sp cb ib dp n) g k = en G σ g k := sorry
theorem cpR_valid {σ : Sg} {ca ia sp cb ib dp : Nat} (ht : tgt ca = tgt cb) (n : Nat) (h : ∀ c i j k, σ.R c i j = some k → k < cnt (tgt c)) : ∀ c i j k, (cpR σ ca ia sp cb ib dp n).R c i j = some k → k < cnt (tgt c) := sorry
theorem RepH.updL {G : Gl} {σ σ' : Sg} {H H1 : Heap} {locs ll : List Loc} {f i : Nat} (hG : GOK G) (h : RepH G σ H locs) (hi : i < cnt f) (oq : ∀ q, q ≠ G.adr f i → H1[q]? = H[q]?) (ha : va_at G.D kcl (G.adr f i, en G σ' f i) H1) (hll : ∀ q ∈ ll, q.base = G.adr f i)
    (hs : ∀ g j, j < cnt g → ¬ (g = f ∧ j = i) → en G σ' g j = en G σ g j) (hv : (∀ c i j k, σ.R c i j = some k → k < cnt (tgt c)) → ∀ c i j k, σ'.R c i j = some k → k < cnt (tgt c)) : RepH G σ' H1 (locs ++ ll) := sorry
theorem nn32 (z : Int32) (hz : ¬ z < 0) : z.toInt = (z.toNatClampNeg : Int) := sorry
section WSC
variable {p : Program} {l : Launch} {e : Env} {R : Room} {s : State} {m : MethodId} {args : Array Value} {below : List Frame} {meth : Method} {c : Code} {G : Gl} {own : String} {cc : ByteArray} {nL d : Nat} {ret : Option FieldType} {Q : Outcome → Sg → Prop} {pc : Nat} {lv : List (Nat × Value)} {st : List Value} {σ : Sg}
theorem ws_cpI (C : Cx p l R s m args meth c G own cc nL ret d) {fa ia fb ib : Nat} (hia : ia < cnt fa) (hib : ib < cnt fb) {c0 c1 : ClassId} {n0 n1 : Nat} {f g : Nat → Int32} (he0 : en G σ fa ia = .inl (c0, n0, .inl f)) (he1 : en G σ fb ib = .inl (c1, n1, .inl g)) (t0 t1 : Nat) {ty : FieldType} (ht0 : (ktys G.tc)[t0]? = some (c0, ty)) (ht1 : (ktys G.tc)[t1]? = some (c1, ty))
    {sp dp n : Int32} (hprim : refKind ty = false) (hfit : ∀ i, i < n.toNatClampNeg → fits ty (.int (f (sp.toNatClampNeg + i))) = true) (h1 : ¬ sp < 0) (h2 : ¬ dp < 0) (h3 : ¬ n < 0) (h4 : sp.toNatClampNeg + n.toNatClampNeg ≤ n0) (h5 : dp.toNatClampNeg + n.toNatClampNeg ≤ n1) {index : Nat} (hlink : Cond.methodLink own index arraycopyName ∈ lw_all) (hnat : Cond.native arraycopyName ∈ lw_all) (hstat : Cond.static arraycopyName ∈ lw_all) (hini : Cond.initialized "java/lang/System" ∈ lw_all)
    (hd1 : 1 ≤ d) (hloc : (st.map fun v => v.category).sum + (nativeFrameWords "java/lang/System" "arraycopy" 5 + 11) ≤ 40 * d) (hdg : decode cc pc = .ok (.invokestatic index, 3)) {σ' : Sg} (he' : en G σ' fb ib = .inl (c1, n1, .inl (va_cpy f g sp.toNatClampNeg dp.toNatClampNeg n.toNatClampNeg))) (hs : ∀ g j, j < cnt g → ¬ (g = fb ∧ j = ib) → en G σ' g j = en G σ g j) (hv : (∀ c i j k, σ.R c i j = some k → k < cnt (tgt c)) → ∀ c i j k, σ'.R c i j = some k → k < cnt (tgt c))
    (kk : WS p l e R s m args below meth c G nL Q (pc + 3) lv st σ') : WS p l e R s m args below meth c G nL Q pc lv (.int n :: .int dp :: .ref (G.adr fb ib) :: .int sp :: .ref (G.adr fa ia) :: st) σ := sorry
theorem ws_cpL (C : Cx p l R s m args meth c G own cc nL ret d) {fa ia fb ib : Nat} (hia : ia < cnt fa) (hib : ib < cnt fb) {c0 c1 : ClassId} {n0 n1 : Nat} {f g : Nat → Int64} (he0 : en G σ fa ia = .inl (c0, n0, .inr (.inl f))) (he1 : en G σ fb ib = .inl (c1, n1, .inr (.inl g))) (t0 t1 : Nat) {ty : FieldType} (ht0 : (ktys G.tc)[t0]? = some (c0, ty)) (ht1 : (ktys G.tc)[t1]? = some (c1, ty))
    {sp dp n : Int32} (hprim : refKind ty = false) (hfit : ∀ i, i < n.toNatClampNeg → fits ty (.long (f (sp.toNatClampNeg + i))) = true) (h1 : ¬ sp < 0) (h2 : ¬ dp < 0) (h3 : ¬ n < 0) (h4 : sp.toNatClampNeg + n.toNatClampNeg ≤ n0) (h5 : dp.toNatClampNeg + n.toNatClampNeg ≤ n1) {index : Nat} (hlink : Cond.methodLink own index arraycopyName ∈ lw_all) (hnat : Cond.native arraycopyName ∈ lw_all) (hstat : Cond.static arraycopyName ∈ lw_all) (hini : Cond.initialized "java/lang/System" ∈ lw_all)
    (hd1 : 1 ≤ d) (hloc : (st.map fun v => v.category).sum + (nativeFrameWords "java/lang/System" "arraycopy" 5 + 11) ≤ 40 * d) (hdg : decode cc pc = .ok (.invokestatic index, 3)) {σ' : Sg} (he' : en G σ' fb ib = .inl (c1, n1, .inr (.inl (va_cpy f g sp.toNatClampNeg dp.toNatClampNeg n.toNatClampNeg)))) (hs : ∀ g j, j < cnt g → ¬ (g = fb ∧ j = ib) → en G σ' g j = en G σ g j) (hv : (∀ c i j k, σ.R c i j = some k → k < cnt (tgt c)) → ∀ c i j k, σ'.R c i j = some k → k < cnt (tgt c))
    (kk : WS p l e R s m args below meth c G nL Q (pc + 3) lv st σ') : WS p l e R s m args below meth c G nL Q pc lv (.int n :: .int dp :: .ref (G.adr fb ib) :: .int sp :: .ref (G.adr fa ia) :: st) σ := sorry
theorem ws_cpK (C : Cx p l R s m args meth c G own cc nL ret d) {fa ia fb ib : Nat} (hia : ia < cnt fa) (hib : ib < cnt fb) {c0 c1 : ClassId} {n0 n1 : Nat} {g : Nat → Option Nat} {ca : Nat} (htg : tgt ca = 1) (he0 : en G σ fa ia = .inl (c0, n0, .inr (.inr (.inr (.inr (fun j => (σ.R ca ia j).map (G.adr 1))))))) (he1 : en G σ fb ib = .inl (c1, n1, .inr (.inr (.inr (.inr g))))) (t0 t1 : Nat) (ht0 : (ktys G.tc)[t0]? = some (c0, .object RX1)) (ht1 : (ktys G.tc)[t1]? = some (c1, .object RX1))
    {sp dp n : Int32} (h1 : ¬ sp < 0) (h2 : ¬ dp < 0) (h3 : ¬ n < 0) (h4 : sp.toNatClampNeg + n.toNatClampNeg ≤ n0) (h5 : dp.toNatClampNeg + n.toNatClampNeg ≤ n1) {index : Nat} (hlink : Cond.methodLink own index arraycopyName ∈ lw_all) (hnat : Cond.native arraycopyName ∈ lw_all) (hstat : Cond.static arraycopyName ∈ lw_all) (hini : Cond.initialized "java/lang/System" ∈ lw_all)
    (hd1 : 1 ≤ d) (hloc : (st.map fun v => v.category).sum + (nativeFrameWords "java/lang/System" "arraycopy" 5 + 11) ≤ 40 * d) (hdg : decode cc pc = .ok (.invokestatic index, 3)) {σ' : Sg} (he' : en G σ' fb ib = .inl (c1, n1, .inr (.inr (.inr (.inr (va_cpy (fun j => (σ.R ca ia j).map (G.adr 1)) g sp.toNatClampNeg dp.toNatClampNeg n.toNatClampNeg)))))) (hs : ∀ g j, j < cnt g → ¬ (g = fb ∧ j = ib) → en G σ' g j = en G σ g j) (hv : (∀ c i j k, σ.R c i j = some k → k < cnt (tgt c)) → ∀ c i j k, σ'.R c i j = some k → k < cnt (tgt c))
    (kk : WS p l e R s m args below meth c G nL Q (pc + 3) lv st σ') : WS p l e R s m args below meth c G nL Q pc lv (.int n :: .int dp :: .ref (G.adr fb ib) :: .int sp :: .ref (G.adr fa ia) :: st) σ := sorry
theorem cpI_arr (σ : Sg) (ca ia sp cb ib dp n : Nat) : (fun j => (cpI σ ca ia sp cb ib dp n).I cb ib j) = va_cpy (fun j => σ.I ca ia j) (fun j => σ.I cb ib j) sp dp n := sorry
theorem cpB_arr (σ : Sg) (ca ia sp cb ib dp n : Nat) : (fun j => bI ((cpB σ ca ia sp cb ib dp n).B cb ib j)) = va_cpy (fun j => bI (σ.B ca ia j)) (fun j => bI (σ.B cb ib j)) sp dp n := sorry
theorem cpL_arr (σ : Sg) (ca ia sp cb ib dp n : Nat) : (fun j => (cpL σ ca ia sp cb ib dp n).L cb ib j) = va_cpy (fun j => σ.L ca ia j) (fun j => σ.L cb ib j) sp dp n := sorry
theorem cpR_arr (G : Gl) (σ : Sg) (ca ia sp cb ib dp n : Nat) : (fun j => ((cpR σ ca ia sp cb ib dp n).R cb ib j).map (G.adr 1)) = va_cpy (fun j => (σ.R ca ia j).map (G.adr 1)) (fun j => (σ.R cb ib j).map (G.adr 1)) sp dp n := sorry
theorem cpI_valid {σ : Sg} {ca ia sp cb ib dp : Nat} (n : Nat) (h : ∀ c i j k, σ.R c i j = some k → k < cnt (tgt c)) : ∀ c i j k, (cpI σ ca ia sp cb ib dp n).R c i j = some k → k < cnt (tgt c) := sorry
theorem cpB_valid {σ : Sg} {ca ia sp cb ib dp : Nat} (n : Nat) (h : ∀ c i j k, σ.R c i j = some k → k < cnt (tgt c)) : ∀ c i j k, (cpB σ ca ia sp cb ib dp n).R c i j = some k → k < cnt (tgt c) := sorry
theorem cpL_valid {σ : Sg} {ca ia sp cb ib dp : Nat} (n : Nat) (h : ∀ c i j k, σ.R c i j = some k → k < cnt (tgt c)) : ∀ c i j k, (cpL σ ca ia sp cb ib dp n).R c i j = some k → k < cnt (tgt c) := sorry
theorem nfw5 : nativeFrameWords "java/lang/System" "arraycopy" 5 ≤ 20 := sorry
theorem hloc0 (d : Nat) : (([] : List Value).map fun v => v.category).sum + (nativeFrameWords "java/lang/System" "arraycopy" 5 + 11) ≤ 40 * (d + 1) := sorry
end WSC
