/-! THE MODEL's MACHINE: objects, their fields. -/
/-- fields of objects among the first j members -/
def cnF (τ : Sg) (k : Nat) : Nat → Nat
  | 0 => 0
  | j + 1 => cnF τ k j + (if τ.I 1200 (33 * k + j) 0 = 0 ∧ τ.B 1203 (33 * k + j) 0 = false then 1 else 0)
theorem cnF_le {τ : Sg} {k : Nat} : ∀ j, cnF τ k j ≤ j := sorry
/-- places of fields are reckoned so -/
def FdQ (τ : Sg) : Prop := ∀ k, k ∈ wKs τ 0 → τ.I 1123 k 0 = nI (cnF τ k (nMe τ k)) ∧ ∀ j, j < nMe τ k → τ.I 1200 (33 * k + j) 0 = 0 → τ.B 1203 (33 * k + j) 0 = false → τ.I 1221 (33 * k + j) 0 = nI (cnF τ k j)
section OBJ
variable {l : Launch} {G : Gl} {d : Nat} {τ σ s t : Sg} {P : Pg} {M : MSt} {a ct tt ft k u : Nat} {Q : Outcome → Sg → Prop}
theorem nI_ixL {x y : Nat} : nI x * 34 + nI y = nI (34 * x + y) := sorry
theorem WQ.km (hW : WQ τ σ P) (h : FQm σ s) (hk : k ∈ wKs τ 0) : s.I 2141 0 (cM k) = nI (nMe τ k) ∧ nMe τ k ≤ 33 ∧ ∀ j, j < nMe τ k → s.I 2142 0 (34 * cM k + j) = τ.I 1200 (33 * k + j) 0 ∧ s.B 2145 0 (34 * cM k + j) = τ.B 1203 (33 * k + j) 0 := sorry
theorem WQ.up (hG : GOK G) (hd : 3 ≤ d) (hW : WQ τ σ P) (h : FQm σ s) (hk : k ∈ wKs τ 0) : CT l G yX11_parent (ws_ yX11_parent cX11_parent 2 (some .int)) d [.ref (G.adr 11 0), .int (nI (cM k))] s (rI (oN ((wPar τ 0 k).map cM)) (fun t => t = s)) := sorry
/-- members' fields are counted -/
theorem fo_13 (hW : WQ τ σ P) (h : FQm σ s) (hk : k ∈ wKs τ 0) {x1 : Int32} {K4 : Int32 → Int32 → Sg → Prop} {y : Nat} (H : CT l G yX11_parent (ws_ yX11_parent cX11_parent 2 (some .int)) d [.ref (G.adr 11 0), .int (nI (cM k))] s (oI (fun v t => K4 (nI (y + cnF τ k (nMe τ k))) v t) (fun x σ => Q (.threw x) σ))) : ∀ (n j : Nat), j + n = nMe τ k → wq_X11_fieldsOf_13 l G d 0 x1 Q K4 (n + 1) (nI (y + cnF τ k j)) (nI (cM k)) (nI j) s := sorry
theorem fo_4m (hG : GOK G) (hd : 3 ≤ d) (hW : WQ τ σ P) (hFd : FdQ τ) (h : FQm σ s) {x1 : Int32} {y : Int32} (hQ : Q (.returned (some (.int y))) s) : ∀ (L : List Nat) (c : Option Nat) (x : Nat), IsUp τ c L → (∀ k, k ∈ L → k ∈ wKs τ 0) → y = nI (x + fdS τ L) → wq_X11_fieldsOf_4 l G d 0 x1 Q (L.length + 1) (nI x) (oN (c.map cM)) s := sorry
/-- fields of objects of a class -/
theorem sp_fieldsOf (hG : GOK G) (hd : 4 ≤ d) (hW : WQ τ σ P) (hFd : FdQ τ) (h : FQm σ s) {st : LSt} (hC : LCL τ st) (hk : Ldd τ st k) : CT l G yX11_fieldsOf (ws_ yX11_fieldsOf cX11_fieldsOf 5 (some .int)) d [.ref (G.adr 11 0), .int (nI (cM k))] s (rI (nI (fdN τ k)) (fun t => t = s)) := sorry
/-- whether an object is one of a class -/
theorem sp_isMade (hG : GOK G) (hd : 5 ≤ d) (hW : WQ τ σ P) (hI : MInv τ M) {st v : Int32} {i kk a' c : Nat} (h : MQst τ σ M a st ct tt ft s) (e1 : v = nI (i + 1)) (e2 : M.ob[i]? = some (kk, a')) (hc : c ∈ wKs τ 0) : CT l G yX11_isMade (ws_ yX11_isMade cX11_isMade 3 (some .boolean)) d [.ref (G.adr 11 0), .int v, .int (nI (cM c))] s (rZ (isOfB τ M v c) (fun t => MQst τ σ M a st ct tt ft t ∧ KpA s t)) := sorry
/-- earlier fields of the class are counted -/
theorem co_61 (hW : WQ τ σ P) (h : FQm σ s) (hk : k ∈ wKs τ 0) {i j y : Nat} (hi : i < 200) (hj : j < nMe τ k) {x1 : Int32} (ex : x1 = nI (i + 1)) (hQ : Q (.returned (some (.int (s.I 2250 0 (i + 1) + nI (y + cnF τ k j))))) s) : ∀ (n j' : Nat), j' + n = j → wq_X11_cellOf_61 l G d 0 x1 (nI (34 * cM k + j)) Q (n + 1) (nI (cM k)) (nI (y + cnF τ k j')) (nI j') s := sorry
/-- where a field of an object lies -/
theorem sp_cellOf (hG : GOK G) (hd : 6 ≤ d) (hW : WQ τ σ P) (hFd : FdQ τ) (hI : MInv τ M) {st v : Int32} {i kk a' d' j : Nat} (h : MQst τ σ M a st ct tt ft s) (e1 : v = nI (i + 1)) (e2 : M.ob[i]? = some (kk, a')) (hd' : d' ∈ wUps τ kk) (hj : j < nMe τ d') (h0 : τ.I 1200 (33 * d' + j) 0 = 0) (hs : τ.B 1203 (33 * d' + j) 0 = false) : CT l G yX11_cellOf (ws_ yX11_cellOf cX11_cellOf 6 (some .int)) d [.ref (G.adr 11 0), .int v, .int (nI (34 * cM d' + j))] s (rI (nI (a' + slA τ (33 * d' + j))) (fun t => MQst τ σ M a st ct tt ft t ∧ KpA s t)) := sorry
end OBJ
