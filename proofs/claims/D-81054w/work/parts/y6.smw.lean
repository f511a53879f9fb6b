/-! What a machine's state says stays while the rows of THE WORLD's classes stay. -/
/-- the rows of class k, its members, its uses are the same -/
def SmK (s t : Sg) (k : Nat) : Prop := (∀ c x, 1099 < c → c ≤ 1128 → t.I c k x = s.I c k x ∧ t.B c k x = s.B c k x ∧ t.L c k x = s.L c k x ∧ t.R c k x = s.R c k x) ∧
  (∀ c j x, 1199 < c → c ≤ 1222 → j < 33 → t.I c (33 * k + j) x = s.I c (33 * k + j) x ∧ t.B c (33 * k + j) x = s.B c (33 * k + j) x ∧ t.L c (33 * k + j) x = s.L c (33 * k + j) x ∧ t.R c (33 * k + j) x = s.R c (33 * k + j) x) ∧
  ∀ c u x, 1699 < c → c ≤ 1704 → u < nUk s k → t.I c (uAt s k u) x = s.I c (uAt s k u) x ∧ t.L c (uAt s k u) x = s.L c (uAt s k u) x
def SmW (s t : Sg) : Prop := wKs t 0 = wKs s 0 ∧ ∀ k, k ∈ wKs s 0 → SmK s t k
section SMW
variable {s t u : Sg} {M : MSt} {k : Nat}
theorem SmK.i (h : SmK s t k) {c : Nat} (x : Nat) (h1 : 1099 < c ∧ c ≤ 1128) : t.I c k x = s.I c k x := sorry
theorem SmK.b (h : SmK s t k) {c : Nat} (x : Nat) (h1 : 1099 < c ∧ c ≤ 1128) : t.B c k x = s.B c k x := sorry
theorem SmK.l (h : SmK s t k) {c : Nat} (x : Nat) (h1 : 1099 < c ∧ c ≤ 1128) : t.L c k x = s.L c k x := sorry
theorem wFind_find {σ : Sg} {w : Nat} {nm : Int64} : wFind σ w nm = (wKs σ w).find? (fun k => decide (σ.L 1100 k 0 = nm)) := sorry
theorem find_cg {L : List Nat} {f g : Nat → Bool} (h : ∀ x, x ∈ L → f x = g x) : L.find? f = L.find? g := sorry
theorem SmW.find (h : SmW s t) (nm : Int64) : wFind t 0 nm = wFind s 0 nm := sorry
theorem SmW.par (h : SmW s t) (hk : k ∈ wKs s 0) : wPar t 0 k = wPar s 0 k := sorry
theorem wPar_mem {σ : Sg} {k p : Nat} (h : wPar σ 0 k = some p) : p ∈ wKs σ 0 := sorry
theorem SmW.upF (h : SmW s t) : ∀ (n : Nat) (o : Option Nat), (∀ k, o = some k → k ∈ wKs s 0) → wUpF t n o = wUpF s n o := sorry
theorem SmW.ups (h : SmW s t) (hk : k ∈ wKs s 0) : wUps t k = wUps s k ∧ ∀ x, x ∈ wUps s k → x ∈ wKs s 0 := sorry
theorem SmW.fdS (h : SmW s t) : ∀ (L : List Nat), (∀ x, x ∈ L → x ∈ wKs s 0) → fdS t L = fdS s L := sorry
theorem SmW.fdN (h : SmW s t) (hk : k ∈ wKs s 0) : fdN t k = fdN s k := sorry
theorem SmW.nW (h : SmW s t) (hk : k ∈ wKs s 0) : nW t k = nW s k := sorry
theorem SmK.nMe (h : SmK s t k) : nMe t k = nMe s k := sorry
theorem SmK.nFc (h : SmK s t k) : nFc t k = nFc s k := sorry
theorem SmW.slA (h : SmW s t) {j : Nat} (hk : k ∈ wKs s 0) (hj : j < 33) (hm : mOf s (33 * k + j) = k) : slA t (33 * k + j) = slA s (33 * k + j) ∧ svA t (33 * k + j) = svA s (33 * k + j) := sorry
theorem SmW.st (h : SmW s t) {a c : Nat} (ha : a ∈ wKs s 0) : wSt t 0 a c ↔ wSt s 0 a c := sorry
theorem wSt_mem {σ : Sg} {a c : Nat} (h : wSt σ 0 a c) : c ∈ wKs σ 0 := sorry
theorem SmW.hr (h : SmW s t) {a c : Nat} (ha : a ∈ wKs s 0) : wHr t 0 a c ↔ wHr s 0 a c := sorry
theorem SmW.vOk (h : SmW s t) {ty : Int64} {v : Int32} (hI : ∀ (o c a : Nat), M.ob[o]? = some (c, a) → c ∈ wKs s 0) (w : vOk s M ty v) : vOk t M ty v := sorry
theorem SmW.opn (h : SmW s t) {a c : Nat} (ha : a ∈ wKs s 0) (hc : c ∈ wKs s 0) : kOpn t c a = kOpn s c a ∧ kLet t c (t.L 1100 a 0) = kLet s c (s.L 1100 a 0) := sorry
theorem SmW.sup (h : SmW s t) {c : Nat} (hk : k ∈ wKs s 0) : SupL t k c ↔ SupL s k c := sorry
theorem SupL_mem {σ : Sg} {c : Nat} (h : SupL σ k c) : c ∈ wKs σ 0 := sorry
/-- A MACHINE's STATE stays in order -/
theorem MInv.sw (h : SmW s t) (hme : ∀ k, k ∈ wKs s 0 → nMe s k ≤ 33) (hof : ∀ k, k ∈ wKs s 0 → ∀ j, j < nMe s k → mOf s (33 * k + j) = k) (w : MInv s M) : MInv t M := sorry
/-- what the model's machine holds stays -/
theorem MMm.sw (h : SmW s t) (hme : ∀ k, k ∈ wKs s 0 → nMe s k ≤ 33) (hof : ∀ k, k ∈ wKs s 0 → ∀ j, j < nMe s k → mOf s (33 * k + j) = k) (hob : ∀ (o c a : Nat), M.ob[o]? = some (c, a) → c ∈ wKs s 0) (w : MMm s u M) : MMm t u M := sorry
end SMW
