/-! Judged E's are well typed. -/
/-- the use r is the u-th of class k -/
def UseAt (s : Sg) (k u : Nat) (r : Us) : Prop := u < nUk s k ∧ uSo s k u = nI r.2.1 ∧ uTi s k u = r.2.2.1 ∧ s.L 1703 (uAt s k u) 0 = r.2.2.2.1 ∧ ((r.2.1 = 2 ∨ (7 ≤ r.2.1 ∧ r.2.1 ≤ 12)) → uPm s k u = r.2.2.2.2.2.2.1) ∧ (3 ≤ r.2.1 ∧ r.2.1 ≤ 12 → uTy s k u = r.2.2.2.2.2.1)
/-- what is known of the uses of class k, of names and fields -/
def WtH (τ s : Sg) (k : Nat) (ix : Us → Nat) (UF : List Us) : Prop := (∀ r, r ∈ UF → r.1 = k → UseAt s k (ix r) r) ∧ s.L 1100 k 0 = τ.L 1100 k 0 ∧ (∀ c, c ∈ wKs τ 1 → ¬ τ.L 1100 c 0 = 0) ∧ (∀ m, LivU τ (wKs τ 1) m → τ.I 1200 m 0 = 0 → ¬ τ.L 1207 m 0 = 0 ∧ (τ.B 1212 m 0 = true → τ.L 1207 m 0 = 1 ∧ τ.B 1203 m 0 = true)) ∧ WOK τ 1 ∧ wFind τ 1 (τ.L 1100 k 0) = some k
/-- locals: their types by their slots -/
def LcT (Γ : Nat → Int64) (nl : Nat) (st : Bool) (Lc : Lcs) : Prop := ∀ c, c ∈ Lc → Γ c.2.2 = c.2.1 ∧ ¬ c.2.1 = 0 ∧ c.2.2 < nl ∧ (st = false → ¬ c.2.2 = 0)
section WTE
variable {τ s : Sg} {k nl : Nat} {Γ : Nat → Int64} {st : Bool} {ix : Us → Nat} {UF : List Us} {Lc : Lcs}
theorem lcF_in {nm : Int64} : ∀ (L : Lcs) (i : Nat) (r : Nat × Int64 × Nat), lcF nm L i = some r → ∃ c, c ∈ L ∧ c.2 = r.2 := sorry
theorem wFits_0 {w : Nat} {t v : Int64} (h : wFits τ w t v = true) : ¬ t = 0 ∧ ¬ v = 0 ∧ (t = 1 → v = 1) := sorry
/-- what fits has its use -/
theorem wtFt_of (H : WtH τ s k ix UF) {t w : Int64} (h : wFits τ 1 t w = true) (hn : ∀ r, r ∈ fitU k t w → r ∈ UF) : wtFt s k t w := sorry
theorem isOb_t {t : Int64} (h : isOb t = true) : ¬ t = 0 ∧ ¬ t = 1 := sorry
theorem ckO_t {t : Int64} {p : Nat} {u : Unit} (h : ckO t p = .ok u) : ¬ t = 0 ∧ ¬ t = 1 := sorry
/-- a field is asked -/
theorem rtG_of (H : WtH τ s k ix UF) {b : Lb} {y : Tr} (hg : gdN τ b y) (hb : b.1 = 4 ∨ b.1 = 6) (hm : ¬ b.2.2.2.2.2.2.2.1 = 0) (hst : τ.B 1203 (mB b) 0 = false → st = false ∧ cB b = k) (hn : gtU τ k b ∈ UF) : wtE s k Γ st nl (rtG τ k ix b) ∧ isE1 (rtG τ k ix b) ∧ rTy (rtG τ k ix b) = b.2.2.2.2.2.2.1 := sorry
/-- the use of a call -/
theorem clU_of (H : WtH τ s k ix UF) {b : Lb} {y : Tr} (hg : gdN τ b y) (hb : b.1 = 5 ∨ b.1 = 7 ∨ b.1 = 8 ∨ b.1 = 9 ∨ b.1 = 18) (hn : clU τ k b ∈ UF) : ix (clU τ k b) < nUk s k ∧ uSo s k (ix (clU τ k b)) = nI (clS τ b) ∧ uTi s k (ix (clU τ k b)) = τ.L 1100 (cB b) 0 ∧ uTy s k (ix (clU τ k b)) = b.2.2.2.2.2.2.1 ∧ uPm s k (ix (clU τ k b)) = pmL τ (mB b) ∧ ftL τ (tyL y) (pmL τ (mB b)) := sorry
theorem clS_n {b : Lb} (h9 : ¬ b.1 = 9) (h8 : ¬ b.1 = 8) : (τ.B 1203 (mB b) 0 = true → nI (clS τ b) = 9 ∨ nI (clS τ b) = 10) ∧ (τ.B 1203 (mB b) 0 = false → nI (clS τ b) = 7 ∨ nI (clS τ b) = 8) := sorry
theorem oK_n {xo : Option Nat} {x : Nat} (h : xo = some x) : oK xo - 1 = x := sorry
/-- AN E THAT WAS JUDGED IS WELL TYPED -/
theorem wtE_of (H : WtH τ s k ix UF) (hLc : Lc.length < 1000) (hL : LcT Γ nl st Lc) : ∀ (x x' : Tr) {m w a e : Nat} (ps : List Int64), m = 0 ∨ m = 1 ∨ m = 5 → wt x m w a e → ckE τ k st Lc x = .ok x' → (m = 1 → ftL τ (tyL x') ps) → (∀ r, r ∈ ndE τ k x' ps → r ∈ UF) → wtE s k Γ st nl (rtE τ k ix x') ∧ (¬ m = 1 → ¬ x = .leaf → isE1 (rtE τ k ix x') ∧ rTy (rtE τ k ix x') = tyO x') ∧ (m = 1 → isRo (rtE τ k ix x') ∧ wtRw s k (rTyL (rtE τ k ix x')) ps) := sorry
end WTE
