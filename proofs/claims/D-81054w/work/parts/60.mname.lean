/-! The model's names of classes and types -/
/-- a type of LinkHouse as one of the model -/
def tM (t : Int64) : Int64 := if t = 0 then 1 else if t = 1 then 2 else if t = 2 then 3 else t ||| 2305843009213693952
def TyC (t : Int64) : Prop := ∃ n, 64 ≤ n ∧ n < 2 ^ 60 ∧ t = lN n
def TyOK (t : Int64) : Prop := t = 0 ∨ t = 1 ∨ t = 2 ∨ TyC t
theorem lN_ne {a b : Nat} (ha : a < 2 ^ 63) (hb : b < 2 ^ 63) (h : a ≠ b) : ¬ lN a = lN b := sorry
theorem tM_c {n : Nat} (h1 : 64 ≤ n) (h2 : n < 2 ^ 60) : tM (lN n) = lN (n + 2305843009213693952) := sorry
theorem tM_inj {a b : Int64} (ha : TyOK a) (hb : TyOK b) : tM a = tM b ↔ a = b := sorry
theorem and_hi {n : Nat} (h : n < 2 ^ 61) : (n + 2305843009213693952) &&& 2305843009213693952 = 2305843009213693952 := sorry
theorem and_lo {n : Nat} (h : n < 2 ^ 61) : (n + 2305843009213693952) &&& 16140901064495857663 = n := sorry
def isCb (t : Int64) : Bool := !decide (t &&& 2305843009213693952 = 0)
theorem isCb_c {n : Nat} (h : n < 2 ^ 60) : isCb (lN (n + 2305843009213693952)) = true := sorry
theorem isCb_tM {t : Int64} (h : TyOK t) : isCb (tM t) = true ↔ TyC t := sorry
/-- the first letter of a name -/
def pkgF : Nat → Nat → Nat
  | 0, n => n
  | f + 1, n => if n < 64 then n else pkgF f (n / 64)
def pkg (n : Nat) : Nat := pkgF 11 n
section SPMN
variable {l : Launch} {G : Gl} {σ : Sg}
theorem sp_X11_isC (hG : GOK G) {d : Nat} (hd : 1 ≤ d) (t : Int64) : CT l G yX11_isC (ws_ yX11_isC cX11_isC 2 (some .boolean)) d [.long t] σ (rZ (isCb t) (fun s => s = σ)) := sorry
theorem sp_X11_packageOf (hG : GOK G) {d : Nat} (hd : 1 ≤ d) {n : Nat} (h1 : 64 ≤ n) (h2 : n < 2 ^ 60) : CT l G yX11_packageOf (ws_ yX11_packageOf cX11_packageOf 5 (some .int)) d [.long (tM (lN n))] σ (rI (nI (pkg n)) (fun s => s = σ)) := sorry
theorem sp_X11_pack (hG : GOK G) {d : Nat} (hd : 2 ≤ d) {n : Nat} (h1 : 64 ≤ n) (h2 : n < 2 ^ 60) : CT l G yX11_pack (ws_ yX11_pack cX11_pack 2 (some .int)) d [.long (tM (lN n))] σ (rI (nI (pkg n)) (fun s => s = σ)) := sorry
end SPMN
