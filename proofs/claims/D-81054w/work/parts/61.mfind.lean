/-! The model: classes by their names -/
def cM (c : Nat) : Nat := if c < 192 then c else c + 12
theorem cM_lt {c : Nat} (h : c < cnt 1) : cM c < 216 := sorry
theorem cM_inj {a b : Nat} (ha : a < cnt 1) (hb : b < cnt 1) (h : cM a = cM b) : a = b := sorry
/-- classes in a slot -/
def mCn (σ : Sg) (s : Nat) : Nat := (σ.I 2123 0 s).toNatClampNeg
def mIn (σ : Sg) (s : Nat) (nm : Int64) : Option Nat := (ffirst (fun k => decide (σ.L 2124 0 (12 * s + k) = nm)) (mCn σ s) 0).map (fun k => 12 * s + k)
/-- a number, or NONE -/
def oN (o : Option Nat) : Int32 := match o with
  | none => -2
  | some k => nI k
theorem oN_none {k : Nat} (h : k < 2 ^ 31) : ¬ nI k = (-2) := sorry
/-- the libraries whose builds are asked -/
def mTh (σ : Sg) (k : Nat) : Bool := !decide (σ.I 2190 0 k = (-2)) && (decide (σ.I 2191 0 0 = (-2)) || !decide (nI k = σ.I 2107 0 (σ.I 2191 0 0).toNatClampNeg))
def mLp (σ : Sg) (nm : Int64) : Nat → Nat → Option Nat
  | 0, _ => none
  | n + 1, k => if mTh σ k = true then (match mIn σ (σ.I 2190 0 k).toNatClampNeg nm with
    | some c => some c
    | none => mLp σ nm n (k + 1)) else mLp σ nm n (k + 1)
def mF2 (σ : Sg) (nm : Int64) : Option Nat := if nm = 2305843009220621209 then some 204 else if nm = 2305843009220653836 then some 205 else mLp σ nm 5 0
/-- the class of a name -/
def mFnd (σ : Sg) (nm : Int64) : Option Nat := if σ.I 2191 0 0 = (-2) then mF2 σ nm else match mIn σ (σ.I 2191 0 0).toNatClampNeg nm with
  | some c => some c
  | none => mF2 σ nm
/-- slots and counts are in order -/
def MWO (σ : Sg) : Prop := (∀ s, s < 18 → ∃ n, n ≤ 12 ∧ σ.I 2123 0 s = nI n) ∧ (∀ k, k < 5 → σ.I 2190 0 k = (-2) ∨ ∃ s, s < 16 ∧ σ.I 2190 0 k = nI s) ∧ (σ.I 2191 0 0 = (-2) ∨ ∃ s, s < 16 ∧ σ.I 2191 0 0 = nI s)
theorem MWO.n {σ : Sg} (h : MWO σ) {s : Nat} (hs : s < 18) : mCn σ s ≤ 12 ∧ σ.I 2123 0 s = nI (mCn σ s) := sorry
theorem mIn_lt {σ : Sg} (h : MWO σ) {s : Nat} (hs : s < 18) {nm : Int64} {c : Nat} (hc : mIn σ s nm = some c) : c < 216 ∧ σ.L 2124 0 c = nm := sorry
theorem mLp_lt {σ : Sg} (h : MWO σ) {nm : Int64} : ∀ (n k c : Nat), k + n ≤ 5 → mLp σ nm n k = some c → c < 216 := sorry
theorem mFnd_lt {σ : Sg} (h : MWO σ) {nm : Int64} {c : Nat} (hc : mFnd σ nm = some c) : c < 216 := sorry
section SPMF
variable {l : Launch} {G : Gl} {σ : Sg}
theorem sp_X11_inSlot (hG : GOK G) {d : Nat} (hd : 1 ≤ d) (hM : MWO σ) {s : Nat} (hs : s < 18) {x : Int32} (hx : x = nI s) (nm : Int64) : CT l G yX11_inSlot (ws_ yX11_inSlot cX11_inSlot 5 (some .int)) d [.ref (G.adr 11 0), .int x, .long nm] σ (rI (oN (mIn σ s nm)) (fun s => s = σ)) := sorry
theorem sp_X11_find (hG : GOK G) {d : Nat} (hd : 2 ≤ d) (hM : MWO σ) (nm : Int64) : CT l G yX11_find (ws_ yX11_find cX11_find 6 (some .int)) d [.ref (G.adr 11 0), .long nm] σ (rI (oN (mFnd σ nm)) (fun s => s = σ)) := sorry
end SPMF
