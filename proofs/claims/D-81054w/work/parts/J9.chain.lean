/-! Chains of parents: what is not met among the first ones is never met; overrides, the model's way. -/
def chF (τ : Sg) (w : Nat) (g : Nat → Option Nat) : Nat → Option Nat → Option Nat
  | 0, _ => none
  | _ + 1, none => none
  | n + 1, some c => match g c with
    | some q => some q
    | none => chF τ w g n (wPar τ w c)
theorem chF_none {τ : Sg} {w : Nat} {g : Nat → Option Nat} : ∀ n, chF τ w g n none = none := sorry
theorem chF_yes {τ : Sg} {w : Nat} {g : Nat → Option Nat} {n c q : Nat} (h : g c = some q) : chF τ w g (n + 1) (some c) = some q := sorry
theorem chF_no {τ : Sg} {w : Nat} {g : Nat → Option Nat} {n c : Nat} (h : g c = none) : chF τ w g (n + 1) (some c) = chF τ w g n (wPar τ w c) := sorry
theorem chF_cl {τ : Sg} {w : Nat} {g : Nat → Option Nat} {L : List Nat} (hL : ∀ x, x ∈ L → g x = none ∧ ∀ y, wPar τ w x = some y → y ∈ L) : ∀ (n : Nat) (c : Option Nat), (∀ x, c = some x → x ∈ L) → chF τ w g n c = none := sorry
theorem chF_more {τ : Sg} {w : Nat} {g : Nat → Option Nat} {e : Nat} (hW : WOK τ w) : ∀ (n : Nat) (L : List Nat) (c : Option Nat), L.Nodup → (∀ x, x ∈ L → x ∈ wKs τ w) → (∀ x, x ∈ L → g x = none ∧ ∀ y, wPar τ w x = some y → y ∈ L ∨ c = some y) → (∀ x, c = some x → x ∈ wKs τ w) → 62 ≤ L.length + n → chF τ w g (n + e) c = chF τ w g n c := sorry
/-- a class, or nothing -/
def isO (o c : Nat) : Option Nat := if c = o then some c else none
theorem chF_o {τ : Sg} {w o : Nat} : ∀ (n : Nat) (c : Option Nat) (q : Nat), chF τ w (isO o) n c = some q → q = o := sorry
theorem wCh_chF {τ : Sg} {w o : Nat} : ∀ (n : Nat) (c : Option Nat), (wCh τ w o n c).2 = some o ↔ chF τ w (isO o) (n + 1) c = some o := sorry
/-- class c is come to, from one of R -/
def rchB (τ : Sg) (m : Nat) (R : List Nat) (c : Nat) : Bool := match kMet τ c m with
  | none => false
  | some y => mObj τ y && (decide (2 ≤ τ.I 1202 y 0) || R.any (fun c0 => decide (τ.I 1101 c0 0 = τ.I 1101 c 0)))
def mOv (τ : Sg) (w m : Nat) : Nat → List Nat → Option Nat → Bool
  | 0, _, _ => false
  | _ + 1, _, none => false
  | k + 1, R, some c => if kMet τ c m = some m then rchB τ m R c else mOv τ w m k (if rchB τ m R c = true then c :: R else R) (wPar τ w c)
def fwO (τ : Sg) (m : Nat) : List Nat → List Nat → Bool
  | R, [] => rchB τ m R (mOf τ m)
  | R, c :: cs => fwO τ m (if rchB τ m R c = true then c :: R else R) cs
/-- members of classes say what they are of; their access -/
def OvH (τ : Sg) (m : Nat) (V : List Nat) : Prop := ∀ c y, c ∈ V → kMet τ c m = some y → mOf τ y = c ∧ ∃ a, a < 4 ∧ τ.I 1202 y 0 = nI a
theorem mMnt_any {τ : Sg} {y c : Nat} {R : List Nat} (ho : mObj τ y = true) (hc : mOf τ y = c) (ha : ∃ a, a < 4 ∧ τ.I 1202 y 0 = nI a) (hR : R ≠ []) : R.any (fun c0 => mMnt τ y c0) = (decide (2 ≤ τ.I 1202 y 0) || R.any (fun c0 => decide (τ.I 1101 c0 0 = τ.I 1101 c 0))) := sorry
theorem rchB_any {τ : Sg} {m c : Nat} {R V : List Nat} (hV : OvH τ m V) (hc : c ∈ V) (hR : R ≠ []) : rchB τ m R c = (match kMet τ c m with
    | none => false
    | some y => mObj τ y && R.any (fun c0 => mMnt τ y c0)) := sorry
theorem any_or {α : Type} {p q : α → Bool} : ∀ {R : List α}, R.any (fun x => p x || q x) = (R.any p || R.any q) := sorry
theorem any_andl {α : Type} {p : α → Bool} {b : Bool} : ∀ {R : List α}, R.any (fun x => b && p x) = (b && R.any p) := sorry
/-- forwards or backwards: it is the same -/
theorem fwO_cmb {τ : Sg} {n m : Nat} {V : List Nat} (hs : ∀ c, kMet τ c n = kMet τ c m) (hm : kMet τ (mOf τ m) m = some m) (hom : mObj τ m = true) (hV : OvH τ m V) (hmV : mOf τ m ∈ V) : ∀ (cs R : List Nat), R ≠ [] → (∀ c, c ∈ cs → c ∈ V) → fwO τ m R cs = R.any (fun c0 => mMnt τ m c0 || cmz τ n c0 cs (cmb τ n m cs)) := sorry
theorem mOv_f {τ : Sg} {w m : Nat} (hof : ∀ c, kMet τ c m = some m → c = mOf τ m) : ∀ (f : Nat) (R : List Nat) (c : Option Nat), chF τ w (isO (mOf τ m)) f c = none → mOv τ w m f R c = false := sorry
theorem mOv_t {τ : Sg} {w m : Nat} (hm : kMet τ (mOf τ m) m = some m) (hof : ∀ c, kMet τ c m = some m → c = mOf τ m) {e : Nat} : ∀ (k : Nat) (R : List Nat) (c : Option Nat), (wCh τ w (mOf τ m) k c).2 = some (mOf τ m) → mOv τ w m (k + 1 + e) R c = fwO τ m R (wCh τ w (mOf τ m) k c).1 := sorry
/-- the model's way answers as LinkHouse's -/
theorem wOv_mOv {τ : Sg} {w n m : Nat} (hW : WOK τ w) (hnm : ¬ n = m) (hf : τ.B 1102 (mOf τ m) 0 = false) (hk : mOf τ n ∈ wKs τ w) (hn : kMet τ (mOf τ n) n = some n) (hm : kMet τ (mOf τ m) m = some m) (hon : mObj τ n = true) (hom : mObj τ m = true) (hs : ∀ c, kMet τ c n = kMet τ c m) (hV : OvH τ m (mOf τ m :: wKs τ w)) (hof : ∀ c, kMet τ c m = some m → c = mOf τ m) : wOv τ w n m = mOv τ w m 80 [mOf τ n] (wPar τ w (mOf τ n)) := sorry
/-- selected: looking on does not help -/
def gSel (τ : Sg) (w m c : Nat) : Option Nat := match kMet τ c m with
  | none => none
  | some q => if mObj τ q = true ∧ (q = m ∨ wOv τ w q m = true) then some q else none
theorem wSelW_chF {τ : Sg} {w m : Nat} : ∀ (n : Nat) (c : Option Nat), wSelW τ w m n c = chF τ w (gSel τ w m) n c := sorry
theorem wSelW_80 {τ : Sg} {w m r : Nat} (hW : WOK τ w) (hr : r ∈ wKs τ w) : wSelW τ w m 80 (some r) = wSelW τ w m 62 (some r) := sorry
