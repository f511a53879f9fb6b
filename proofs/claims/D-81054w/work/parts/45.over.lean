/-! World.overrides, selected -/
/-- members of kinds say what they are of -/
def MOK (σ : Sg) : Prop := ∀ k, k < 194 → ∀ j, j < nMe σ k → σ.R 1222 (33 * k + j) 0 = some k
/-- a member that stands in a kind -/
def Liv (σ : Sg) (m : Nat) : Prop := ∃ k j, k < 194 ∧ j < nMe σ k ∧ m = 33 * k + j
theorem Liv.of {σ : Sg} (h : MOK σ) {m : Nat} (hm : Liv σ m) : mOf σ m < cnt 1 ∧ σ.R 1222 m 0 = some (mOf σ m) := sorry
theorem kMet_in {σ : Sg} {q m x : Nat} (h : kMet σ q m = some x) : ∃ j, j < nMe σ q ∧ x = 33 * q + j := sorry
theorem kMet_of {σ : Sg} (hM : MOK σ) {q m x : Nat} (hq : q < cnt 1) (h : kMet σ q m = some x) : Liv σ x ∧ mOf σ x = q ∧ σ.R 1222 x 0 = some q := sorry
/-- the row of parents of a class up to another one (without it), at most n; where it ends -/
def wCh (σ : Sg) (w o : Nat) : Nat → Option Nat → List Nat × Option Nat
  | 0, c => ([], c)
  | _ + 1, none => ([], none)
  | n + 1, some c => if c = o then ([], some c) else (c :: (wCh σ w o n (wPar σ w c)).1, (wCh σ w o n (wPar σ w c)).2)
/-- whether one that comes to is meant by the class c -/
def cmz (σ : Sg) (n c : Nat) : List Nat → List Bool → Bool
  | c' :: cs, b :: bs => (b && (match kMet σ c' n with
    | some y => mMnt σ y c
    | none => false)) || cmz σ n c cs bs
  | _, _ => false
def cm1 (σ : Sg) (n m c : Nat) (cs : List Nat) (bs : List Bool) : Bool := match kMet σ c n with
  | none => false
  | some x => mObj σ x && (mMnt σ m c || cmz σ n c cs bs)
def cmb (σ : Sg) (n m : Nat) : List Nat → List Bool
  | [] => []
  | c :: cs => cm1 σ n m c cs (cmb σ n m cs) :: cmb σ n m cs
theorem cmb_len {σ : Sg} {n m : Nat} : ∀ l : List Nat, (cmb σ n m l).length = l.length := sorry
theorem cmb_drop {σ : Sg} {n m : Nat} : ∀ (l : List Nat) (j : Nat), (cmb σ n m l).drop j = cmb σ n m (l.drop j) := sorry
theorem cmb_some {σ : Sg} {n m : Nat} {l : List Nat} {j : Nat} (hj : j < l.length) (h : (cmb σ n m l)[j]? = some true) : ∃ x, kMet σ l[j] n = some x := sorry
def wOv (σ : Sg) (w n m : Nat) : Bool := if n = m then false else if σ.B 1102 (mOf σ m) 0 = true then true else
  if (wCh σ w (mOf σ m) 62 (some (mOf σ n))).2 = some (mOf σ m) then (cmb σ n m (wCh σ w (mOf σ m) 62 (some (mOf σ n))).1).headD false else false
theorem wCh_in {σ : Sg} {w o : Nat} (hW : WOK σ w) : ∀ (n : Nat) (c : Option Nat), (∀ k, c = some k → k < cnt 1) → (∀ x, x ∈ (wCh σ w o n c).1 → x < cnt 1) ∧ (wCh σ w o n c).1.length ≤ n := sorry
def pC (c _i : Nat) : Bool := rg 1307 1309 c
theorem wCh_st {σ : Sg} {w o : Nat} : ∀ n c, wCh (stat σ) w o n c = wCh σ w o n c := sorry
theorem cmz_st {σ : Sg} {n c : Nat} : ∀ cs bs, cmz (stat σ) n c cs bs = cmz σ n c cs bs := sorry
theorem cm1_st {σ : Sg} {n m c : Nat} {cs : List Nat} {bs : List Bool} : cm1 (stat σ) n m c cs bs = cm1 σ n m c cs bs := sorry
theorem cmb_st {σ : Sg} {n m : Nat} : ∀ l, cmb (stat σ) n m l = cmb σ n m l := sorry
theorem mOf_st {σ : Sg} {m : Nat} : mOf (stat σ) m = mOf σ m := sorry
theorem wOv_st {σ : Sg} {w n m : Nat} : wOv (stat σ) w n m = wOv σ w n m := sorry
theorem wOv_mix {p : Nat → Nat → Bool} {σ ρ : Sg} (h : ∀ c i, sc c = true → p c i = false) {w n m : Nat} : wOv (mix p σ ρ) w n m = wOv σ w n m := sorry
section SPO
variable {l : Launch} {G : Gl} {d : Nat} {σ : Sg}
theorem sp_X3_overrides (hG : GOK G) (hd : 5 ≤ d) {w : Nat} (hw : w < cnt 3) (hW : WOK σ w) (hS : Shp σ) (hM : MOK σ) {n m : Nat} (hn : Liv σ n) (hm : Liv σ m) (hne : n ≠ m → mOf σ n ≠ mOf σ m) (hn2 : n < cnt 2) (hm2 : m < cnt 2) : CT l G yX3_overrides (ws_ yX3_overrides cX3_overrides 8 (some .boolean)) d [.ref (G.adr 3 w), rv G 2 (some n), rv G 2 (some m)] σ (rZ (wOv σ w n m) (fun s => ∃ ρ, s = mix pC σ ρ)) := sorry
end SPO
