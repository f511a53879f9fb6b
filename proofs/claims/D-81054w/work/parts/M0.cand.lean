/-! Judging, LinkHouse: which method or maker is meant. -/
/-- m takes arguments of types ts -/
noncomputable def jTkF (σ : Sg) (m : Nat) : Nat → Nat → List Int64 → Bool
  | 0, _, ts => ts.isEmpty
  | _ + 1, _, [] => false
  | p + 1, k, t :: ts => wFits σ 1 t (σ.L 1209 m k) && jTkF σ m p (k + 1) ts
noncomputable def jTk (σ : Sg) (m : Nat) (ts : List Int64) : Bool := jTkF σ m (nPa σ m) 0 ts
/-- each param of a FITS that of c -/
noncomputable def jNr (σ : Sg) (a c : Nat) : Bool := fall (fun k => wFits σ 1 (σ.L 1209 a k) (σ.L 1209 c k)) (nPa σ a) 0
/-- the i-th of A is the nearest -/
noncomputable def jBe (σ : Sg) (A : List Nat) (i : Nat) : Bool := fall (fun j => jNr σ (A.getD i 0) (A.getD j 0)) A.length 0
noncomputable def jBst (σ : Sg) (A : List Nat) : Option Nat := (ffirst (jBe σ A) A.length 0).map (fun i => A.getD i 0)
/-- m is a maker of x that class c may use with such arguments -/
noncomputable def jMkB (σ : Sg) (c x : Nat) (ts : List Int64) (m : Nat) : Bool := decide (σ.I 1200 m 0 = 2) && (mLts σ 1 c x m x (wNst σ 1 c) (wNst σ 1 x) && jTk σ m ts)
noncomputable def jMkA (σ : Sg) (c x : Nat) (ts : List Int64) : Nat → Nat → List Nat → List Nat
  | 0, _, A => A
  | p + 1, j, A => jMkA σ c x ts p (j + 1) (if jMkB σ c x ts (33 * x + j) = true then A ++ [33 * x + j] else A)
/-- the maker of x that is meant in class c -/
noncomputable def jMkr (σ : Sg) (c x : Nat) (ts : List Int64) : Option Nat := jBst σ (jMkA σ c x ts (nMe σ x) 0 [])
/-- m, of class k, is a method of x that is so called and may be used in class c -/
noncomputable def jCdB (σ : Sg) (c x : Nat) (nm : Int64) (ts : List Int64) (k m : Nat) : Bool := decide (σ.I 1200 m 0 = 1) && (decide (σ.L 1201 m 0 = nm) && (!σ.B 1206 m 0 && (!(σ.B 1203 m 0 && (σ.B 1102 k 0 && !decide (k = x))) && (jTk σ m ts && mLts σ 1 c k m x (wNst σ 1 c) (wNst σ 1 k)))))
noncomputable def jCdA (σ : Sg) (c x : Nat) (nm : Int64) (ts : List Int64) (k : Nat) : Nat → Nat → List Nat → List Nat
  | 0, _, A => A
  | p + 1, j, A => jCdA σ c x nm ts k p (j + 1) (if (jCdB σ c x nm ts k (33 * k + j) && !A.any (fun a => mPar σ a (33 * k + j))) = true then A ++ [33 * k + j] else A)
noncomputable def jCdL (σ : Sg) (c x : Nat) (nm : Int64) (ts : List Int64) : List Nat → List Nat → List Nat
  | [], A => A
  | k :: ks, A => jCdL σ c x nm ts ks (jCdA σ c x nm ts k (nMe σ k) 0 A)
/-- all methods that may be meant -/
noncomputable def jCds (σ : Sg) (c x : Nat) (nm : Int64) (ts : List Int64) : List Nat := jCdL σ c x nm ts (jUps σ 1 62 (some x) ++ wAF σ 1 x) []
noncomputable def jMth (σ : Sg) (c x : Nat) (nm : Int64) (ts : List Int64) : Option Nat := jBst σ (jCds σ c x nm ts)
theorem jTkF_st {σ : Sg} {m : Nat} : ∀ (p k : Nat) (ts : List Int64), jTkF (stat σ) m p k ts = jTkF σ m p k ts := sorry
theorem jTk_st {σ : Sg} {m : Nat} {ts : List Int64} : jTk (stat σ) m ts = jTk σ m ts := sorry
theorem jTk_e {σ s : Sg} {m : Nat} {ts : List Int64} (h : stat s = stat σ) : jTk s m ts = jTk σ m ts := sorry
theorem jNr_st {σ : Sg} {a c : Nat} : jNr (stat σ) a c = jNr σ a c := sorry
theorem jBst_st {σ : Sg} {A : List Nat} : jBst (stat σ) A = jBst σ A := sorry
theorem jBst_e {σ s : Sg} {A : List Nat} (h : stat s = stat σ) : jBst s A = jBst σ A := sorry
theorem jMkB_st {σ : Sg} {c x m : Nat} {ts : List Int64} : jMkB (stat σ) c x ts m = jMkB σ c x ts m := sorry
theorem jMkA_st {σ : Sg} {c x : Nat} {ts : List Int64} : ∀ (p j : Nat) (A : List Nat), jMkA (stat σ) c x ts p j A = jMkA σ c x ts p j A := sorry
theorem jMkr_st {σ : Sg} {c x : Nat} {ts : List Int64} : jMkr (stat σ) c x ts = jMkr σ c x ts := sorry
theorem jMkr_e {σ s : Sg} {c x : Nat} {ts : List Int64} (h : stat s = stat σ) : jMkr s c x ts = jMkr σ c x ts := sorry
theorem jCdB_st {σ : Sg} {c x k m : Nat} {nm : Int64} {ts : List Int64} : jCdB (stat σ) c x nm ts k m = jCdB σ c x nm ts k m := sorry
theorem jCdA_st {σ : Sg} {c x k : Nat} {nm : Int64} {ts : List Int64} : ∀ (p j : Nat) (A : List Nat), jCdA (stat σ) c x nm ts k p j A = jCdA σ c x nm ts k p j A := sorry
theorem jCdL_st {σ : Sg} {c x : Nat} {nm : Int64} {ts : List Int64} : ∀ (ks A : List Nat), jCdL (stat σ) c x nm ts ks A = jCdL σ c x nm ts ks A := sorry
theorem jCds_st {σ : Sg} {c x : Nat} {nm : Int64} {ts : List Int64} : jCds (stat σ) c x nm ts = jCds σ c x nm ts := sorry
theorem jMth_st {σ : Sg} {c x : Nat} {nm : Int64} {ts : List Int64} : jMth (stat σ) c x nm ts = jMth σ c x nm ts := sorry
theorem jMth_e {σ s : Sg} {c x : Nat} {nm : Int64} {ts : List Int64} (h : stat s = stat σ) : jMth s c x nm ts = jMth σ c x nm ts := sorry
/-- a row of arguments, judged: their types -/
def LAr (σ : Sg) : List Int64 → Int32 → Prop
  | [], v => v = -2
  | t :: ts, v => ∃ n, v = nI n ∧ n < 1410 ∧ σ.L 1606 0 n = t ∧ LAr σ ts (σ.I 1514 0 n)
/-- the candidates -/
def CdS (s : Sg) (A : List Nat) : Prop := s.I 1616 0 0 = nI A.length ∧ ∀ j, j < A.length → A.getD j 0 < 22404 ∧ s.R 1615 0 j = some (A.getD j 0)
section SPX
variable {l : Launch} {G : Gl} {d : Nat} {σ : Sg}
theorem sp_X6_takes (hG : GOK G) {m : Nat} {ts : List Int64} {v : Int32} (hd : 5 ≤ d) (hW : WOK σ 1) (hS : Shp σ) (hm : m < cnt 2) (hA : LAr σ ts v) : CT l G yX6_takes (ws_ yX6_takes cX6_takes 5 (some .boolean)) d [.ref (G.adr 6 0), rv G 2 (some m), .int v] σ (rZ (jTk σ m ts) (fun s => ∃ ρ, s = mix pH σ ρ)) := sorry
theorem sp_X6_best (hG : GOK G) {A : List Nat} (hd : 5 ≤ d) (hW : WOK σ 1) (hS : Shp σ) (hA : CdS σ A) (hl : A.length ≤ 1344) : CT l G yX6_best (ws_ yX6_best cX6_best 5 (some (.object "LinkHouse$Member"))) d [.ref (G.adr 6 0)] σ (rR G 2 (jBst σ A) (fun s => ∃ ρ, s = mix pH σ ρ)) := sorry
end SPX
