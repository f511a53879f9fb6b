/-! LinkHouse: the bodies of a build. -/
/-- the uses, code places, catch places before the i-th class -/
noncomputable def usA (τ : Sg) (b : Nat) (tg : Nat → Nat → Nat) (tr : Nat → Nat → Tr) : Nat → List Us
  | 0 => []
  | i + 1 => usA τ b tg tr i ++ ndK τ (12 * b + i) (tg i) (tr i)
noncomputable def psA (τ : Sg) (b : Nat) (tg : Nat → Nat → Nat) (tr : Nat → Nat → Tr) : Nat → Nat
  | 0 => 0
  | i + 1 => psM τ (12 * b + i) (tg i) (tr i) (psA τ b tg tr i) (nMe τ (12 * b + i))
noncomputable def qsA (τ : Sg) (b : Nat) (tg : Nat → Nat → Nat) (tr : Nat → Nat → Tr) : Nat → Nat
  | 0 => 0
  | i + 1 => qsM τ (12 * b + i) (tg i) (tr i) (psA τ b tg tr i) (qsA τ b tg tr i) (nMe τ (12 * b + i))
theorem usA_ndAl {τ : Sg} {b : Nat} {tg : Nat → Nat → Nat} {tr : Nat → Nat → Tr} : ∀ (n i : Nat), usA τ b tg tr i ++ ndAl τ b tg tr n i = usA τ b tg tr (i + n) := sorry
theorem usA_all {τ : Sg} {b nk : Nat} {tg : Nat → Nat → Nat} {tr : Nat → Nat → Tr} : usA τ b tg tr nk = ndAl τ b tg tr nk 0 := sorry
theorem usA_k {τ : Sg} {b : Nat} {tg : Nat → Nat → Nat} {tr : Nat → Nat → Tr} : ∀ (i : Nat) (r : Us), r ∈ usA τ b tg tr i → r.1 < 12 * b + i := sorry
/-- the table of uses before the i-th class -/
noncomputable abbrev uA (τ : Sg) (b : Nat) (tg : Nat → Nat → Nat) (tr : Nat → Nat → Tr) (i : Nat) : List Us := addL [] (usA τ b tg tr i)
theorem psA_mono {τ : Sg} {b : Nat} {tg : Nat → Nat → Nat} {tr : Nat → Nat → Tr} : ∀ (n i : Nat), psA τ b tg tr i ≤ psA τ b tg tr (i + n) := sorry
theorem qsA_mono {τ : Sg} {b : Nat} {tg : Nat → Nat → Nat} {tr : Nat → Nat → Tr} : ∀ (n i : Nat), qsA τ b tg tr i ≤ qsA τ b tg tr (i + n) := sorry
/-- the judged trees -/
noncomputable abbrev jA (τ : Sg) (b : Nat) (x : Nat → Nat → Tr) : Nat → Nat → Tr := fun i j => jtX τ (12 * b + i) (33 * (12 * b + i) + j) (x i j)
/-- class i of build b is done -/
def DnK (τ s : Sg) (b : Nat) (tg : Nat → Nat → Nat) (x : Nat → Nat → Tr) (i : Nat) (U : List Us) : Prop := s.I 1119 (12 * b + i) 0 = nI (uA τ b tg (jA τ b x) i).length ∧ s.I 1120 (12 * b + i) 0 = nI (uA τ b tg (jA τ b x) (i + 1)).length ∧ ∀ j, j < nMe τ (12 * b + i) → DnB τ s b (12 * b + i) (uA τ b tg (jA τ b x) i).length (33 * (12 * b + i) + j) (tg i j) (jA τ b x i j) (psM τ (12 * b + i) (tg i) (jA τ b x i) (psA τ b tg (jA τ b x) i) j) (qsM τ (12 * b + i) (tg i) (jA τ b x i) (psA τ b tg (jA τ b x) i) (qsA τ b tg (jA τ b x) i) j) (lnX τ (12 * b + i) (33 * (12 * b + i) + j) (x i j)) U ∧ ∀ ix, (hdX τ (12 * b + i) (33 * (12 * b + i) + j) (jA τ b x i j) (psM τ (12 * b + i) (tg i) (jA τ b x i) (psA τ b tg (jA τ b x) i) j) ix).length = (hdX τ (12 * b + i) (33 * (12 * b + i) + j) (jA τ b x i j) (psM τ (12 * b + i) (tg i) (jA τ b x i) (psA τ b tg (jA τ b x) i) j) fun _ => 0).length
/-- all classes before the i-th are done -/
def AIn (τ σ s : Sg) (b nk : Nat) (tg : Nat → Nat → Nat) (x : Nat → Nat → Tr) (i : Nat) : Prop := Fl (pJ b) σ s ∧ s.R 1602 0 0 = some b ∧ (LUt s b (uA τ b tg (jA τ b x) i) ∧ UNd (uA τ b tg (jA τ b x) i)) ∧ (Shp s ∧ SmJ τ s) ∧ (s.I 2011 b 0 = nI (psA τ b tg (jA τ b x) i) ∧ s.I 2013 b 0 = nI (qsA τ b tg (jA τ b x) i)) ∧ (∀ i', i ≤ i' → i' < nk → ∀ j, j < nMe τ (12 * b + i') → s.I 1219 (33 * (12 * b + i') + j) 0 = -2 ∧ s.I 1220 (33 * (12 * b + i') + j) 0 = 0) ∧ ∀ i', i' < i → DnK τ s b tg x i' (uA τ b tg (jA τ b x) i)
section SPX
variable {l : Launch} {G : Gl} {d : Nat} {τ σ : Sg} {b nk n r L : Nat} {B : Nat → Nat} {tg : Nat → Nat → Nat} {x : Nat → Nat → Tr} {A E : Nat → Nat → Nat}
/-- loop of X6_all: bodies -/
theorem ja_345 (hG : GOK G) {Q : Outcome → Sg → Prop} {r1 : Option Nat} (hd : 1710 ≤ d) (hnk : nk ≤ 12) (hb : b < 16) (hr : r ≤ 702) (hO : OkW τ) (hSt : Shp τ) (hWO : WOK τ 1) (hMO : MOK τ) (hLR : LRd σ b B n r) (h07 : ∀ s, Fl (pJ b) σ s → s.I 2007 b 0 = nI nk) (hkk : ∀ i, i < nk → wFind τ 1 (τ.L 1100 (12 * b + i) 0) = some (12 * b + i) ∧ ∀ x nm ts, x < 194 → (jCds τ (12 * b + i) x nm ts).length ≤ 1344) (hpar : ∀ i, i < nk → τ.B 1106 (12 * b + i) 0 = true → TyC (τ.L 1107 (12 * b + i) 0)) (hfc : ∀ i, i < nk → ∀ j, j < nFc τ (12 * b + i) → TyC (τ.L 1108 (12 * b + i) j)) (hX : ∀ i j, i < nk → j < nMe τ (12 * b + i) → LBx τ (12 * b + i) (33 * (12 * b + i) + j) (tg i j) r L (x i j) (A i j) (E i j)) (hT : ∀ i j, i < nk → j < nMe τ (12 * b + i) → τ.B 1206 (33 * (12 * b + i) + j) 0 = false → LTr σ (yTok B n) L (x i j) 0 1410 (τ.I 1218 (33 * (12 * b + i) + j) 0)) (hbU : ∀ i j, i < nk → j ≤ nMe τ (12 * b + i) → (addL (uA τ b tg (jA τ b x) i) (usM τ (12 * b + i) (tg i) (jA τ b x i) j)).length ≤ 1000) (hbP : ∀ i j, i < nk → j < nMe τ (12 * b + i) → psM τ (12 * b + i) (tg i) (jA τ b x i) (psA τ b tg (jA τ b x) i) j + clX τ (12 * b + i) (33 * (12 * b + i) + j) (tg i j) (jA τ b x i j) (psM τ (12 * b + i) (tg i) (jA τ b x i) (psA τ b tg (jA τ b x) i) j) ≤ 6000) (hbQ : ∀ i j, i < nk → j < nMe τ (12 * b + i) → qsM τ (12 * b + i) (tg i) (jA τ b x i) (psA τ b tg (jA τ b x) i) (qsA τ b tg (jA τ b x) i) (j + 1) ≤ 100) : ∀ (c i : Nat) (s : Sg), i + c = nk → AIn τ σ s b nk tg x i → oJ G b (yTok B n) σ (jFor (bdC τ b x) c i) (fun _ o s => o = .returned none ∧ AIn τ σ s b nk tg x nk) = Q → wq_X6_all_345 l G d 0 r1 Q (c + 1) (nI i) s := sorry
end SPX
