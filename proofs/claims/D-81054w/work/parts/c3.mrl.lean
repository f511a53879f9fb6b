/-! LINKHOUSE's MACHINE: its columns against the plain machine. -/
/-- columns that hold what runs; frames and the stack; all -/
def pMu (c i : Nat) : Bool := rg 1303 1313 c || ((rg 1800 1807 c && Nat.beq i 1) || (rg 1901 1912 c))
def pFr (c _i : Nat) : Bool := rg 1912 1921 c
def pMa (c i : Nat) : Bool := pMu c i || (pFr c i || rg 1998 1999 c)
theorem pMu_no {c i : Nat} (h : c ≤ 1303 ∨ (1313 < c ∧ c ≤ 1800) ∨ (1807 < c ∧ c ≤ 1901) ∨ 1912 < c) : pMu c i = false := sorry
theorem pFr_no {c i : Nat} (h : c ≤ 1912 ∨ 1921 < c) : pFr c i = false := sorry
theorem pFr_y {c i : Nat} (h1 : 1912 < c) (h2 : c ≤ 1921) : pFr c i = true := sorry
theorem pMu_y {c i : Nat} (h1 : 1901 < c) (h2 : c ≤ 1912) : pMu c i = true := sorry
theorem pMa_no {c i : Nat} (h : c ≤ 1303 ∨ (1313 < c ∧ c ≤ 1800) ∨ (1807 < c ∧ c ≤ 1901) ∨ (1921 < c ∧ c ≤ 1998) ∨ 1999 < c) : pMa c i = false := sorry
theorem pMa_m {c i : Nat} (h : pMu c i = true) : pMa c i = true := sorry
theorem pMa_f {c i : Nat} (h : pFr c i = true) : pMa c i = true := sorry
theorem pMa_r {i : Nat} : pMa 1999 i = true := sorry
/-- member, code, counts, locals, operands (the last first) -/
abbrev Fr : Type := Nat × Nat × Bool × Env × List Int32
abbrev Fr.m (f : Fr) : Nat := f.1
abbrev Fr.pc (f : Fr) : Nat := f.2.1
abbrev Fr.ic (f : Fr) : Bool := f.2.2.1
abbrev Fr.e (f : Fr) : Env := f.2.2.2.1
abbrev Fr.ops (f : Fr) : List Int32 := f.2.2.2.2
/-- below: the stack; rows up to a level are as told -/
abbrev Bw : Type := List Int32 × Nat × (Nat → Nat → Option Nat)
/-- the stack, its bottom first -/
def skF (σ : Sg) (S0 : Bw) : List Fr → List Int32
  | [] => S0.1
  | f :: fs => skF σ S0 fs ++ ((List.range (nLo σ f.m)).map f.e ++ f.ops.reverse)
def SkR (s : Sg) (K : List Int32) : Prop := s.I 1916 0 0 = nI K.length ∧ ∀ (j : Nat) (v : Int32), K[j]? = some v → s.I 1915 0 j = v
def FrA (σ : Sg) (S0 : Bw) (s : Sg) : List Fr → Prop
  | [] => ∀ i j, i ≤ S0.2.1 → s.R 1999 i j = S0.2.2 i j
  | f :: fs => (s.R 1917 0 fs.length = some f.m ∧ s.I 1918 0 fs.length = nI f.pc ∧ s.I 1919 0 fs.length = nI (skF σ S0 fs).length ∧ s.B 1920 0 fs.length = f.ic) ∧ FrA σ S0 s fs
def tpI : List Fr → Int32
  | [] => -1
  | _ :: fs => nI fs.length
/-- frames: how many levels are left, below, frames (the last first) -/
def FRm (σ : Sg) (a : Nat) (S0 : Bw) (fs : List Fr) (s : Sg) : Prop := s.I 1913 0 0 = nI a ∧ SkR s (skF σ S0 fs) ∧ s.I 1921 0 0 = tpI fs ∧ FrA σ S0 s fs
/-- what runs -/
def MRm (s : Sg) (M : MSt) : Prop := LSR s 1 M.ls ∧ (∀ j, j < 64 → s.I 1902 0 j = M.lk j) ∧ (∀ j, j < 64 → s.I 1903 0 j = M.sr j) ∧ (∀ j, j < 1280 → s.I 1904 0 j = M.sv j) ∧ s.I 1907 0 0 = nI M.ob.length ∧ (∀ (o c a : Nat), M.ob[o]? = some (c, a) → s.R 1905 0 (o + 1) = some c ∧ s.I 1906 0 (o + 1) = nI a) ∧ (∀ j, j < 2000 → s.I 1908 0 j = M.ce j) ∧ s.I 1909 0 0 = nI M.us ∧ s.I 1911 0 0 = nI M.ou.length ∧ (∀ (j : Nat) (v : Int32), M.ou[j]? = some v → s.I 1910 0 j = v) ∧ s.I 1912 0 0 = nI M.sp
/-- the machine: what runs, levels, below, frames -/
abbrev FSt : Type := MSt × Nat × Bw × List Fr
def MRl (σ : Sg) (F : FSt) (s : Sg) : Prop := Fl pMa σ s ∧ MRm s F.1 ∧ FRm σ F.2.1 F.2.2.1 F.2.2.2 s
section MRL
variable {σ s s' : Sg}
theorem LSR.fl {p : Nat → Nat → Bool} (h : Fl p s s') (hp : ∀ c, 1800 < c → c ≤ 1803 → p c 1 = false) {st : LSt} (hL : LSR s 1 st) : LSR s' 1 st := sorry
/-- frames do not touch what runs -/
theorem MRm.f {M : MSt} (h : MRm s M) (hF : Fl pFr s s') : MRm s' M := sorry
theorem SkR.eq {K : List Int32} (h : SkR s K) (h1 : s'.I 1916 0 0 = s.I 1916 0 0) (h2 : ∀ j, s'.I 1915 0 j = s.I 1915 0 j) : SkR s' K := sorry
theorem FrA.eq {S0 : Bw} : ∀ {fs : List Fr}, FrA σ S0 s fs → (∀ j, j < fs.length → s'.R 1917 0 j = s.R 1917 0 j ∧ s'.I 1918 0 j = s.I 1918 0 j ∧ s'.I 1919 0 j = s.I 1919 0 j ∧ s'.B 1920 0 j = s.B 1920 0 j) → (∀ i j, s'.R 1999 i j = s.R 1999 i j) → FrA σ S0 s' fs := sorry
theorem FRm.m {a : Nat} {S0 : Bw} {fs : List Fr} (h : FRm σ a S0 fs s) (hF : Fl pMu s s') : FRm σ a S0 fs s' := sorry
/-- what runs changes -/
theorem MRl.m {F : FSt} {M : MSt} (h : MRl σ F s) (hF : Fl pMu s s') (hM : MRm s' M) : MRl σ (M, F.2) s' := sorry
/-- frames change -/
theorem MRl.f {F : FSt} {a : Nat} {S0 : Bw} {fs : List Fr} (h : MRl σ F s) (hF : Fl pFr s s') (hM : FRm σ a S0 fs s') : MRl σ (F.1, a, S0, fs) s' := sorry
theorem MRl.st {F : FSt} (h : MRl σ F s) : stat s = stat σ := sorry
/-! the stack -/
theorem SkR.push {K : List Int32} {v : Int32} (h : SkR s K) (hn : K.length < 16000) : SkR (sI (sI s 1916 0 0 (s.I 1916 0 0 + 1)) 1915 0 (s.I 1916 0 0).toNatClampNeg v) (K ++ [v]) := sorry
theorem SkR.app {K L : List Int32} (h : SkR s (K ++ L)) (hn : K.length + L.length < 2 ^ 31) : s.I 1916 0 0 = nI (K.length + L.length) ∧ (∀ (j : Nat) (v : Int32), K[j]? = some v → s.I 1915 0 j = v) ∧ ∀ (j : Nat) (v : Int32), L[j]? = some v → s.I 1915 0 (K.length + j) = v := sorry
/-- the stack is cut -/
theorem SkR.cut {K L : List Int32} {x : Int32} (h : SkR s (K ++ L)) (hx : x = nI K.length) : SkR (sI s 1916 0 0 x) K := sorry
theorem SkR.set {K L : List Int32} {v w : Int32} (h : SkR s (K ++ v :: L)) : SkR (sI s 1915 0 K.length w) (K ++ w :: L) := sorry
end MRL
