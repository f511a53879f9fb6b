/-! World.facesOf, layFaces: all faces of a class in their order -/
def wFsF (σ : Sg) (w k : Nat) : Nat → Nat → List Nat
  | 0, _ => []
  | n + 1, j => match wFind σ w (σ.L 1108 k j) with
    | none => wFsF σ w k n (j + 1)
    | some f => f :: wFsF σ w k n (j + 1)
/-- the direct faces that are there -/
def wFs (σ : Sg) (w k : Nat) : List Nat := wFsF σ w k (nFc σ k) 0
theorem wFsF_in {σ : Sg} {w k : Nat} : ∀ (n j : Nat) (f : Nat), f ∈ wFsF σ w k n j → f ∈ wKs σ w := sorry
/-- what is seen, what is listed -/
abbrev FS : Type := List Nat × List Nat
def fsl (g : Nat → FS → Option FS) : List Nat → FS → Option FS
  | [], st => some st
  | f :: fs, st => if f ∈ st.2 then fsl g fs st else (g f (st.1, st.2 ++ [f])).bind (fsl g fs)
def fcs (σ : Sg) (w : Nat) : Nat → Nat → FS → Option FS
  | 0, _, _ => none
  | n + 1, k, st => if k ∈ st.1 then some st else (fsl (fcs σ w n) (wFs σ w k) (st.1 ++ [k], st.2)).bind (fun st' => match wPar σ w k with
    | none => some st'
    | some p => fcs σ w n p st')
def FGood (U : List Nat) (st : FS) : Prop := st.1.Nodup ∧ st.2.Nodup ∧ (∀ x, x ∈ st.1 → x ∈ U) ∧ ∀ x, x ∈ st.2 → x ∈ U
theorem nodup_snoc {L : List Nat} {k : Nat} (h : L.Nodup) (hk : k ∉ L) : (L ++ [k]).Nodup := sorry
theorem FGood.see {U : List Nat} {st : FS} (h : FGood U st) {k : Nat} (hk : k ∉ st.1) (hU : k ∈ U) : FGood U (st.1 ++ [k], st.2) := sorry
theorem FGood.add {U : List Nat} {st : FS} (h : FGood U st) {k : Nat} (hk : k ∉ st.2) (hU : k ∈ U) : FGood U (st.1, st.2 ++ [k]) := sorry
theorem FGood.len {U : List Nat} {st : FS} (h : FGood U st) : st.1.length ≤ U.length ∧ st.2.length ≤ U.length := sorry
theorem fcs_some {σ : Sg} {w : Nat} {U : List Nat} (hU : ∀ x, x ∈ wKs σ w → x ∈ U) : ∀ (n k : Nat) (st : FS), FGood U st → k ∈ U → U.length < n + st.1.length → ∃ st', fcs σ w n k st = some st' ∧ FGood U st' ∧ st.1.length ≤ st'.1.length := sorry
/-- all faces of a class, in the order in which they are found -/
def wAF (σ : Sg) (w k : Nat) : List Nat := match fcs σ w 64 k ([], []) with
  | some st => st.2
  | none => []
/-- the columns in which facesOf works -/
def pF (c _i : Nat) : Bool := rg 1303 1307 c
def FR (ρ : Sg) (w : Nat) (st : FS) : Prop := ρ.I 1305 w 0 = nI st.2.length ∧ ρ.I 1307 w 0 = nI st.1.length ∧ Row ρ 1304 w st.2 ∧ Row ρ 1306 w st.1
theorem Row.other {σ : Sg} {c c' i i' j : Nat} {v : Option Nat} {L : List Nat} (h : Row σ c i L) (hc : c ≠ c') : Row (sR σ c' i' j v) c i L := sorry
theorem FR.see {ρ : Sg} {w : Nat} {st : FS} (h : FR ρ w st) (k : Nat) : FR (sR (sI ρ 1307 w 0 (nI (st.1.length + 1))) 1306 w st.1.length (some k)) w (st.1 ++ [k], st.2) := sorry
theorem FR.add {ρ : Sg} {w : Nat} {st : FS} (h : FR ρ w st) (k : Nat) : FR (sR (sI ρ 1305 w 0 (nI (st.2.length + 1))) 1304 w st.2.length (some k)) w (st.1, st.2 ++ [k]) := sorry
section SPF
variable {l : Launch} {G : Gl} {σ : Sg}
theorem sp_X3_facesOf (hG : GOK G) {w : Nat} (hw : w < cnt 3) (hW : WOK σ w) (hS : Shp σ) {U : List Nat} (hU : U.length ≤ 63) (hU2 : ∀ x, x ∈ wKs σ w → x ∈ U) (hU3 : ∀ x, x ∈ U → x < cnt 1) : ∀ (n d k : Nat) (st st' : FS) (ρ : Sg), n + 3 ≤ d → k ∈ U → FGood U st → fcs σ w n k st = some st' → FR ρ w st → CT l G yX3_facesOf (ws_ yX3_facesOf cX3_facesOf 4 none) d [.ref (G.adr 3 w), rv G 1 (some k)] (mix pF σ ρ) (rV (fun s => ∃ ρ', s = mix pF σ ρ' ∧ FR ρ' w st' ∧ FGood U st')) := sorry
theorem sp_X3_layFaces (hG : GOK G) {d : Nat} (hd : 68 ≤ d) {w : Nat} (hw : w < cnt 3) (hW : WOK σ w) (hS : Shp σ) {k : Nat} (hk : k < cnt 1) : CT l G yX3_layFaces (ws_ yX3_layFaces cX3_layFaces 2 (some .int)) d [.ref (G.adr 3 w), rv G 1 (some k)] σ (rI (nI (wAF σ w k).length) (fun s => ∃ ρ, s = mix pF σ ρ ∧ ρ.I 1305 w 0 = nI (wAF σ w k).length ∧ Row ρ 1304 w (wAF σ w k))) := sorry
end SPF
