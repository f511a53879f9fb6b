/-! World.selected, field, nestOf, lets (without a linker) -/
/-- the nearest method of a row of parents that is chosen for m -/
def wSelW (σ : Sg) (w m : Nat) : Nat → Option Nat → Option Nat
  | 0, _ => none
  | _ + 1, none => none
  | n + 1, some c => match kMet σ c m with
    | none => wSelW σ w m n (wPar σ w c)
    | some q => if mObj σ q = true ∧ (q = m ∨ wOv σ w q m = true) then some q else wSelW σ w m n (wPar σ w c)
noncomputable def wSel (σ : Sg) (w m r : Nat) : Option Nat := if σ.I 1202 m 0 = 0 then some m else match wSelW σ w m 62 (some r) with
  | some q => if σ.B 1205 q 0 = true then none else some q
  | none => wMSr σ w r m
noncomputable def wSelc (σ : Sg) (w m r : Nat) : Int32 := match wSelW σ w m 62 (some r) with
  | some _ => 6
  | none => wMSc σ w r m
theorem subCW (c i : Nat) (h : pC c i = true) : pW c i = true := sorry
theorem subHW (c i : Nat) (h : pH c i = true) : pW c i = true := sorry
/-- looking for a field -/
abbrev FD : Type := List Nat × Option Nat
def fdl (g : Nat → List Nat → Option FD) : List Nat → FD → Option FD
  | [], st => some st
  | f :: fs, (K, none) => (g f K).bind (fdl g fs)
  | _ :: _, (K, some m) => some (K, some m)
def fds (σ : Sg) (w : Nat) (nm ty : Int64) : Nat → Nat → List Nat → Option FD
  | 0, _, _ => none
  | n + 1, k, K => if k ∈ K then some (K, none) else (fdl (fds σ w nm ty n) (wFs σ w k) (K ++ [k], kFld σ k nm ty)).bind (fun st => match st.2 with
    | some m => some (st.1, some m)
    | none => match wPar σ w k with
      | none => some (st.1, none)
      | some p => fds σ w nm ty n p st.1)
def LGood (U K : List Nat) : Prop := K.Nodup ∧ ∀ x, x ∈ K → x ∈ U
theorem LGood.see {U K : List Nat} (h : LGood U K) {k : Nat} (hk : k ∉ K) (hU : k ∈ U) : LGood U (K ++ [k]) := sorry
theorem fds_some {σ : Sg} {w : Nat} {nm ty : Int64} {U : List Nat} (hU : ∀ x, x ∈ wKs σ w → x ∈ U) : ∀ (n k : Nat) (K : List Nat), LGood U K → k ∈ U → U.length < n + K.length → ∃ st, fds σ w nm ty n k K = some st ∧ LGood U st.1 ∧ K.length ≤ st.1.length := sorry
def wFd (σ : Sg) (w k : Nat) (nm ty : Int64) : FD := (fds σ w nm ty 64 k []).getD ([], none)
/-- the field; where it was looked for -/
def wFld (σ : Sg) (w k : Nat) (nm ty : Int64) : Option Nat := (wFd σ w k nm ty).2
def wFlk (σ : Sg) (w k : Nat) (nm ty : Int64) : List Nat := (wFd σ w k nm ty).1
def pL (c _i : Nat) : Bool := rg 1311 1313 c
def LR (ρ : Sg) (w : Nat) (K : List Nat) : Prop := ρ.I 1313 w 0 = nI K.length ∧ Row ρ 1312 w K
theorem LR.see {ρ : Sg} {w : Nat} {K : List Nat} (h : LR ρ w K) (k : Nat) : LR (sR (sI ρ 1313 w 0 (nI (K.length + 1))) 1312 w K.length (some k)) w (K ++ [k]) := sorry
theorem wSelW_st {σ : Sg} {w m : Nat} : ∀ n c, wSelW (stat σ) w m n c = wSelW σ w m n c := sorry
theorem wSel_st {σ : Sg} {w m r : Nat} : wSel (stat σ) w m r = wSel σ w m r := sorry
theorem wSelc_st {σ : Sg} {w m r : Nat} : wSelc (stat σ) w m r = wSelc σ w m r := sorry
theorem kFld_st {σ : Sg} {k : Nat} {nm ty : Int64} : kFld (stat σ) k nm ty = kFld σ k nm ty := sorry
theorem fds_st {σ : Sg} {w : Nat} {nm ty : Int64} : ∀ n, fds (stat σ) w nm ty n = fds σ w nm ty n := sorry
theorem wFd_st {σ : Sg} {w k : Nat} {nm ty : Int64} : wFd (stat σ) w k nm ty = wFd σ w k nm ty := sorry
theorem wSel_mix {p : Nat → Nat → Bool} {σ ρ : Sg} (h : ∀ c i, sc c = true → p c i = false) {w m r : Nat} : wSel (mix p σ ρ) w m r = wSel σ w m r := sorry
theorem wSelc_mix {p : Nat → Nat → Bool} {σ ρ : Sg} (h : ∀ c i, sc c = true → p c i = false) {w m r : Nat} : wSelc (mix p σ ρ) w m r = wSelc σ w m r := sorry
theorem wFd_mix {p : Nat → Nat → Bool} {σ ρ : Sg} (h : ∀ c i, sc c = true → p c i = false) {w k : Nat} {nm ty : Int64} : wFd (mix p σ ρ) w k nm ty = wFd σ w k nm ty := sorry
section SPD
variable {l : Launch} {G : Gl} {σ : Sg}
theorem sp_X3_selected (hG : GOK G) {d : Nat} (hd : 70 ≤ d) {w : Nat} (hw : w < cnt 3) (hW : WOK σ w) (hS : Shp σ) (hM : MOK σ) {m r : Nat} (hm : Liv σ m) (hm1 : kMet σ (mOf σ m) m = some m) (hm2 : m < cnt 2) (hr : r < cnt 1) : CT l G yX3_selected (ws_ yX3_selected cX3_selected 6 (some (.object "LinkHouse$Member"))) d [.ref (G.adr 3 w), rv G 2 (some m), rv G 1 (some r)] σ (rR G 2 (wSel σ w m r) (fun s => ∃ ρ, s = mix pW σ ρ ∧ (wSel σ w m r = none → ρ.I 1310 w 0 = wSelc σ w m r))) := sorry
theorem sp_X3_fieldFrom (hG : GOK G) {w : Nat} (hw : w < cnt 3) (hW : WOK σ w) (hS : Shp σ) (nm ty : Int64) {U : List Nat} (hU : U.length ≤ 63) (hU2 : ∀ x, x ∈ wKs σ w → x ∈ U) (hU3 : ∀ x, x ∈ U → x < cnt 1) : ∀ (n d k : Nat) (K : List Nat) (st : FD) (ρ : Sg), n + 3 ≤ d → k ∈ U → LGood U K → fds σ w nm ty n k K = some st → LR ρ w K → CT l G yX3_fieldFrom (ws_ yX3_fieldFrom cX3_fieldFrom 9 (some (.object "LinkHouse$Member"))) d [.ref (G.adr 3 w), rv G 1 (some k), .long nm, .long ty] (mix pL σ ρ) (rR G 2 st.2 (fun s => ∃ ρ', s = mix pL σ ρ' ∧ LR ρ' w st.1 ∧ LGood U st.1)) := sorry
theorem sp_X3_field (hG : GOK G) {d : Nat} (hd : 68 ≤ d) {w : Nat} (hw : w < cnt 3) (hW : WOK σ w) (hS : Shp σ) {k : Nat} (hk : k < cnt 1) (nm ty : Int64) : CT l G yX3_field (ws_ yX3_field cX3_field 6 (some (.object "LinkHouse$Member"))) d [.ref (G.adr 3 w), rv G 1 (some k), .long nm, .long ty] σ (rR G 2 (wFld σ w k nm ty) (fun s => ∃ ρ, s = mix pL σ ρ ∧ LR ρ w (wFlk σ w k nm ty) ∧ LGood (k :: wKs σ w) (wFlk σ w k nm ty))) := sorry
/-- the nest of a class, with no linker asked -/
def wNst (σ : Sg) (w k : Nat) : Nat := if σ.L 1110 k 0 = 0 then k else match wFind σ w (σ.L 1110 k 0) with
  | none => k
  | some h => if σ.I 1101 h 0 = σ.I 1101 k 0 ∧ kWit σ h (σ.L 1100 k 0) = true then h else k
theorem sp_X3_nestOf (hG : GOK G) {d : Nat} (hd : 2 ≤ d) {w : Nat} (hw : w < cnt 3) (hW : WOK σ w) (hS : Shp σ) {k : Nat} (hk : k < cnt 1) : CT l G yX3_nestOf (ws_ yX3_nestOf cX3_nestOf 4 (some (.object "LinkHouse$Kind"))) d [.ref (G.adr 3 w), rv G 1 (some k), rv G 8 none] σ (rR G 1 (some (wNst σ w k)) (fun s => s = σ)) := sorry
/-- whether member m of c, named by x, is let to a; na, nc: their nests -/
noncomputable def mLts (σ : Sg) (w a c m x na nc : Nat) : Bool := if (σ.I 1202 m 0).toInt = 1 then decide (σ.I 1101 a 0 = σ.I 1101 c 0) else if (σ.I 1202 m 0).toInt = 2 then decide (σ.I 1101 a 0 = σ.I 1101 c 0) || ((decide (a = c) || wHb σ w a c) && (σ.B 1203 m 0 || (decide (x = a) || (wHb σ w x a || wHb σ w a x)))) else if (σ.I 1202 m 0).toInt = 3 then true else decide (a = c) || decide (na = nc)
theorem sp_X3_lets (hG : GOK G) {d : Nat} (hd : 4 ≤ d) {w : Nat} (hw : w < cnt 3) (hW : WOK σ w) (hS : Shp σ) {a c m x : Nat} (ha : a < cnt 1) (hc : c < cnt 1) (hm : m < cnt 2) (hx : x < cnt 1) : CT l G yX3_lets (ws_ yX3_lets cX3_lets 6 (some .boolean)) d [.ref (G.adr 3 w), rv G 1 (some a), rv G 1 (some c), rv G 2 (some m), rv G 1 (some x), rv G 8 none] σ (rZ (mLts σ w a c m x (wNst σ w a) (wNst σ w c)) (fun s => ∃ ρ, s = mix pH σ ρ)) := sorry
end SPD
