/-! SPECIFICATIONS of World: names, parents, heirs, faces. -/
/-- the columns of p are those of ρ, the others those of σ -/
def mix (p : Nat → Nat → Bool) (σ ρ : Sg) : Sg := (fun c i j => cond (p c i) (ρ.1 c i j) (σ.1 c i j), fun c i j => cond (p c i) (ρ.2.1 c i j) (σ.2.1 c i j), fun c i j => cond (p c i) (ρ.2.2.1 c i j) (σ.2.2.1 c i j), fun c i j => cond (p c i) (ρ.2.2.2 c i j) (σ.2.2.2 c i j))
theorem mix_self (p : Nat → Nat → Bool) (σ : Sg) : mix p σ σ = σ := sorry
theorem mix_mix {p : Nat → Nat → Bool} {σ ρ τ : Sg} : mix p (mix p σ ρ) τ = mix p σ τ := sorry
theorem u3_cond {α : Type} {p : Nat → Nat → Bool} {f g : Nat → Nat → Nat → α} {c i j : Nat} {v : α} (h : p c i = true) : u3 (fun c i j => cond (p c i) (g c i j) (f c i j)) c i j v = fun c' i' j' => cond (p c' i') (u3 g c i j v c' i' j') (f c' i' j') := sorry
theorem mix_sI {p : Nat → Nat → Bool} {σ ρ : Sg} {c i j : Nat} {v : Int32} (h : p c i = true) : sI (mix p σ ρ) c i j v = mix p σ (sI ρ c i j v) := sorry
theorem mix_sB {p : Nat → Nat → Bool} {σ ρ : Sg} {c i j : Nat} {v : Bool} (h : p c i = true) : sB (mix p σ ρ) c i j v = mix p σ (sB ρ c i j v) := sorry
theorem mix_sL {p : Nat → Nat → Bool} {σ ρ : Sg} {c i j : Nat} {v : Int64} (h : p c i = true) : sL (mix p σ ρ) c i j v = mix p σ (sL ρ c i j v) := sorry
theorem mix_sR {p : Nat → Nat → Bool} {σ ρ : Sg} {c i j : Nat} {v : Option Nat} (h : p c i = true) : sR (mix p σ ρ) c i j v = mix p σ (sR ρ c i j v) := sorry
theorem u3_same {α : Type} {f : Nat → Nat → Nat → α} {c i j : Nat} {v : α} : u3 f c i j v c i j = v := sorry
theorem u3_j {α : Type} {f : Nat → Nat → Nat → α} {c i j j' : Nat} {v : α} (h : j' ≠ j) : u3 f c i j v c i j' = f c i j' := sorry
theorem u3_i {α : Type} {f : Nat → Nat → Nat → α} {c i i' j j' : Nat} {v : α} (h : i' ≠ i) : u3 f c i j v c i' j' = f c i' j' := sorry
/-- more than lo, at most hi -/
def rg (lo hi c : Nat) : Bool := Nat.ble c hi && !Nat.ble c lo
theorem rg_iff {lo hi c : Nat} : rg lo hi c = true ↔ lo < c ∧ c ≤ hi := sorry
theorem rg_f {lo hi c : Nat} (h : c ≤ lo) : rg lo hi c = false := sorry
theorem rg_sub {lo hi lo' hi' c : Nat} (h1 : lo' ≤ lo) (h2 : hi ≤ hi') (h : rg lo hi c = true) : rg lo' hi' c = true := sorry
/-- the columns in which World works -/
def pW (c _i : Nat) : Bool := rg 1303 1313 c
theorem nodup_le : ∀ (l m : List Nat), l.Nodup → (∀ x, x ∈ l → x ∈ m) → l.length ≤ m.length := sorry
/-- a world's kinds -/
def nWd (σ : Sg) (w : Nat) : Nat := (σ.I 1303 w 0).toNatClampNeg
def wK (σ : Sg) (w j : Nat) : Nat := (σ.R 1302 w j).getD 0
def WOK (σ : Sg) (w : Nat) : Prop := ∃ n, n ≤ 62 ∧ σ.I 1303 w 0 = nI n ∧ ∀ j, j < n → ∃ k, k < 194 ∧ σ.R 1302 w j = some k
theorem WOK.n {σ : Sg} {w : Nat} (h : WOK σ w) : nWd σ w ≤ 62 ∧ σ.I 1303 w 0 = nI (nWd σ w) := sorry
theorem WOK.k {σ : Sg} {w : Nat} (h : WOK σ w) {j : Nat} (hj : j < nWd σ w) : wK σ w j < cnt 1 ∧ σ.R 1302 w j = some (wK σ w j) := sorry
def wKs (σ : Sg) (w : Nat) : List Nat := (List.range (nWd σ w)).map (wK σ w)
theorem wKs_len {σ : Sg} {w : Nat} : (wKs σ w).length = nWd σ w := sorry
def wFind (σ : Sg) (w : Nat) (nm : Int64) : Option Nat := (ffirst (fun j => decide (σ.L 1100 (wK σ w j) 0 = nm)) (nWd σ w) 0).map (wK σ w)
theorem wFind_in {σ : Sg} {w : Nat} {nm : Int64} {k : Nat} (h : wFind σ w nm = some k) : k ∈ wKs σ w ∧ σ.L 1100 k 0 = nm := sorry
theorem WOK.lt {σ : Sg} {w : Nat} (h : WOK σ w) {k : Nat} (hk : k ∈ wKs σ w) : k < cnt 1 := sorry
def wPar (σ : Sg) (w k : Nat) : Option Nat := if σ.B 1102 k 0 = true ∨ σ.L 1100 k 0 = 6927257 then none else wFind σ w (σ.L 1107 k 0)
theorem wPar_in {σ : Sg} {w k p : Nat} (h : wPar σ w k = some p) : p ∈ wKs σ w := sorry
/-- one class stands directly above another -/
def wSt (σ : Sg) (w a b : Nat) : Prop := wPar σ w a = some b ∨ ∃ j, j < nFc σ a ∧ wFind σ w (σ.L 1108 a j) = some b
theorem wSt_in {σ : Sg} {w a b : Nat} (h : wSt σ w a b) : b ∈ wKs σ w := sorry
def wHr (σ : Sg) (w a b : Nat) : Prop := Relation.TransGen (wSt σ w) a b
noncomputable def wHb (σ : Sg) (w a b : Nat) : Bool := @decide (wHr σ w a b) (Classical.propDecidable _)
theorem wHb_t {σ : Sg} {w a b : Nat} (h : wHr σ w a b) : wHb σ w a b = true := sorry
theorem wHb_f {σ : Sg} {w a b : Nat} (h : ¬ wHr σ w a b) : wHb σ w a b = false := sorry
theorem wHb_iff {σ : Sg} {w a b : Nat} : wHb σ w a b = true ↔ wHr σ w a b := sorry
theorem wHr_step {σ : Sg} {w a b c : Nat} (h : b = a ∨ wHr σ w a b) (s : wSt σ w b c) : wHr σ w a c := sorry
theorem wHr_closed {σ : Sg} {w a b : Nat} {M : List Nat} (ha : a ∈ M) (hc : ∀ x, x ∈ M → ∀ y, wSt σ w x y → y ≠ b ∧ y ∈ M) : ¬ wHr σ w a b := sorry
theorem ka1304 : KA 1304 64 := sorry
theorem ka1306 : KA 1306 64 := sorry
theorem ka1311 : KA 1311 64 := sorry
theorem ka1312 : KA 1312 128 := sorry
/-- a row of kinds holds a list -/
def Row (σ : Sg) (c i : Nat) (L : List Nat) : Prop := ∀ j, j < L.length → σ.R c i j = L[j]?
theorem Row.snoc {σ : Sg} {c i : Nat} {L : List Nat} (h : Row σ c i L) (k : Nat) : Row (sR σ c i L.length (some k)) c i (L ++ [k]) := sorry
theorem mem_no {a x : Nat} {l : List Nat} (h : a ≠ x) : decide (a ∈ x :: l) = decide (a ∈ l) := sorry
theorem mem_yes {a x : Nat} {l : List Nat} (h : a = x) : decide (a ∈ x :: l) = true := sorry
section SPW
variable {l : Launch} {G : Gl} {d : Nat} {σ : Sg}
theorem sp_X3_find (hG : GOK G) (hd : 1 ≤ d) {w : Nat} (hw : w < cnt 3) (hW : WOK σ w) (nm : Int64) : CT l G yX3_find (ws_ yX3_find cX3_find 4 (some (.object "LinkHouse$Kind"))) d [.ref (G.adr 3 w), .long nm] σ (rR G 1 (wFind σ w nm) (fun s => s = σ)) := sorry
theorem sp_X3_parent (hG : GOK G) (hd : 2 ≤ d) {w : Nat} (hw : w < cnt 3) (hW : WOK σ w) {a : Nat} (ha : a < cnt 1) : CT l G yX3_parent (ws_ yX3_parent cX3_parent 2 (some (.object "LinkHouse$Kind"))) d [.ref (G.adr 3 w), rv G 1 (some a)] σ (rR G 1 (wPar σ w a) (fun s => s = σ)) := sorry
theorem sp_X3_isIn (hG : GOK G) (hd : 1 ≤ d) {fa fn fi : Nat} (hfa : KA fa fn) (hfi : fi < cnt fa) {L : List Nat} (hL : Row σ fa fi L) (hn : L.length ≤ fn) (hn2 : fn < 2 ^ 31) {x : Int32} (hx : x = nI L.length) {a : Nat} (ha : a < cnt 1) : CT l G yX3_isIn (ws_ yX3_isIn cX3_isIn 5 (some .boolean)) d [.ref (G.adr fa fi), .int x, rv G 1 (some a)] σ (rZ (decide (a ∈ L)) (fun s => s = σ)) := sorry
end SPW
