/-! Judging, the model: a class and its parents. -/
/-- a class and its parents, until there is none or one comes again -/
def jPl (τ : Sg) (w : Nat) : Nat → List Nat → Option Nat → List Nat
  | 0, P, _ => P
  | _ + 1, P, none => P
  | n + 1, P, some x => if x ∈ P then P else jPl τ w n (P ++ [x]) (wPar τ w x)
def jPs (τ : Sg) (w k : Nat) : List Nat := jPl τ w 64 [] (some k)
theorem jPl_ok {τ : Sg} {w : Nat} {U : List Nat} (hU : ∀ x, x ∈ wKs τ w → x ∈ U) (hl : U.length ≤ 63) : ∀ (n : Nat) (P : List Nat) (o : Option Nat), P.Nodup → (∀ x, x ∈ P → x ∈ U) → (∀ x, o = some x → x ∈ U) → 64 ≤ n + P.length → (∀ x, x ∈ P → ∀ y, wPar τ w x = some y → y ∈ P ∨ o = some y) → (jPl τ w n P o).Nodup ∧ (∀ x, x ∈ jPl τ w n P o → x ∈ U) ∧ (∃ Q, jPl τ w n P o = P ++ Q) ∧ ∀ x, x ∈ jPl τ w n P o → ∀ y, wPar τ w x = some y → y ∈ jPl τ w n P o := sorry
theorem jPl_len {τ : Sg} {w : Nat} : ∀ (n : Nat) (P : List Nat) (o : Option Nat), P.length ≤ (jPl τ w n P o).length := sorry
/-- the row is a beginning of the way upwards -/
theorem jPl_up {τ : Sg} {w k : Nat} : ∀ (n : Nat) (Q : List Nat) (o : Option Nat), Q.length ≤ 62 → jUps τ w 62 (wPar τ w k) = Q ++ jUps τ w (62 - Q.length) o → (jPl τ w n (k :: Q) o).length ≤ 63 → ∃ R, jPl τ w n (k :: Q) o = k :: R ∧ ∀ x, x ∈ R → x ∈ jUps τ w 62 (wPar τ w k) := sorry
/-- who stands on the way upwards is above -/
theorem jUps_hr {τ : Sg} {w k : Nat} : ∀ (n : Nat) (o : Option Nat), (∀ x, o = some x → wHr τ w k x) → ∀ y, y ∈ jUps τ w n o → wHr τ w k y := sorry
theorem jUps_cl {τ : Sg} {w : Nat} {S : List Nat} (hc : ∀ x, x ∈ S → ∀ y, wPar τ w x = some y → y ∈ S) : ∀ (n : Nat) (o : Option Nat), (∀ x, o = some x → x ∈ S) → ∀ y, y ∈ jUps τ w n o → y ∈ S := sorry
/-- the parents of a class that is not its own heir: the model's row is LinkHouse's way -/
theorem jPs_ok {τ : Sg} {k : Nat} (hW : WOK τ 1) (hn : ¬ wHr τ 1 k k) : ∃ R, jPs τ 1 k = k :: R ∧ (k :: R).Nodup ∧ (∀ x, x ∈ R → x ∈ wKs τ 1) ∧ R.length ≤ 62 ∧ ∀ x, x ∈ R ↔ x ∈ jUps τ 1 62 (wPar τ 1 k) := sorry
theorem any_iff {α : Type} {p : α → Bool} {xs ys : List α} (h : ∀ x, x ∈ xs ↔ x ∈ ys) : xs.any p = ys.any p := sorry
def pRo (fa c _i : Nat) : Bool := Nat.beq c fa
theorem pRo_s {fa : Nat} (hfa : 2196 < fa) (c i : Nat) (h : scM c = true) : pRo fa c i = false := sorry
section SPX
variable {l : Launch} {G : Gl} {d : Nat}
theorem sp_X11_stoodBefore (hG : GOK G) {σ : Sg} {fa x : Nat} {P : List Nat} (hd : 1 ≤ d) (hfa : IA fa 216) (hfi : 0 < cnt fa) (hR : CRow σ fa P) (hP : ∀ c, c ∈ P → c < cnt 1) (hx : x < cnt 1) (hl : P.length ≤ 216) {n y : Int32} (hn : n = nI P.length) (hy : y = nI (cM x)) : CT l G yX11_stoodBefore (ws_ yX11_stoodBefore cX11_stoodBefore 5 (some .boolean)) d [.ref (G.adr fa 0), .int n, .int y] σ (rZ (decide (x ∈ P)) (fun s => s = σ)) := sorry
theorem sp_X11_parents (hG : GOK G) {τ σ : Sg} {w c fa : Nat} (hd : 4 ≤ d) (hfa : IA fa 216) (hfi : 0 < cnt fa) (hfa2 : 2196 < fa) (hU0 : MWd τ σ w (c :: wKs τ w)) {x1 : Int32} (e1 : x1 = nI (cM c)) : CT l G yX11_parents (ws_ yX11_parents cX11_parents 5 (some .int)) d [.ref (G.adr 11 0), .int x1, .ref (G.adr fa 0)] σ (rI (nI (jPs τ w c).length) (fun s => ∃ ρ, s = mix (pRo fa) σ ρ ∧ CRow ρ fa (jPs τ w c))) := sorry
end SPX
