/-! Faces that start before a class: gone along with, and without, a look at what was seen. -/
/-- the faces of a class -/
def fcF (τ : Sg) (k : Nat) : Nat → Nat → List Nat
  | 0, _ => []
  | n + 1, j => (wFind τ 0 (τ.L 1108 k j)).getD 0 :: fcF τ k n (j + 1)
def fcOf (τ : Sg) (k : Nat) : List Nat := fcF τ k (nFc τ k) 0
def visR (g : Nat → MSt → Rz Unit) : List Nat → MSt → Rz Unit
  | [], s => rzk s ()
  | f :: fs, s => rzb (g f s) fun s _ => visR g fs s
def stW (τ : Sg) (S : StaF) (f : Nat) (s : MSt) : Rz Unit := if kWh τ f = true then S f s else rzk s ()
/-- a face: its own ones, then itself -/
def vis (τ : Sg) (S : StaF) : Nat → Nat → MSt → Rz Unit
  | 0, _, s => rzk s ()
  | n + 1, f, s => rzb (visR (vis τ S n) (fcOf τ f) s) fun s _ => stW τ S f s
theorem rzb_as {α β γ : Type} {r : Rz α} {k1 : MSt → α → Rz β} {k2 : MSt → β → Rz γ} : rzb (rzb r k1) k2 = rzb r (fun s a => rzb (k1 s a) k2) := sorry
theorem rzb_eta {r : Rz Unit} : rzb r (fun s _ => rzk s ()) = r := sorry
/-- it has been started -/
def DnS (τ : Sg) (x : Nat) (M : MSt) : Prop := τ.I 1101 x 0 = 26 ∨ (M.sr (nW τ x) ≠ 0 ∧ M.sr (nW τ x) ≠ 3)
/-- a face and all above it have been started -/
def ADn (τ : Sg) (f : Nat) (M : MSt) : Prop := ∀ x, (x = f ∨ wHr τ 0 f x) → kWh τ x = true → DnS τ x M
/-- what starts do -/
def StD (τ : Sg) (S : StaF) : Prop := (∀ k s t, S k s = (t, .ok ()) → DnS τ k t) ∧ ∀ k s, DnS τ k s → S k s = rzk s ()
section VIS
variable {τ : Sg} {P : Pg} {S : StaF} {M N : MSt} {f k : Nat}
theorem DnS.ext (h : DnS τ f M) (hE : Ext M N) : DnS τ f N := sorry
theorem ADn.ext (h : ADn τ f M) (hE : Ext M N) : ADn τ f N := sorry
theorem ADn.up {g : Nat} (h : ADn τ f M) (hs : wSt τ 0 f g) : ADn τ g M := sorry
theorem wHr_st {a b : Nat} (h : wHr τ 0 a b) : ∃ g, wSt τ 0 a g ∧ (b = g ∨ wHr τ 0 g b) := sorry
theorem fcF_in {st : LSt} (hB : BIK τ) (hC : LCL τ st) (hk : Ldd τ st k) : ∀ (n j : Nat), j + n = nFc τ k → ∀ x, x ∈ fcF τ k n j → wSt τ 0 k x ∧ Ldd τ st x ∧ τ.B 1102 x 0 = true := sorry
theorem fcF_of {n j x : Nat} (h1 : wFind τ 0 (τ.L 1108 k x) = some f) (h2 : j ≤ x) (h3 : x < j + n) : f ∈ fcF τ k n j := sorry
theorem fcF_len : ∀ (n j : Nat), (fcF τ k n j).length = n := sorry
/-- all is done -/
theorem ADn.mk (hf : τ.B 1102 f 0 = true) (h1 : ∀ g, g ∈ fcOf τ f → ADn τ g M) (h2 : kWh τ f = true → DnS τ f M) : ADn τ f M := sorry
theorem visR_dn {g : Nat → MSt → Rz Unit} : ∀ (L : List Nat), (∀ x, x ∈ L → g x M = rzk M ()) → visR g L M = rzk M () := sorry
theorem vis_dn (hB : BIK τ) (hC : LCL τ M.ls) (hS : StD τ S) : ∀ (n f : Nat), Ldd τ M.ls f → ADn τ f M → vis τ S n f M = rzk M () := sorry
theorem Ldd.ex (h : Ldd τ M.ls f) (hE : Ext M N) : Ldd τ N.ls f := sorry
theorem stW_ok (hK : StK τ S) (hf : f ∈ wKs τ 0) (hI : MInv τ M) : RzOk τ M (stW τ S f M) (fun _ _ => True) := sorry
theorem stW_dn (hS : StD τ S) (h : stW τ S f M = (N, .ok ())) (hb : kWh τ f = true) : DnS τ f N := sorry
theorem RzOk.at {α : Type} {r : Rz α} {Q : MSt → α → Prop} {a : α} (h : RzOk τ M r Q) (e : r = (N, .ok a)) : MInv τ N ∧ Ext M N ∧ Q N a := sorry
theorem RzOk.wi {α : Type} {r : Rz α} {Q R : MSt → α → Prop} (h : RzOk τ M r Q) (hw : ∀ t a, r = (t, .ok a) → R t a) : RzOk τ M r R := sorry
/-- a row of faces -/
theorem visR_ok {g : Nat → MSt → Rz Unit} : ∀ (L : List Nat) (M : MSt), (∀ x N, x ∈ L → MInv τ N → Ext M N → RzOk τ N (g x N) (fun t _ => ADn τ x t)) → MInv τ M → RzOk τ M (visR g L M) (fun t _ => ∀ x, x ∈ L → ADn τ x t) := sorry
theorem vis_ok (hM : WMa τ P) (hK : StK τ S) (hS : StD τ S) : ∀ (n f : Nat) (M : MSt), hts τ f < n → Ldd τ M.ls f → τ.B 1102 f 0 = true → MInv τ M → RzOk τ M (vis τ S n f M) (fun t _ => ADn τ f t) := sorry
/-! LinkHouse's row of faces -/
theorem stFs_app : ∀ (A B : List Nat) (M : MSt), stFs τ S (A ++ B) M = rzb (stFs τ S A M) fun s _ => stFs τ S B s := sorry
/-- L2 is what must be gone along behind L -/
def LyR (τ : Sg) (S : StaF) (k : Nat) (L L2 : List Nat) (v : MSt → Rz Unit) : Prop := ∀ M, MInv τ M → Ldd τ M.ls k → (∀ x, x ∈ L → ADn τ x M ∧ Ldd τ M.ls x) → stFs τ S L2 M = v M ∧ ∀ t, v M = (t, .ok ()) → Ext M t ∧ MInv τ t ∧ ∀ x, x ∈ L ++ L2 → ADn τ x t ∧ Ldd τ t.ls x
theorem lyF_vis (hM : WMa τ P) (hK : StK τ S) (hS : StD τ S) {n : Nat} (ih : ∀ k L, ∃ L2, lyU τ n k L = L ++ L2 ∧ (hts τ k ≤ n → LyR τ S k L L2 (visR (vis τ S n) (fcOf τ k)))) : ∀ (m j : Nat) (L : List Nat), j + m = nFc τ k → ∃ L2, lyF τ (lyU τ n) k m j L = L ++ L2 ∧ (hts τ k ≤ n + 1 → LyR τ S k L L2 (visR (vis τ S (n + 1)) (fcF τ k m j))) := sorry
theorem lyU_vis (hM : WMa τ P) (hK : StK τ S) (hS : StD τ S) : ∀ (n k : Nat) (L : List Nat), ∃ L2, lyU τ n k L = L ++ L2 ∧ (hts τ k ≤ n → LyR τ S k L L2 (visR (vis τ S n) (fcOf τ k))) := sorry
/-- LinkHouse's row is as good as all faces -/
theorem ly_vis (hM : WMa τ P) (hK : StK τ S) (hS : StD τ S) (hI : MInv τ M) (hk : Ldd τ M.ls k) : stFs τ S (lyU τ 64 k []) M = visR (vis τ S 64) (fcOf τ k) M := sorry
/-- levels -/
theorem mcF_sd (n : Nat) : StD τ (mcF τ P n).2 := sorry
end VIS
