/-! Judging, the model: what an E's judging leaves; an E without a left part. -/
theorem bnd_o {α β : Type} {a : α} {f : α → PR β} : bnd (.ok a) f = f a := sorry
theorem bnd_er {α β : Type} {z : Nat × Nat} {f : α → PR β} : bnd (.error z) f = .error z := sorry
theorem FLq_ne {α : Type} {s : Sg} {T : Nat → Tk} {z : Nat × Nat} (h : FLq s T (.error z : PR α)) : ¬ s.I 2120 0 0 = 0 := sorry
theorem FLq_er {α β : Type} {s : Sg} {T : Nat → Tk} {z : Nat × Nat} (h : FLq s T (.error z : PR α)) : FLq s T (.error z : PR β) := sorry
/-- a search and a check behind it -/
theorem bnd2_c {α β : Type} {s : Sg} {T : Nat → Tk} {A : PR α} {C : α → PR Unit} {F : α → β} {Ψ : α → Prop} (h3 : FLq s T (bnd A fun f => bnd (C f) fun _ => .ok f)) (h4 : ∀ f, (bnd A fun f => bnd (C f) fun _ => .ok f) = .ok f → Ψ f) : (∃ z, (bnd A fun m => bnd (C m) fun _ => .ok (F m)) = .error z ∧ FLq s T (.error z : PR β)) ∨ ∃ m, A = .ok m ∧ C m = .ok () ∧ (bnd A fun m => bnd (C m) fun _ => .ok (F m)) = .ok (F m) ∧ Ψ m ∧ s.I 2120 0 0 = nI 0 := sorry
/-- what judging a tree leaves -/
def RE (τ u s : Sg) (b : Nat) (T : Nat → Tk) (P a e lo hi : Nat) (r : PR Tr) (v : Int32) : Prop := FrJ u s b (T a).2.2.1 (T e).2.2.1 lo hi ∧ SIv s ∧ (s.I 2208 0 0 = nI P ∧ PaS u s P) ∧ FLq s T r ∧ ∀ x', r = .ok x' → MTg s b (NdA τ s T) x' lo hi v
/-- what judging a node leaves, whose type is vv -/
def RL (τ u s : Sg) (b : Nat) (T : Nat → Tk) (P a e lo hi X : Nat) (r : PR Tr) (vv : Int64) : Prop := FrJ u s b (T a).2.2.1 (T e).2.2.1 lo hi ∧ SIv s ∧ (s.I 2208 0 0 = nI P ∧ PaS u s P) ∧ FLq s T r ∧ ∀ x', r = .ok x' → vv = tM (tyO x') ∧ MTg (sL s 2176 0 X vv) b (NdA τ (sL s 2176 0 X vv) T) x' lo hi (nI X)
/-- at a node that is to be judged -/
def CX (τ u : Sg) (b k : Nat) (st : Bool) (Lc : List (Int64 × Int64 × Nat)) (B : Nat → Nat) (n L P lo hi kk e : Nat) (bb : Lb) : Prop := (BOK B n ∧ NEt (yTok B n) L ∧ e ≤ L ∧ b < 16) ∧ JM τ u b k st Lc ∧ SIv u ∧ (lo ≤ kk ∧ kk < hi ∧ hi ≤ 1700) ∧ NdC u (yTok B n) bb (b * 1700 + kk) ∧ NmOK (yTok B n) L bb ∧ bb.2.1 < e ∧ u.I 2120 0 0 = nI 0 ∧ (u.I 2208 0 0 = nI P ∧ P + (hi - lo) ≤ 1703)
theorem NdV_0 {τ s : Sg} {b : Lb} {X : Nat} (h : b.1 = 2 ∨ b.1 = 3 ∨ (11 ≤ b.1 ∧ b.1 ≤ 16) ∨ b.1 = 19 ∨ b.1 = 20) : NdV τ s b X := sorry
theorem NdV_1 {τ s : Sg} {b : Lb} {X : Nat} (h : b.1 = 1) (hv : s.I 2181 0 X = nI b.2.2.2.2.2.1) : NdV τ s b X := sorry
theorem NdV_c {τ s : Sg} {bb : Lb} {X m cl : Nat} {nm vv : Int64} (hk : bb.1 = 5 ∨ bb.1 = 7 ∨ bb.1 = 8 ∨ bb.1 = 9 ∨ bb.1 = 18) (h : ClA τ s X nm vv m) (hn : nm = tM (τ.L 1100 (cl - 1) 0)) : NdV τ s (an bb (τ.L 1207 m 0) (m + 1) cl 0) X := sorry
theorem NdV_f {τ s : Sg} {bb : Lb} {X f cl : Nat} {nm vv : Int64} (hk : bb.1 = 4 ∨ bb.1 = 6 ∨ bb.1 = 17) (h : FdA τ s X nm vv f) (hn : nm = tM (τ.L 1100 (cl - 1) 0)) : NdV τ s (an bb (τ.L 1207 f 0) (f + 1) cl 0) X := sorry
theorem NdV_k {τ s : Sg} {b : Lb} {X : Nat} (hk : b.1 = 10 ∨ b.1 = 38) (h : KpP τ s X (b.2.2.2.2.2.2.2.1 - 1)) (hl : LvP τ (b.2.2.2.2.2.2.2.1 - 1)) : NdV τ s b X := sorry
theorem NdV_ty {τ s : Sg} {b : Lb} {X : Nat} {t : Int64} (h : NdV τ s b X) (hk : ¬ b.1 = 31) : NdV τ (sL s 2176 0 X t) b X := sorry
/-- a node's type is laid: it is judged -/
theorem endN {τ s : Sg} {b kk sz lo hi w a e L n me cl sl : Nat} {B : Nat → Nat} {bb : Lb} {ty vv : Int64} {uu : Unit} {x' y' : Tr} (hb : b < 16) (hB : BOK B n) (hN : NEt (yTok B n) L) (he : e ≤ L) (hw : wt (Std.DTreeMap.Internal.Impl.inner sz (an bb ty me cl sl) uu x' y') 0 w a e) (hk : 1 ≤ bb.1 ∧ bb.1 ≤ 20) (h1 : lo ≤ kk) (h2 : kk < hi) (h3 : kk < 1700) (hT : NdT s (yTok B n) bb (b * 1700 + kk)) (hV : NdV τ s (an bb ty me cl sl) (b * 1700 + kk)) (hv : vv = tM ty) (hty : TyOK ty) (hx : 11 ≤ bb.1 → MTg s b (NdA τ s (yTok B n)) x' lo kk (s.I 2177 0 (b * 1700 + kk)) ∨ MTg s b (NdA τ s (yTok B n)) x' (kk + 1) hi (s.I 2177 0 (b * 1700 + kk))) (hy : (twy bb.1 || thy bb.1) = true → MTg s b (NdA τ s (yTok B n)) y' (kk + 1) hi (s.I 2178 0 (b * 1700 + kk))) : MTg (sL s 2176 0 (b * 1700 + kk) vv) b (NdA τ (sL s 2176 0 (b * 1700 + kk) vv) (yTok B n)) (.inner sz (an bb ty me cl sl) uu x' y') lo hi (nI (b * 1700 + kk)) := sorry
/-- judging keeps the shape -/
theorem ckE_wt {τ : Sg} {k : Nat} {st : Bool} {Lc : List (Int64 × Int64 × Nat)} : ∀ (x x' : Tr) {m w a e : Nat}, m = 0 ∨ m = 1 ∨ m = 5 → wt x m w a e → ckE τ k st Lc x = .ok x' → wt x' m w a e := sorry
/-- an E that was judged: its type -/
theorem MTg_ty {τ s : Sg} {b lo hi : Nat} {T : Nat → Tk} {x : Tr} {v : Int32} (hk : 1 ≤ kdO x ∧ kdO x ≤ 20) (h : MTg s b (NdA τ s T) x lo hi v) : ∃ j, v = nI (b * 1700 + j) ∧ j < 1700 ∧ lo ≤ j ∧ j < hi ∧ s.L 2176 0 (b * 1700 + j) = tM (tyO x) ∧ TyOK (tyO x) ∧ s.I 2171 0 (b * 1700 + j) = nI (T (trT x)).2.2.1 ∧ s.I 2170 0 (b * 1700 + j) = nI (mNk (kdO x)) := sorry
/-- a row that was judged: its types -/
theorem MTg_row {τ s : Sg} {b lo hi : Nat} {T : Nat → Tk} (hb : b < 16) : ∀ (y : Tr) (v : Int32), isRw y → MTg s b (NdA τ s T) y lo hi v → MAr s (tyL y) v := sorry
section SPX
variable {l : Launch} {G : Gl} {d : Nat} {τ : Sg} {b k n L : Nat} {st : Bool} {Lc : List (Int64 × Int64 × Nat)} {B : Nat → Nat}
/-- an E is judged as ckE says -/
def SpEm (l : Launch) (G : Gl) (d : Nat) (τ : Sg) (b k : Nat) (st : Bool) (Lc : List (Int64 × Int64 × Nat)) (B : Nat → Nat) (n L : Nat) (x : Tr) : Prop := ∀ (u : Sg) (lo hi w a e P : Nat) (v : Int32), JM τ u b k st Lc → SIv u → MTg u b (NdC u (yTok B n)) x lo hi v → wt x 0 w a e → e ≤ L → hi ≤ 1700 → u.I 2120 0 0 = nI 0 → u.I 2208 0 0 = nI P → P + (hi - lo) ≤ 1703 → CT l G yX11_judge (ws_ yX11_judge cX11_judge 5 (some .long)) d [.ref (G.adr 11 0), .int v] u (fun o s => ∃ vv, o = .returned (some (.long vv)) ∧ RE τ u s b (yTok B n) P a e lo hi (ckE τ k st Lc x) v ∧ ∀ x', ckE τ k st Lc x = .ok x' → vv = tM (tyO x'))
/-- arguments are judged as ckE says -/
def SpAm (l : Launch) (G : Gl) (d : Nat) (τ : Sg) (b k : Nat) (st : Bool) (Lc : List (Int64 × Int64 × Nat)) (B : Nat → Nat) (n L : Nat) (x : Tr) : Prop := ∀ (u : Sg) (lo hi w a e P : Nat) (v : Int32), JM τ u b k st Lc → SIv u → MTg u b (NdC u (yTok B n)) x lo hi v → wt x 1 w a e → e ≤ L → hi ≤ 1700 → u.I 2120 0 0 = nI 0 → u.I 2208 0 0 = nI P → P + (hi - lo) ≤ 1703 → CT l G yX11_args (ws_ yX11_args cX11_args 3 none) d [.ref (G.adr 11 0), .int v] u (rV (fun s => RE τ u s b (yTok B n) P a e lo hi (ckE τ k st Lc x) v))
/-- args when a fault is laid -/
theorem args_no (hG : GOK G) {u : Sg} {v : Int32} (hd : 1 ≤ d) (h : ¬ u.I 2120 0 0 = 0) : CT l G yX11_args (ws_ yX11_args cX11_args 3 none) d [.ref (G.adr 11 0), .int v] u (rV (fun s => s = u)) := sorry
end SPX
