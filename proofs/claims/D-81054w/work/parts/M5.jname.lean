/-! Judging, LinkHouse: a name alone, a method above. -/
theorem bnd_bn {α β γ : Type} {r : PR α} {f : α → PR β} {g : β → PR γ} : bnd (bnd r f) g = bnd r (fun a => bnd (f a) g) := sorry
theorem kFac_st {σ : Sg} {k : Nat} {nm : Int64} : kFac (stat σ) k nm = kFac σ k nm := sorry
theorem ckK_st {σ : Sg} {k t : Nat} {nm : Int64} : ckK (stat σ) k nm t = ckK σ k nm t := sorry
theorem ckR_st {σ : Sg} {k : Nat} {b : Lb} : ckR (stat σ) k b = ckR σ k b := sorry
theorem ckF_st {σ : Sg} {k t : Nat} {xo : Option Nat} {nm : Int64} : ckF (stat σ) k xo nm t = ckF σ k xo nm t := sorry
theorem jMtO_st {σ : Sg} {k : Nat} {xo : Option Nat} {nm : Int64} {ts : List Int64} : jMtO (stat σ) k xo nm ts = jMtO σ k xo nm ts := sorry
theorem ckC_st {σ : Sg} {k t : Nat} {xo : Option Nat} {nm : Int64} {ts : List Int64} : ckC (stat σ) k xo nm ts t = ckC σ k xo nm ts t := sorry
theorem ckU_st {σ : Sg} {k t t2 : Nat} {st : Bool} {xo : Option Nat} {nm : Int64} {ts : List Int64} : ckU (stat σ) k st xo nm ts t t2 = ckU σ k st xo nm ts t t2 := sorry
theorem ckN_st {σ : Sg} {k : Nat} {st : Bool} {Lc : List (Int64 × Int64 × Nat)} {b : Lb} {x y : Tr} : ckN (stat σ) k st Lc b x y = ckN σ k st Lc b x y := sorry
theorem ckE_st {σ : Sg} {k : Nat} {st : Bool} {Lc : List (Int64 × Int64 × Nat)} (x : Tr) : ckE (stat σ) k st Lc x = ckE σ k st Lc x := sorry
theorem ckE_e {σ s : Sg} {k : Nat} {st : Bool} {Lc : List (Int64 × Int64 × Nat)} {x : Tr} (h : stat s = stat σ) : ckE s k st Lc x = ckE σ k st Lc x := sorry
theorem ckN_e {σ s : Sg} {k : Nat} {st : Bool} {Lc : List (Int64 × Int64 × Nat)} {b : Lb} {x y : Tr} (h : stat s = stat σ) : ckN s k st Lc b x y = ckN σ k st Lc b x y := sorry
/-- only nodes lo .. hi of tokens a .. e, of what was found -/
def FrK (σ s : Sg) (a e lo hi : Nat) : Prop := Fl pCk σ s ∧ ∀ j, ¬ (a ≤ tkA σ j ∧ tkA σ j < e ∧ lo ≤ j ∧ j < hi) → AnE σ s j
theorem TrE_fl {σ s : Sg} {p : Nat → Nat → Bool} (h : Fl p σ s) (hp : ∀ c, 1508 < c → c ≤ 1514 → p c 0 = false) : TrE σ s := sorry
theorem TrE_ck {σ s : Sg} (h : Fl pCk σ s) : TrE σ s := sorry
theorem tkA_ck {σ s : Sg} {j : Nat} (h : Fl pCk σ s) : tkA s j = tkA σ j := sorry
theorem FrK.refl {σ : Sg} {a e lo hi : Nat} : FrK σ σ a e lo hi := sorry
theorem FrK.trans {σ s u : Sg} {a e lo hi : Nat} (h : FrK σ s a e lo hi) (k : FrK s u a e lo hi) : FrK σ u a e lo hi := sorry
theorem FrK.up {σ s : Sg} {a e a' e' lo hi lo' hi' : Nat} (h : FrK σ s a e lo hi) (h1 : a' ≤ a) (h2 : e ≤ e') (h3 : lo' ≤ lo) (h4 : hi ≤ hi') : FrK σ s a' e' lo' hi' := sorry
theorem FrQ.K {σ s : Sg} {q a e lo hi : Nat} (h : FrQ σ s q) (h1 : a ≤ tkA σ q) (h2 : tkA σ q < e) (h3 : lo ≤ q) (h4 : q < hi) : FrK σ s a e lo hi := sorry
theorem FrK_cd {σ s : Sg} {a e lo hi : Nat} (h : Fl pCd σ s) : FrK σ s a e lo hi := sorry
/-- what was found of another part stays -/
theorem LAn.fk {σ s : Sg} {a e a' e' lo hi lo' hi' : Nat} {x : Tr} {v : Int32} (h : LAn σ a e x lo hi v) (hF : FrK σ s a' e' lo' hi') (hd : e ≤ a' ∨ e' ≤ a) : LAn s a e x lo hi v := sorry
theorem LAn.fq {σ s : Sg} {a e lo hi q : Nat} {x : Tr} {v : Int32} (h : LAn σ a e x lo hi v) (hF : FrQ σ s q) (hq : q < lo ∨ hi ≤ q) : LAn s a e x lo hi v := sorry
theorem LAn.up {σ : Sg} {a e a' e' lo hi lo' hi' : Nat} {x : Tr} {v : Int32} (h : LAn σ a e x lo hi v) (h1 : a' ≤ a) (h2 : e ≤ e') (h3 : lo' ≤ lo) (h4 : hi ≤ hi') : LAn σ a' e' x lo' hi' v := sorry
section SPX
variable {l : Launch} {G : Gl} {d : Nat} {σ : Sg} {b n r k : Nat} {B : Nat → Nat} {st : Bool} {Lc : List (Int64 × Int64 × Nat)}
theorem sp_X6_checkSuper (hG : GOK G) (hd : 71 ≤ d) (hJ : JE σ b B n r k st Lc) {q t t2 : Nat} {xo : Option Nat} {nm : Int64} {ts : List Int64} {v v2 : Int32} (hv : v = nI q) (hq : q < 1410) (hx : ∀ x, xo = some x → x < cnt 1) (ht : σ.I 1512 0 q = nI t) (htr : t < r) (h1t : (yTok B n t).1 = 1) (hnm : nm = lN (yTok B n t).2.1) (hA : LAr σ ts (σ.I 1513 0 q)) (hv2 : v2 = nI t2) (ht2 : t2 < r) : CT l G yX6_checkSuper (ws_ yX6_checkSuper cX6_checkSuper 4 none) d [.ref (G.adr 6 0), .int v, rv G 1 xo, .int v2] σ (oJ G b (yTok B n) σ (ckU σ k st xo nm ts t t2) (fun m o s => o = .returned none ∧ (m < 22404 ∧ FrQ σ s q ∧ AnQ s q (σ.L 1207 m 0) (some m) xo (σ.I 1609 0 q)))) := sorry
theorem sp_X6_checkName (hG : GOK G) (hd : 71 ≤ d) (hJ : JE σ b B n r k st Lc) {q : Nat} {v : Int32} {bb : Lb} {x y : Tr} (hv : v = nI q) (hq : q < 1410) (hb4 : bb.1 = 4) (ht : σ.I 1512 0 q = nI bb.2.2.1) (htr : bb.2.2.1 < r) (h1t : (yTok B n bb.2.2.1).1 = 1) (hnm : lN bb.2.2.2.2.1 = lN (yTok B n bb.2.2.1).2.1) (hme : σ.R 1607 0 q = none) (hsl : σ.I 1609 0 q = -2) : CT l G yX6_checkName (ws_ yX6_checkName cX6_checkName 5 none) d [.ref (G.adr 6 0), .int v] σ (oJ G b (yTok B n) σ (ckN σ k st Lc bb x y) (fun b' o s => o = .returned none ∧ (FrQ σ s q ∧ AnN s q b'))) := sorry
end SPX
