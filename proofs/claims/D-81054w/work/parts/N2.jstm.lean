/-! Judging, LinkHouse: what an S needs. -/
def pSt (c i : Nat) : Bool := pCk c i || rg 1609 1614 c
theorem pSt_iff {c i : Nat} : pSt c i = true ↔ (1303 < c ∧ c ≤ 1313) ∨ (1605 < c ∧ c ≤ 1617) := sorry
theorem pSt_no {c i : Nat} (h : c ≤ 1303 ∨ (1313 < c ∧ c ≤ 1605) ∨ 1617 < c) : pSt c i = false := sorry
theorem pCk_pSt : ∀ c i, pCk c i = true → pSt c i = true := sorry
theorem pSt_pJ {b : Nat} : ∀ c i, pSt c i = true → pJ b c i = true := sorry
theorem stat_st {σ s : Sg} (hF : Fl pSt σ s) : stat s = stat σ := sorry
theorem JE.sl {σ s : Sg} {b n r k : Nat} {B : Nat → Nat} {st : Bool} {Lc Lc' : Lcs} (h : JE σ b B n r k st Lc) (hF : Fl pSt σ s) (hl : LcS s Lc') : JE s b B n r k st Lc' := sorry
theorem JE.lc {σ : Sg} {b n r k : Nat} {B : Nat → Nat} {st : Bool} {Lc : Lcs} (h : JE σ b B n r k st Lc) : LcS σ Lc := sorry
/-- only nodes lo .. hi of tokens a .. e, of what was found; and the locals -/
def FrS (σ s : Sg) (a e lo hi : Nat) : Prop := Fl pSt σ s ∧ ∀ j, ¬ (a ≤ tkA σ j ∧ tkA σ j < e ∧ lo ≤ j ∧ j < hi) → AnE σ s j
theorem tkA_st {σ s : Sg} {j : Nat} (h : Fl pSt σ s) : tkA s j = tkA σ j := sorry
theorem FrS.refl {σ : Sg} {a e lo hi : Nat} : FrS σ σ a e lo hi := sorry
theorem FrS.trans {σ s u : Sg} {a e lo hi : Nat} (h : FrS σ s a e lo hi) (k : FrS s u a e lo hi) : FrS σ u a e lo hi := sorry
theorem FrS.up {σ s : Sg} {a e a' e' lo hi lo' hi' : Nat} (h : FrS σ s a e lo hi) (h1 : a' ≤ a) (h2 : e ≤ e') (h3 : lo' ≤ lo) (h4 : hi ≤ hi') : FrS σ s a' e' lo' hi' := sorry
theorem FrK.S {σ s : Sg} {a e lo hi : Nat} (h : FrK σ s a e lo hi) : FrS σ s a e lo hi := sorry
theorem TrE_st {σ s : Sg} (h : Fl pSt σ s) : TrE σ s := sorry
theorem LAn.fs {σ s : Sg} {a e a' e' lo hi lo' hi' : Nat} {x : Tr} {v : Int32} (h : LAn σ a e x lo hi v) (hF : FrS σ s a' e' lo' hi') (hd : e ≤ a' ∨ e' ≤ a) : LAn s a e x lo hi v := sorry
theorem LTr_st {σ s : Sg} {T : Nat → Tk} {L lo hi : Nat} {x : Tr} {v : Int32} (hF : Fl pSt σ s) (h : LTr σ T L x lo hi v) : LTr s T L x lo hi v := sorry
/-- only what is known of locals -/
def pKw (c _i : Nat) : Bool := rg 1609 1614 c
theorem pKw_iff {c i : Nat} : pKw c i = true ↔ 1609 < c ∧ c ≤ 1614 := sorry
theorem pKw_no {c i : Nat} (h : c ≤ 1609 ∨ 1614 < c) : pKw c i = false := sorry
theorem pKw_pSt : ∀ c i, pKw c i = true → pSt c i = true := sorry
theorem FrS_kw {σ s : Sg} {a e lo hi : Nat} (h : Fl pKw σ s) : FrS σ s a e lo hi := sorry
/-- the member at hand; its first S is F -/
def AtS (σ : Sg) (m : Nat) (ms : Int32) (mt : Int64) (F : Int32) : Prop := σ.R 1604 0 0 = some m ∧ m < 22404 ∧ σ.I 1200 m 0 = ms ∧ σ.L 1207 m 0 = mt ∧ ((σ.I 1218 m 0 = -2 ∧ F = -2) ∨ ∃ j, σ.I 1218 m 0 = nI j ∧ j < 1410 ∧ F = σ.I 1511 0 j)
theorem AtS.st {σ s : Sg} {m : Nat} {ms F : Int32} {mt : Int64} (h : AtS σ m ms mt F) (hF : Fl pSt σ s) : AtS s m ms mt F := sorry
theorem getElem_app {Lc : Lcs} {c d : Int64 × Int64 × Nat} {j : Nat} (h : (Lc ++ [c])[j]? = some d) : (j < Lc.length ∧ Lc[j]? = some d) ∨ (j = Lc.length ∧ d = c) := sorry
/-- fewer locals -/
theorem LcS.pre {σ : Sg} {Lc X : Lcs} (h : LcS σ (Lc ++ X)) : LcS (sI σ 1613 0 0 (nI Lc.length)) Lc := sorry
section SPX
variable {l : Launch} {G : Gl} {d : Nat} {σ : Sg} {b n r k : Nat} {B : Nat → Nat} {st : Bool} {Lc : Lcs}
theorem sp_X6_know (hG : GOK G) (hd : 4 ≤ d) (hJ : JE σ b B n r k st Lc) {nm t : Int64} {tk sn : Nat} {v : Int32} (hv : v = nI tk) (htk : tk < r) (hl : Lc.length < 700) (hsn : σ.I 1614 0 0 = nI sn) : CT l G yX6_know (ws_ yX6_know cX6_know 7 none) d [.ref (G.adr 6 0), .long nm, .long t, .int v] σ (oJ G b (yTok B n) σ (ckW Lc nm tk) (fun _ o s => o = .returned none ∧ (Fl pKw σ s ∧ LcS s (Lc ++ [(nm, t, sn)]) ∧ s.I 1614 0 0 = nI (sn + 1)))) := sorry
theorem sp_X6_firstOf (hG : GOK G) (hd : 1 ≤ d) {m : Nat} {ms F : Int32} {mt : Int64} (h : AtS σ m ms mt F) : CT l G yX6_firstOf (ws_ yX6_firstOf cX6_firstOf 2 (some .int)) d [.ref (G.adr 6 0), rv G 2 (some m)] σ (rI F (fun s => s = σ)) := sorry
/-- the maker of a class, or of none -/
theorem sp_mkO (hG : GOK G) {c : Nat} {xo : Option Nat} {ts : List Int64} {v : Int32} (hd : 6 ≤ d) (hW : WOK σ 1) (hS : Shp σ) (h603 : σ.R 1603 0 0 = some c) (hc : c < cnt 1) (hx : ∀ x, xo = some x → x < cnt 1) (hA : LAr σ ts v) : CT l G yX6_maker (ws_ yX6_maker cX6_maker 5 (some (.object "LinkHouse$Member"))) d [.ref (G.adr 6 0), rv G 1 xo, .int v] σ (rR G 2 (jMkO σ c xo ts) (fun s => Fl pCo σ s)) := sorry
end SPX
