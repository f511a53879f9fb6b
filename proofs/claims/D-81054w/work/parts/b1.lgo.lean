/-! What meeting a use does to what is loaded; what it says when it is good. -/
/-- what is under way was under way -/
def NL2 (a b : LSt) : Prop := ∀ j, b.1 j = 2 → a.1 j = 2
theorem NL2.refl {a : LSt} : NL2 a a := sorry
theorem NL2.trans {a b c : LSt} (h : NL2 a b) (k : NL2 b c) : NL2 a c := sorry
/-- loading ends -/
theorem ldFs_nl {σ : Sg} {g : Nat → LSt → Option (Int32 × LSt)} (hg : ∀ k st r, g k st = some r → NL2 st r.2) {k : Nat} : ∀ (n j : Nat) (st : LSt) (r : Int32 × LSt), ldFs σ g k n j st = some r → NL2 st r.2 ∧ ¬ r.1 < 0 := sorry
theorem ldH_nl {σ : Sg} {g : Nat → LSt → Option (Int32 × LSt)} (hg : ∀ k st r, g k st = some r → NL2 st r.2) {k : Nat} {st : LSt} {r : Int32 × LSt} (h : ldH σ g k st = some r) : NL2 st r.2 ∧ ¬ r.1 < 0 := sorry
theorem i100 {x : Int32} (h : ¬ x < 0) : ¬ 100 + x = 2 := sorry
theorem ld_nl {σ : Sg} : ∀ (n k : Nat) (st : LSt) (r : Int32 × LSt), ld σ n k st = some r → NL2 st r.2 := sorry
theorem wLd_nl {σ : Sg} {k : Nat} {st : LSt} : NL2 st (wLd σ k st).2 := sorry
/-- from st to r: still in order, what was loaded is as it was, no more is told than can be -/
def LGo (σ : Sg) (st r : LSt) : Prop := LOK r ∧ LCL σ r ∧ (∀ j, st.1 j ≠ 0 → r.1 j = st.1 j) ∧ r.2.length + (zs r).length ≤ st.2.length + (zs st).length ∧ NL2 st r
theorem LGo.refl {σ : Sg} {st : LSt} (hL : LOK st) (hC : LCL σ st) : LGo σ st st := sorry
theorem LGo.trans {σ : Sg} {a b c : LSt} (h : LGo σ a b) (k : LGo σ b c) : LGo σ a c := sorry
theorem Ldd.go {σ : Sg} {st r : LSt} {k : Nat} (h : Ldd σ st k) (g : LGo σ st r) : Ldd σ r k := sorry
theorem FOK_n {n : Nat} (h : n ≤ 16) : FOK (nI n) := sorry
theorem FOK_i {c : Prop} [Decidable c] {a b : Int32} (ha : FOK a) (hb : FOK b) : FOK (if c then a else b) := sorry
section LG
variable {σ : Sg} {st : LSt}
theorem wLd_go (hW : WOK σ 0) (hN : WNO σ) {k : Nat} (hk : k ∈ wKs σ 0) (hL : LOK st) (hC : LCL σ st) : LGo σ st (wLd σ k st).2 ∧ FOK (wLd σ k st).1 ∧ ((wLd σ k st).1 = 0 → Ldd σ (wLd σ k st).2 k) := sorry
theorem wLn_go (hW : WOK σ 0) (hN : WNO σ) {nm : Int64} (hL : LOK st) (hC : LCL σ st) : LGo σ st (wLn σ nm st).2 ∧ FOK (wLn σ nm st).1 ∧ ((wLn σ nm st).1 = 0 → ∃ k, wFind σ 0 nm = some k ∧ Ldd σ (wLn σ nm st).2 k) := sorry
theorem wNsL_go (hW : WOK σ 0) (hN : WNO σ) {k : Nat} (hL : LOK st) (hC : LCL σ st) : LGo σ st (wNsL σ k st).2 := sorry
theorem lLts_go (hW : WOK σ 0) (hN : WNO σ) {a c m x : Nat} (hL : LOK st) (hC : LCL σ st) : LGo σ st (lLts σ a c m x st).2 := sorry
theorem ftd_go (hW : WOK σ 0) (hN : WNO σ) {u : Nat} (hL : LOK st) (hC : LCL σ st) : LGo σ st (ftd σ u st).2 ∧ FOK (ftd σ u st).1 ∧ ((ftd σ u st).1 = 0 → ∃ t, wFind σ 0 (σ.L 1703 u 0) = some t ∧ (σ.B 1102 t 0 = true ∨ ∃ c, wFind σ 0 (σ.L 1702 u 0) = some c ∧ Ldd σ (ftd σ u st).2 c ∧ (c = t ∨ wHr σ 0 c t))) := sorry
theorem cbc_go (hW : WOK σ 0) (hN : WNO σ) {u : Nat} (hL : LOK st) (hC : LCL σ st) : LGo σ st (cbc σ u st).2 ∧ FOK (cbc σ u st).1 := sorry
theorem mkR_go (hW : WOK σ 0) (hN : WNO σ) {u b c : Nat} {f t : Option Nat} {lk : List Nat} (hL : LOK st) (hC : LCL σ st) : LGo σ st (mkR σ u b c st f t lk).2.1 ∧ FOK (mkR σ u b c st f t lk).1 ∧ ((mkR σ u b c st f t lk).1 = 0 → σ.B 1102 c 0 = false ∧ ∃ m, (mkR σ u b c st f t lk).2.2.1 = some m ∧ kMak σ c (6402 + u) = some m) := sorry
theorem flR_go (hW : WOK σ 0) (hN : WNO σ) {u b c : Nat} {t : Option Nat} (hL : LOK st) (hC : LCL σ st) : LGo σ st (flR σ u b c st t).2.1 ∧ FOK (flR σ u b c st t).1 ∧ ((flR σ u b c st t).1 = 0 → ∃ m, (flR σ u b c st t).2.2.1 = some m ∧ wFld σ 0 c (σ.L 1201 (6402 + u) 0) (σ.L 1207 (6402 + u) 0) = some m ∧ σ.B 1203 m 0 = decide (¬ σ.I 1700 u 0 < 5)) := sorry
theorem wMSc_ok {w k as : Nat} : FOK (wMSc σ w k as) := sorry
theorem abR_ok {as k : Nat} : FOK (abR σ as k).1 ∧ ((abR σ as k).1 = 0 → ∃ m, (abR σ as k).2 = some m ∧ ((abL σ as (wUps σ k) = some m ∧ σ.B 1205 m 0 = false) ∨ (abL σ as (wUps σ k) = none ∧ wMSr σ 0 k as = some m))) := sorry
/-- a call that is met -/
def ClOk (σ : Sg) (u b c : Nat) (r : MT) : Prop := σ.B 1102 c 0 = decide (σ.I 1700 u 0 = 8 ∨ σ.I 1700 u 0 = 10 ∨ σ.I 1700 u 0 = 12) ∧ ∃ m, r.2.2.1 = some m ∧ (clF σ (6402 + u) c).1 = some m ∧ σ.B 1203 m 0 = decide (σ.I 1700 u 0 = 9 ∨ σ.I 1700 u 0 = 10) ∧ (σ.I 1700 u 0 = 11 → ∀ p, wPar σ 0 b = some p → (abR σ (6402 + u) p).1 = 0 ∧ r.2.2.2.1 = (abR σ (6402 + u) p).2) ∧ (σ.I 1700 u 0 = 12 → (abR σ (6402 + u) c).1 = 0 ∧ r.2.2.2.1 = (abR σ (6402 + u) c).2)
theorem clR_go (hW : WOK σ 0) (hN : WNO σ) {u b c : Nat} {t : Option Nat} (hL : LOK st) (hC : LCL σ st) : LGo σ st (clR σ u b c st t).2.1 ∧ FOK (clR σ u b c st t).1 ∧ ((clR σ u b c st t).1 = 0 → ClOk σ u b c (clR σ u b c st t)) := sorry
/-- what a use that is met says: class c, by its sort -/
def RsOk (σ : Sg) (u b c : Nat) (r : MT) : Prop := wFind σ 0 (σ.L 1702 u 0) = some c ∧ Ldd σ r.2.1 c ∧ (σ.I 1700 u 0 = 1 → σ.B 1102 c 0 = false ∧ σ.B 1105 c 0 = false) ∧ (σ.I 1700 u 0 = 2 → σ.B 1102 c 0 = false ∧ ∃ m, r.2.2.1 = some m ∧ kMak σ c (6402 + u) = some m) ∧ (3 ≤ (σ.I 1700 u 0).toInt ∧ (σ.I 1700 u 0).toInt ≤ 6 → ∃ m, r.2.2.1 = some m ∧ wFld σ 0 c (σ.L 1201 (6402 + u) 0) (σ.L 1207 (6402 + u) 0) = some m ∧ σ.B 1203 m 0 = decide (¬ σ.I 1700 u 0 < 5)) ∧ (7 ≤ (σ.I 1700 u 0).toInt ∧ (σ.I 1700 u 0).toInt ≤ 12 → ClOk σ u b c r)
theorem rs3_go (hW : WOK σ 0) (hN : WNO σ) {u b c : Nat} (hL : LOK st) (hC : LCL σ st) (hc : Ldd σ st c) (hf : wFind σ 0 (σ.L 1702 u 0) = some c) : LGo σ st (rs3 σ u b c st).2.1 ∧ FOK (rs3 σ u b c st).1 ∧ ((rs3 σ u b c st).1 = 0 → RsOk σ u b c (rs3 σ u b c st)) := sorry
/-- a use of a sort up to 15 -/
theorem rsR_go (hW : WOK σ 0) (hN : WNO σ) {u b v : Nat} (hv : v ≤ 15) (ev : σ.I 1700 u 0 = nI v) (hb : b ∈ wKs σ 0) (hL : LOK st) (hC : LCL σ st) : LGo σ st (rsR σ u b st).2.1 ∧ FOK (rsR σ u b st).1 ∧ ((rsR σ u b st).1 = 0 → ∃ c, RsOk σ u b c (rsR σ u b st)) := sorry
end LG
