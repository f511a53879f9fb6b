/-! LinkHouse writes while it judges: what judging asks is the same. -/
/-- columns of classes (but the ranges of their uses) and worlds -/
def sk (c : Nat) : Bool := rg 1099 1118 c || (rg 1120 1199 c || rg 1299 1303 c)
/-- s is τ, but for code, locals, uses -/
def SmJ (τ s : Sg) : Prop := stP sk s = stP sk τ ∧ ∀ m, m < 6402 → ∀ c j, 1199 < c → c ≤ 1222 → ¬ c = 1219 → ¬ c = 1220 → s.I c m j = τ.I c m j ∧ s.B c m j = τ.B c m j ∧ s.L c m j = τ.L c m j ∧ s.R c m j = τ.R c m j
theorem wFind_sk {σ : Sg} {w : Nat} {nm : Int64} : wFind (stP sk σ) w nm = wFind σ w nm := sorry
theorem wPar_sk {σ : Sg} {w k : Nat} : wPar (stP sk σ) w k = wPar σ w k := sorry
theorem wKs_sk {σ : Sg} {w : Nat} : wKs (stP sk σ) w = wKs σ w := sorry
theorem wHb_sk {σ : Sg} {w a b : Nat} : wHb (stP sk σ) w a b = wHb σ w a b := sorry
theorem wFits_sk {σ : Sg} {w : Nat} {a b : Int64} : wFits (stP sk σ) w a b = wFits σ w a b := sorry
theorem kOpn_sk {σ : Sg} {c a : Nat} : kOpn (stP sk σ) c a = kOpn σ c a := sorry
theorem wNst_sk {σ : Sg} {w k : Nat} : wNst (stP sk σ) w k = wNst σ w k := sorry
theorem kFac_sk {σ : Sg} {k : Nat} {nm : Int64} : kFac (stP sk σ) k nm = kFac σ k nm := sorry
theorem ckK_sk {σ : Sg} {k t : Nat} {nm : Int64} : ckK (stP sk σ) k nm t = ckK σ k nm t := sorry
theorem ckR_sk {σ : Sg} {k : Nat} {b : Lb} : ckR (stP sk σ) k b = ckR σ k b := sorry
theorem nMe_sk {σ : Sg} {k : Nat} : nMe (stP sk σ) k = nMe σ k := sorry
theorem wFsF_sk {σ : Sg} {w k : Nat} : ∀ n j, wFsF (stP sk σ) w k n j = wFsF σ w k n j := sorry
theorem wFs_sk {σ : Sg} {w k : Nat} : wFs (stP sk σ) w k = wFs σ w k := sorry
theorem fcs_sk {σ : Sg} {w : Nat} : ∀ n, fcs (stP sk σ) w n = fcs σ w n := sorry
theorem wAF_sk {σ : Sg} {w k : Nat} : wAF (stP sk σ) w k = wAF σ w k := sorry
theorem jUps_sk {σ : Sg} {w : Nat} : ∀ n o, jUps (stP sk σ) w n o = jUps σ w n o := sorry
section SJ
variable {τ s : Sg}
theorem SmJ.fnd (h : SmJ τ s) {w : Nat} {nm : Int64} : wFind s w nm = wFind τ w nm := sorry
theorem SmJ.par (h : SmJ τ s) {w k : Nat} : wPar s w k = wPar τ w k := sorry
theorem SmJ.ks (h : SmJ τ s) {w : Nat} : wKs s w = wKs τ w := sorry
theorem SmJ.hb (h : SmJ τ s) {w a b : Nat} : wHb s w a b = wHb τ w a b := sorry
theorem SmJ.fits (h : SmJ τ s) {w : Nat} {a b : Int64} : wFits s w a b = wFits τ w a b := sorry
theorem SmJ.opn (h : SmJ τ s) {c a : Nat} : kOpn s c a = kOpn τ c a := sorry
theorem SmJ.nst (h : SmJ τ s) {w k : Nat} : wNst s w k = wNst τ w k := sorry
theorem SmJ.fac (h : SmJ τ s) {k : Nat} {nm : Int64} : kFac s k nm = kFac τ k nm := sorry
theorem SmJ.ckk (h : SmJ τ s) {k t : Nat} {nm : Int64} : ckK s k nm t = ckK τ k nm t := sorry
theorem SmJ.ckr (h : SmJ τ s) {k : Nat} {b : Lb} : ckR s k b = ckR τ k b := sorry
theorem SmJ.me (h : SmJ τ s) {k : Nat} : nMe s k = nMe τ k := sorry
theorem SmJ.fs (h : SmJ τ s) {w k : Nat} : wFs s w k = wFs τ w k := sorry
theorem SmJ.af (h : SmJ τ s) {w k : Nat} : wAF s w k = wAF τ w k := sorry
theorem SmJ.ups (h : SmJ τ s) {w n : Nat} {o : Option Nat} : jUps s w n o = jUps τ w n o := sorry
theorem SmJ.l0 (h : SmJ τ s) {k j : Nat} : s.L 1100 k j = τ.L 1100 k j := sorry
theorem SmJ.i1 (h : SmJ τ s) {k j : Nat} : s.I 1101 k j = τ.I 1101 k j := sorry
theorem SmJ.b2 (h : SmJ τ s) {k j : Nat} : s.B 1102 k j = τ.B 1102 k j := sorry
theorem SmJ.b5 (h : SmJ τ s) {k j : Nat} : s.B 1105 k j = τ.B 1105 k j := sorry
theorem SmJ.i (h : SmJ τ s) {m c j : Nat} (hm : m < 6402) (hc : 1199 < c ∧ c ≤ 1218 ∨ c = 1221 ∨ c = 1222) : s.I c m j = τ.I c m j := sorry
theorem SmJ.b (h : SmJ τ s) {m c j : Nat} (hm : m < 6402) (hc : 1199 < c ∧ c ≤ 1218 ∨ c = 1221 ∨ c = 1222) : s.B c m j = τ.B c m j := sorry
theorem SmJ.l (h : SmJ τ s) {m c j : Nat} (hm : m < 6402) (hc : 1199 < c ∧ c ≤ 1218 ∨ c = 1221 ∨ c = 1222) : s.L c m j = τ.L c m j := sorry
theorem SmJ.r (h : SmJ τ s) {m c j : Nat} (hm : m < 6402) (hc : 1199 < c ∧ c ≤ 1218 ∨ c = 1221 ∨ c = 1222) : s.R c m j = τ.R c m j := sorry
theorem SmJ.fld (h : SmJ τ s) (hS : Shp τ) {k : Nat} {nm ty : Int64} (hk : k < 194) : kFld s k nm ty = kFld τ k nm ty := sorry
theorem fdl_c {g1 g2 : Nat → List Nat → Option FD} : ∀ (fs : List Nat) (st : FD), (∀ f, f ∈ fs → ∀ K, g1 f K = g2 f K) → fdl g1 fs st = fdl g2 fs st := sorry
theorem SmJ.fdS (h : SmJ τ s) (hW : WOK τ 1) (hS : Shp τ) {nm ty : Int64} : ∀ (n k : Nat) (K : List Nat), k < 194 → fds s 1 nm ty n k K = fds τ 1 nm ty n k K := sorry
theorem SmJ.wfld (h : SmJ τ s) (hW : WOK τ 1) (hS : Shp τ) {k : Nat} {nm ty : Int64} (hk : k < 194) : wFld s 1 k nm ty = wFld τ 1 k nm ty := sorry
theorem SmJ.mof (h : SmJ τ s) {m : Nat} (hm : m < 6402) : mOf s m = mOf τ m := sorry
theorem SmJ.lts (h : SmJ τ s) {w a c m x na nc : Nat} (hm : m < 6402) : mLts s w a c m x na nc = mLts τ w a c m x na nc := sorry
theorem SmJ.pa (h : SmJ τ s) {m : Nat} (hm : m < 6402) : nPa s m = nPa τ m := sorry
theorem SmJ.tkF (h : SmJ τ s) {m : Nat} (hm : m < 6402) : ∀ (p k : Nat) (ts : List Int64), jTkF s m p k ts = jTkF τ m p k ts := sorry
theorem SmJ.tk (h : SmJ τ s) {m : Nat} (hm : m < 6402) {ts : List Int64} : jTk s m ts = jTk τ m ts := sorry
theorem SmJ.mpar (h : SmJ τ s) {a b : Nat} (ha : a < 6402) (hb : b < 6402) : mPar s a b = mPar τ a b := sorry
theorem SmJ.nr (h : SmJ τ s) {a b : Nat} (ha : a < 6402) (hb : b < 6402) : jNr s a b = jNr τ a b := sorry
theorem getD_lt {A : List Nat} (h : ∀ m, m ∈ A → m < 6402) (i : Nat) : A.getD i 0 < 6402 := sorry
theorem SmJ.bst (h : SmJ τ s) {A : List Nat} (hA : ∀ m, m ∈ A → m < 6402) : jBst s A = jBst τ A := sorry
end SJ
