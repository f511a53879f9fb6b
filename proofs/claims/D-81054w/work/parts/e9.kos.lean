/-! LINKHOUSE's MACHINE: outcomes of S's; ends of frames. -/
/-- what becomes of an S: its end, returned, thrown, failed -/
def KoS (r : Zs) (dn : MSt → Env → Prop) (rt : MSt → Int32 → Prop) (th : MSt → Env → Int32 → Prop) (fa : MSt → Int32 → Prop) : Prop := match r.2 with
  | .ok none => dn r.1.1 r.1.2
  | .ok (some w) => rt r.1.1 w
  | .error x => if x.1 = true then th r.1.1 r.1.2 x.2 else fa r.1.1 x.2
section KS
variable {dn : MSt → Env → Prop} {rt : MSt → Int32 → Prop} {th : MSt → Env → Int32 → Prop} {fa : MSt → Int32 → Prop}
theorem KoS.e {α : Type} {e : Env} {r : Rz α} {kk : MSt → α → Zs} (h : KoS (zse e r kk) dn rt th fa) : KO r (fun t x => KoS (kk t x) dn rt th fa) (fun t ob => th t e ob) fa := sorry
theorem KoS.b {r : Zs} {kk : MSt × Env → Zs} (h : KoS (zsb r kk) dn rt th fa) : KoS r (fun t e => KoS (kk (t, e)) dn rt th fa) rt th fa := sorry
theorem KoS.t {r : Zs} {kk : MSt × Env → Int32 → Zs} (h : KoS (zst r kk) dn rt th fa) : KoS r dn rt (fun t e ob => KoS (kk (t, e) ob) dn rt th fa) fa := sorry
end KS
section LPR
variable {l : Launch} {G : Gl} {d : Nat} {σ : Sg} {P : Pg} {fl : Nat} {Q : Outcome → Sg → Prop} {C : CalF} {S : StaF}
variable {M : MSt} {a : Nat} {S0 : Bw} {m p k b u : Nat} {ic : Bool} {e : Env} {o as : List Int32} {fs rest : List Fr} {op ar : Int32}
theorem lp_ret (H : SiC l G d σ P fl C S a S0 m k b fs rest) (hc : CdA σ b p [24, ar]) (hp : p + 1 < 6000) (ho : nLo σ m + o.length ≤ 316) (h : Lpv l G (d + 1) σ fl Q (M, (if ic = true then a - 1 else a), S0, fs) 0) : Lpq l G (d + 1) σ fl Q (M, a, S0, (m, p, ic, e, o) :: fs) := sorry
theorem lp_give (H : SiC l G d σ P fl C S a S0 m k b fs rest) {v : Int32} (hc : CdA σ b p [25, ar]) (hp : p + 1 < 6000) (ho : nLo σ m + o.length ≤ 316) (h : Lpv l G (d + 1) σ fl Q (M, (if ic = true then a - 1 else a), psS v S0 fs, psF v fs) v) : Lpq l G (d + 1) σ fl Q (M, a, S0, (m, p, ic, e, v :: o) :: fs) := sorry
theorem lp_throw (H : SiC l G d σ P fl C S a S0 m k b fs rest) {v : Int32} (hc : CdA σ b p [22, ar]) (hp : p + 1 < 6000) (ho : nLo σ m + o.length ≤ 316) (h0 : v = 0 → Fq σ S0 rest Q M 13) (h1 : ¬ v = 0 → Uwq l G d σ fl Q (M, a, S0, (m, p + 2, ic, e, o) :: fs) v) : Lpq l G (d + 1) σ fl Q (M, a, S0, (m, p, ic, e, v :: o) :: fs) := sorry
theorem lp_out (H : SiC l G d σ P fl C S a S0 m k b fs rest) (hI : MInv σ M) {v : Int32} (hc : CdA σ b p [23, ar]) (hp : p + 1 < 6000) (ho : nLo σ m + o.length ≤ 316) (h : Lpq l G (d + 1) σ fl Q ((if M.ou.length < 100 then M.wOu (M.ou ++ [v]) else M), a, S0, (m, p + 2, ic, e, o) :: fs)) : Lpq l G (d + 1) σ fl Q (M, a, S0, (m, p, ic, e, v :: o) :: fs) := sorry
/-- rows i1 .. i2 - 1 do not cover -/
def NoCv (σ : Sg) (b i1 i2 at' : Nat) : Prop := ∀ i, i1 ≤ i → i < i2 → ∃ r, Cro σ b i r ∧ (at' < r.1 ∨ r.2.1 ≤ at')
theorem uw_skip {N at' ob i1 : Nat} {F : FSt} {v : Int32} (hb : b < 16) (hN : σ.I 2013 b 0 = nI N) (hN1 : N ≤ 100) (ha : at' < 6000) : ∀ (n : Nat) (i : Nat), i + n ≤ N → NoCv σ b i (i + n) at' → Uwi l G d σ fl Q F k b at' (i + n) v → Uwi l G d σ fl Q F k b at' i v := sorry
/-- thrown in an S: catches from row qe on are left -/
abbrev ThS (l : Launch) (G : Gl) (d : Nat) (σ : Sg) (fl : Nat) (Q : Outcome → Sg → Prop) (a : Nat) (S0 : Bw) (m : Nat) (ic : Bool) (fs : List Fr) (k b p pe qe : Nat) (t : MSt) (e : Env) (ob : Int32) : Prop := ∀ (q : Nat) (o' : List Int32), p ≤ q → q < pe → Uwi l G d σ fl Q (t, a, S0, (m, q + 2, ic, e, o') :: fs) k b q qe ob
theorem th_E (H : SiC l G d σ P fl C S a S0 m k b fs rest) {N p' pe' pe qe : Nat} {t : MSt} {ob : Int32} (hN : σ.I 2013 b 0 = nI N) (hN1 : N ≤ 100) (hqe : qe ≤ N) (hp6 : pe ≤ 6000) (h1 : p ≤ p') (h2 : pe' ≤ pe) (hc : ∀ at', p' ≤ at' → at' < pe' → NoCv σ b 0 qe at') (h : ThS l G d σ fl Q a S0 m ic fs k b p pe qe t e ob) : ThE l G d σ fl Q a S0 m ic e fs p' pe' t ob := sorry
end LPR
