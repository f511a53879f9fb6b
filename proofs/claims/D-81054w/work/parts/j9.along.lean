/-! THE MODEL's MACHINE: along a bridge; what a maker gives. -/
section ALB
variable {l : Launch} {G : Gl} {d : Nat} {τ σ s t g : Sg} {M : MSt} {a fr ct tt ft p q : Nat} {self us : Int32} {vals : List Int32} {r : Rz Int32}
theorem al_9 (hq : q < 7343) (e55 : σ.I 2155 0 q = nI p) (e67 : σ.I 2167 0 q = us) (hlen : vals.length = p) (hcl : ∀ (i : Nat) (v : Int32), vals[i]? = some v → g.I 2254 0 (fr + i) = v) (hfp : fr + p ≤ ct) (hct : ct + p ≤ 6240) (H : ∀ t, MQst τ σ M a 0 (ct + p) tt ft t → (∀ (i : Nat) (v : Int32), vals[i]? = some v → t.I 2254 0 (ct + i) = v) → Kp ct tt ft g t → CT l G yX11_callBy (ws_ yX11_callBy cX11_callBy 9 (some .int)) d [.ref (G.adr 11 0), .int us, .int self, .int (nI ct)] t (oQf τ σ r a (ct + p) tt ft ct t)) : ∀ (m i : Nat) (s : Sg), i + m = p → MQst τ σ M a 0 ct tt ft s → Kp ct tt ft g s → (∀ (j : Nat) (v : Int32), j < i → vals[j]? = some v → s.I 2254 0 (ct + j) = v) → wq_X11_alongBridge_9 l G d 0 (nI q) self (nI fr) (oQf τ σ r a (ct + p) tt ft ct g) (m + 1) (nI ct) (nI i) s := sorry
theorem sp_along (hG : GOK G) (hd : 1 ≤ d) (hq : q < 7343) (e55 : σ.I 2155 0 q = nI p) (e67 : σ.I 2167 0 q = us) (hlen : vals.length = p) (hcl : ∀ (i : Nat) (v : Int32), vals[i]? = some v → s.I 2254 0 (fr + i) = v) (hfp : fr + p ≤ ct) (hct : ct + p ≤ 6240) (h : MQst τ σ M a 0 ct tt ft s) (H : ∀ t, MQst τ σ M a 0 (ct + p) tt ft t → (∀ (i : Nat) (v : Int32), vals[i]? = some v → t.I 2254 0 (ct + i) = v) → Kp ct tt ft s t → CT l G yX11_callBy (ws_ yX11_callBy cX11_callBy 9 (some .int)) (d - 1) [.ref (G.adr 11 0), .int us, .int self, .int (nI ct)] t (oQf τ σ r a (ct + p) tt ft ct t)) : CT l G yX11_alongBridge (ws_ yX11_alongBridge cX11_alongBridge 6 (some .int)) d [.ref (G.adr 11 0), .int (nI q), .int self, .int (nI fr)] s (oQf τ σ r a (ct + p) tt ft ct s) := sorry
end ALB
/-- a void body gives 0 or nothing -/
def Z0 (r : Zs) : Prop := ∀ v, r.2 = .ok (some v) → v = 0
section ZV0
variable {τ : Sg} {C : CalF} {S : StaF} {k : Nat} {ff : Env → MSt → Rz Unit} {Γ : Nat → Int64} {st : Bool} {nl : Nat} {e : Env}
theorem Z0.go {M : MSt} : Z0 (zsk M e) := sorry
theorem Z0.ze {α : Type} {r : Rz α} {kk : MSt → α → Zs} (h : ∀ t x, r = (t, .ok x) → Z0 (kk t x)) : Z0 (zse e r kk) := sorry
theorem Z0.b {r : Zs} {kk : MSt × Env → Zs} (h1 : Z0 r) (h : ∀ s, Z0 (kk s)) : Z0 (zsb r kk) := sorry
theorem Z0.t {r : Zs} {kk : MSt × Env → Int32 → Zs} (h1 : Z0 r) (h : ∀ s o, Z0 (kk s o)) : Z0 (zst r kk) := sorry
theorem Z0.wl {c : MSt → Env → Rz (List Int32)} {bd : MSt × Env → Zs} (h : ∀ s, Z0 (bd s)) : ∀ (n : Nat) (s : MSt × Env), Z0 (wlF c bd n s) := sorry
theorem exS_v0 (x : RT) : (¬ rOp x = 41 → wtS τ k Γ st nl 0 x → ∀ s, Z0 (exS τ C S k ff x s)) ∧ (rOp x = 41 → wtS τ k Γ st nl 0 x → ∃ sz b u yt ye, x = .inner sz b u yt ye ∧ (∀ s, Z0 (exS τ C S k ff yt s)) ∧ ∀ s, Z0 (exS τ C S k ff ye s)) := sorry
end ZV0
