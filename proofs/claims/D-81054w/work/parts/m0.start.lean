/-! THE MODEL's MACHINE: a class is started. -/
section STU
variable {l : Launch} {G : Gl} {d D : Nat} {τ σ s t : Sg} {P : Pg} {C : CalF} {S : StaF} {M M2 : MSt} {a ct tt ft k b : Nat}
theorem ol_pos {f : Nat → Int32} {n : Nat} (hn : n < 64) (h : f n = 1) : 0 < (ol f).length := sorry
/-- its end -/
theorem st_151 (hG : GOK G) (hd : 2 ≤ d) (hW : WQ τ σ P) (hk : k ∈ wKs τ 0) (nb : ¬ τ.I 1101 k 0 = 26) {R : Rz Unit} {st : Int32} (h : MQst τ σ R.1 a st ct tt ft t) (hi : MInv τ R.1) (hsr : R.1.sr (nW τ k) = 1) (hlk : R.1.lk (nW τ k) = 1) (h0 : ∀ u, R.2 = .ok u → st = 0) (h3 : ∀ x, R.2 = .error x → st = 3 ∧ x.1 = false ∧ t.I 2265 0 0 = x.2) (hp : Kp ct tt ft s t) : wq_X11_start_151 l G d 0 (nI (cM k)) (oQv τ σ (stEn τ k R) a ct tt ft s) t := sorry
/-- behind what it does itself -/
theorem st_126 (hG : GOK G) (hd : 2 ≤ d) (hW : WQ τ σ P) (hk : k ∈ wKs τ 0) (nb : ¬ τ.I 1101 k 0 = 26) {R : Rz Unit} (h : SsR τ σ R (a + 1) ct tt ft t) (hi : MInv τ R.1) (hsr : R.1.sr (nW τ k) = 1) (hlk : R.1.lk (nW τ k) = 1) (hp : Kp ct tt ft s t) : wq_X11_start_126 l G d 0 (nI (cM k)) (oQv τ σ (stEn τ k R) a ct tt ft s) t := sorry
/-- what it does itself -/
theorem st_114 (hG : GOK G) (hd : D + 37 ≤ d) (hW : WQ τ σ P) (hk : KHw τ M2 k) (hsr : M2.sr (nW τ k) = 1) (hC : CaK τ C) (hS : StK τ S) (KS : ∀ nL, nL ≤ 260 → SkN l G D τ σ P C S (a + 1) ct nL tt ft k b (τ.I 1119 k 0).toNatClampNeg) (hX : StX τ σ P k b (τ.I 1119 k 0).toNatClampNeg) {R1 : Rz Unit} (h : RQm τ σ R1 (a + 1) ct tt ft t) (hok : RzOk τ M2 R1 (fun _ _ => True)) (hn : RzN R1) (hp : Kp ct tt ft s t) : wq_X11_start_114 l G d 0 (nI (cM k)) (oQv τ σ (stEn τ k (rzb R1 fun s _ => stMs τ P C S k (nMe τ k) 0 (stCs τ k (nMe τ k) 0 s))) a ct tt ft s) t := sorry
end STU
