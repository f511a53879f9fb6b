/-! THE MODEL's MACHINE: a member is called. -/
/-- the locals of a member when it begins -/
def lsM (τ : Sg) (m : Nat) : List Nat := (List.range (nPa τ m)).map fun i => (if τ.B 1203 m 0 = true then 0 else 1) + i
/-- how many cells a member has -/
def mLo (σ : Sg) (q : Nat) : Nat := (σ.I 2168 0 q).toNatClampNeg
/-- the locals of a body lie as they must -/
def scBd (nL : Nat) (Ls : List Nat) (x : RT) : Prop := (rSup x = false → scS nL Ls x) ∧ ∀ sz0 lb0 v0 sz1 lb1 v1 sz2 lb v2 y y' rest y0, x = .inner sz0 lb0 v0 (.inner sz1 lb1 v1 (.inner sz2 lb v2 y y') rest) y0 → lb.op = 38 → scX nL Ls y ∧ scS nL Ls rest
/-- a member's nodes, cells, use -/
def MmQ (τ σ : Sg) (P : Pg) (k j : Nat) : Prop := (σ.I 2168 0 (34 * cM k + j) = nI (mLo σ (34 * cM k + j)) ∧ nPa τ (33 * k + j) ≤ mLo σ (34 * cM k + j) ∧ mLo σ (34 * cM k + j) ≤ 260) ∧
  (τ.B 1206 (33 * k + j) 0 = true → mLo σ (34 * cM k + j) + nPa τ (33 * k + j) ≤ 260 ∧ σ.I 2155 0 (34 * cM k + j) = nI (nPa τ (33 * k + j)) ∧ σ.I 2167 0 (34 * cM k + j) = nI (muA τ k (P.2 (33 * k + j) - 1))) ∧
  (τ.B 1206 (33 * k + j) 0 = false → (RMs σ (kB τ k) (τ.I 1119 k 0).toNatClampNeg (P.1 (33 * k + j)) (σ.I 2161 0 (34 * cM k + j)) ∧ hgS (P.1 (33 * k + j)) ≤ 13) ∧ scBd (mLo σ (34 * cM k + j)) (lsM τ (33 * k + j)) (P.1 (33 * k + j)) ∧ (¬ τ.I 1200 (33 * k + j) 0 = 2 → rSup (P.1 (33 * k + j)) = false) ∧
    (τ.I 1200 (33 * k + j) 0 = 2 → FdX τ σ P (mLo σ (34 * cM k + j)) k (kB τ k) (τ.I 1119 k 0).toNatClampNeg ∧ (rSup (P.1 (33 * k + j)) = false → (P.2 (33 * k + j) = 0 → σ.I 2167 0 (34 * cM k + j) = -2) ∧ (¬ P.2 (33 * k + j) = 0 → σ.I 2167 0 (34 * cM k + j) = nI (muA τ k (P.2 (33 * k + j) - 1))))))
/-- all that is known of members -/
def MbQ (τ σ : Sg) (P : Pg) : Prop := ∀ k, k ∈ wKs τ 0 → ¬ τ.I 1101 k 0 = 26 → kB τ k < 17 ∧ ∀ j, j < nMe τ k → (τ.I 1200 (33 * k + j) 0 = 1 ∧ τ.B 1205 (33 * k + j) 0 = false) ∨ τ.I 1200 (33 * k + j) 0 = 2 → MmQ τ σ P k j
section INV
variable {l : Launch} {G : Gl} {d D : Nat} {τ σ s t g : Sg} {P : Pg} {C : CalF} {S : StaF} {a fr nL ct tt ft k : Nat} {M : MSt} {Ls : List Nat} {e : Env} {st : Bool} {self : Int32} {m j : Nat} {as : List Int32} {z : Zs}
/-- the end of a call -/
theorem iv_end {r : Rz Int32} {st' : Int32} {ct' : Nat} (h : MQst τ σ r.1 (a + 1) st' ct' tt ft t) (hst : (st' = 1 ∧ stc r = 0) ∨ (¬ st' = 1 ∧ st' = stc r)) (he : ∀ x, r.2 = .error x → (x.1 = true → t.I 2266 0 0 = x.2) ∧ (x.1 = false → t.I 2265 0 0 = x.2)) (hk : Kp fr tt ft s t) {v : Int32} (hv : ∀ w, r.2 = .ok w → v = w) {x1 x2 x3 : Int32} : wq_X11_invoke_168 l G d 0 x1 x2 x3 (oQf τ σ r a ct tt ft fr s) (nI ct) v t := sorry
/-- .. behind a body -/
theorem iv_zs {ct' : Nat} (h : ZQ τ σ z (a + 1) fr ct' tt ft Ls st self s t) {v : Int32} (hv : ∀ w, (zsV z).2 = .ok w → v = w) {x1 x2 x3 : Int32} : wq_X11_invoke_168 l G d 0 x1 x2 x3 (oQf τ σ (zsV z) a ct tt ft fr s) (nI ct) v t := sorry
/-- arguments lie in the cells -/
theorem en_as (hA : ArQ τ m as self fr s) (hl : as.length = (if τ.B 1203 m 0 = true then 0 else 1) + nPa τ m) (hn : nPa τ m ≤ nL) : EnQ s fr (fr + nL) (lsM τ m) (envA as) (τ.B 1203 m 0) self := sorry
end INV
