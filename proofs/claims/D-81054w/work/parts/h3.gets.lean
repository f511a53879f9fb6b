/-! THE MODEL's MACHINE: fields are asked; asks, casts; an object is made. -/
/-- room: cells, tasks, faces -/
def BdQ (a ct tt ft : Nat) : Prop := ct ≤ 260 * a ∧ tt ≤ 720 * a ∧ ft ≤ 320 * a ∧ a ≤ 24
/-- classes start as S says -/
def StM (l : Launch) (G : Gl) (d : Nat) (τ σ : Sg) (S : StaF) (a : Nat) : Prop := ∀ (c : Nat) (M : MSt) (ct tt ft : Nat) (s : Sg), c ∈ wKs τ 0 → MInv τ M → MQst τ σ M a 0 ct tt ft s → BdQ a ct tt ft → CT l G yX11_start (ws_ yX11_start cX11_start 4 none) d [.ref (G.adr 11 0), .int (nI (cM c))] s (oQv τ σ (S c M) a ct tt ft s)
section GTS
variable {l : Launch} {G : Gl} {d : Nat} {τ σ s t : Sg} {P : Pg} {M : MSt} {a ct tt ft k u : Nat} {S : StaF}
theorem RQm.er {α β : Type} {M3 : MSt} {x : Er} (h : RQm τ σ ((M3, .error x) : Rz α) a ct tt ft t) : RQm τ σ ((M3, .error x) : Rz β) a ct tt ft t := sorry
theorem mtN_lo {r : MT} {v : Nat} (h : uSo τ k u = nI v) (hv : v < 11) : mtN τ (uAt τ k u) r = r.2.2.1 := sorry
theorem mM_q (hM : WMa τ P) {c j : Nat} (hc : c ∈ wKs τ 0) (hj : j < nMe τ c) : mM (33 * c + j) = 34 * cM c + j ∧ 34 * cM c + j < 7343 ∧ (34 * cM c + j) / 34 = cM c := sorry
theorem ob_le (hI : MInv τ M) : M.ob.length ≤ 200 ∧ M.us ≤ 2000 := sorry
/-- where a field lies, it lies among those that are used -/
theorem cell_us (hM : WMa τ P) (hI : MInv τ M) {i kk a' d' j : Nat} (eo : M.ob[i]? = some (kk, a')) (hd : d' ∈ wUps τ kk) (hj : j < nMe τ d') (h0 : τ.I 1200 (33 * d' + j) 0 = 0) (hs : τ.B 1203 (33 * d' + j) 0 = false) : a' + slA τ (33 * d' + j) < M.us ∧ M.us ≤ 2000 := sorry
/-- a field of an object is asked -/
theorem sp_getOf (hG : GOK G) (hd : 146 ≤ d) (hW : WQ τ σ P) (hFd : FdQ τ) (hI : MInv τ M) {v : Int32} (hk : KHw τ M k) (hu : u < nUk τ k) (h3 : uSo τ k u = 3) (hv : vOk τ M (uTi τ k u) v) (hn : ¬ uTi τ k u = 1) (h : MQst τ σ M a 0 ct tt ft s) : CT l G yX11_getOf (ws_ yX11_getOf cX11_getOf 4 (some .int)) d [.ref (G.adr 11 0), .int (nI (muA τ k u)), .int v] s (oQ τ σ (rzG τ k u v M) a ct tt ft s) := sorry
/-- a static field is asked -/
theorem sp_getStatic (hG : GOK G) (hd : 146 ≤ d) (hW : WQ τ σ P) (hI : MInv τ M) (hS : StK τ S) (hSt : StM l G (d - 1) τ σ S a) (hk : KHw τ M k) (hu : u < nUk τ k) (h3 : uSo τ k u = 5) (h : MQst τ σ M a 0 ct tt ft s) (hb : BdQ a ct tt ft) : CT l G yX11_getStatic (ws_ yX11_getStatic cX11_getStatic 3 (some .int)) d [.ref (G.adr 11 0), .int (nI (muA τ k u))] s (oQ τ σ (rzGs τ S k u M) a ct tt ft s) := sorry
/-- the class that a use names -/
theorem find_u (hG : GOK G) (hd : 2 ≤ d) (hW : WQ τ σ P) (h : FQm σ s) {nm : Int64} {c : Nat} (ht : TyC nm) (hc : wFind τ 0 nm = some c) : CT l G yX11_find (ws_ yX11_find cX11_find 6 (some .int)) d [.ref (G.adr 11 0), .long (tM nm)] s (rI (nI (cM c)) (fun t => t = s)) := sorry
theorem use_q (hW : WQ τ σ P) (h : FQm σ s) (hk : k ∈ wKs τ 0) (nb : ¬ τ.I 1101 k 0 = 26) (hu : u < nUk τ k) : muA τ k u < 30600 ∧ s.I 2219 0 (muA τ k u) = uSo τ k u ∧ TyC (uTi τ k u) ∧ s.L 2221 0 (muA τ k u) = tM (uTi τ k u) := sorry
/-- ask -/
theorem sp_asked (hG : GOK G) (hd : 146 ≤ d) (hW : WQ τ σ P) (hI : MInv τ M) {v : Int32} {ty : Int64} {n : Nat} (hn : n < 30600) (hk : KHw τ M k) (hu : u < nUk τ k) (h3 : uSo τ k u = 14) (hv : vOk τ M ty v) (ht : ¬ ty = 1) (e87 : σ.I 2187 0 n = nI (muA τ k u)) (h : MQst τ σ M a 0 ct tt ft s) : CT l G yX11_asked (ws_ yX11_asked cX11_asked 3 (some .int)) d [.ref (G.adr 11 0), .int (nI n), .int v] s (oQ τ σ (rzA τ k u v M) a ct tt ft s) := sorry
/-- cast -/
theorem sp_cast (hG : GOK G) (hd : 146 ≤ d) (hW : WQ τ σ P) (hI : MInv τ M) {v : Int32} {ty : Int64} {n : Nat} (hn : n < 30600) (hk : KHw τ M k) (hu : u < nUk τ k) (h3 : uSo τ k u = 13) (hv : vOk τ M ty v) (ht : ¬ ty = 1) (e87 : σ.I 2187 0 n = nI (muA τ k u)) (e75 : σ.L 2175 0 n = tM (uTi τ k u)) (h : MQst τ σ M a 0 ct tt ft s) : CT l G yX11_cast (ws_ yX11_cast cX11_cast 3 (some .int)) d [.ref (G.adr 11 0), .int (nI n), .int v] s (oQ τ σ (rzC τ k u v M) a ct tt ft s) := sorry
end GTS
