/-! Linker.load comes to an end -/
theorem setN_s {f : Nat → Int32} {n : Nat} {v : Int32} : setN f n v n = v := sorry
theorem setN_n {f : Nat → Int32} {n j : Nat} {v : Int32} (h : j ≠ n) : setN f n v j = f j := sorry
def LOK (st : LSt) : Prop := ∀ j, st.1 j = 0 ∨ st.1 j = 1 ∨ st.1 j = 2 ∨ ∃ n, 0 < n ∧ n ≤ 16 ∧ st.1 j = nI (100 + n)
def FOK (f : Int32) : Prop := ∃ n, n ≤ 16 ∧ f = nI n
/-- the numbers of which nothing is loaded -/
def zs (st : LSt) : List Nat := (List.range 64).filter (fun j => decide (st.1 j = 0))
theorem zs_nodup (st : LSt) : (zs st).Nodup := sorry
theorem zs_mem {st : LSt} {j : Nat} : j ∈ zs st ↔ j < 64 ∧ st.1 j = 0 := sorry
theorem zs_mono {s t : LSt} (h : ∀ j, s.1 j ≠ 0 → t.1 j ≠ 0) : (zs t).length ≤ (zs s).length := sorry
theorem zs_set {s : LSt} {n : Nat} (hn : n < 64) (h0 : s.1 n = 0) {v : Int32} (hv : v ≠ 0) (e : List Int32) : (zs (setN s.1 n v, e)).length < (zs s).length := sorry
theorem nI_ne0' {n : Nat} (h0 : 0 < n) (h : n < 2 ^ 31) : nI n ≠ 0 := sorry
theorem nI_sub100 (n : Nat) : nI (100 + n) - 100 = nI n := sorry
theorem FOK.le0 {f : Int32} (h : FOK f) (h0 : f ≤ 0) : f = 0 := sorry
theorem FOK.c1 {σ : Sg} {k p : Nat} {f : Int32} (h : FOK f) : FOK (ldC1 σ k p f) := sorry
theorem FOK.c2 {σ : Sg} {k p : Nat} {f : Int32} (h : FOK f) : FOK (ldC2 σ k p f) := sorry
theorem LOK.set {st : LSt} (h : LOK st) (n : Nat) (v : Int32) (hv : v = 1 ∨ v = 2 ∨ ∃ n, 0 < n ∧ n ≤ 16 ∧ v = nI (100 + n)) (e : List Int32) : LOK (setN st.1 n v, e) := sorry
theorem evt_1 {σ : Sg} {st : LSt} {k : Nat} {v : Int32} : (evt σ st k v).1 = st.1 := sorry
/-- one stands directly above another in the world -/
def SupL (σ : Sg) (k s : Nat) : Prop := (σ.B 1102 k 0 = false ∧ wFind σ 0 (σ.L 1107 k 0) = some s) ∨ ∃ j, j < nFc σ k ∧ wFind σ 0 (σ.L 1108 k j) = some s
/-- what is loaded stands on what is loaded, and in no ring -/
def LCL (σ : Sg) (st : LSt) : Prop := ∃ rk : Nat → Nat, ∀ k, k ∈ wKs σ 0 → ¬ σ.I 1101 k 0 = 26 → st.1 (nW σ k) = 1 → (σ.B 1102 k 0 = false → ∃ p, wFind σ 0 (σ.L 1107 k 0) = some p ∧ ldC1 σ k p 0 = 0) ∧ (∀ j, j < nFc σ k → ∃ e, wFind σ 0 (σ.L 1108 k j) = some e ∧ ldC2 σ k e 0 = 0) ∧ ∀ s, SupL σ k s → σ.I 1101 s 0 = 26 ∨ (st.1 (nW σ s) = 1 ∧ rk s < rk k)
def LDp (σ : Sg) (k : Nat) (st : LSt) (r : Int32 × LSt) : Prop := LOK r.2 ∧ FOK r.1 ∧ (∀ j, st.1 j ≠ 0 → r.2.1 j = st.1 j) ∧ LCL σ r.2 ∧ (r.1 = 0 → σ.I 1101 k 0 = 26 ∨ r.2.1 (nW σ k) = 1)
/-- of faces j, .. j + m - 1 -/
def LDf (σ : Sg) (k m j : Nat) (st : LSt) (r : Int32 × LSt) : Prop := LOK r.2 ∧ FOK r.1 ∧ (∀ j, st.1 j ≠ 0 → r.2.1 j = st.1 j) ∧ LCL σ r.2 ∧ (r.1 = 0 → ∀ i, j ≤ i → i < j + m → ∃ e, wFind σ 0 (σ.L 1108 k i) = some e ∧ ldC2 σ k e 0 = 0 ∧ (σ.I 1101 e 0 = 26 ∨ r.2.1 (nW σ e) = 1))
theorem ldC2_0 {σ : Sg} {k p : Nat} {f : Int32} (hf : FOK f) (h : ldC2 σ k p f ≤ 0) : f = 0 ∧ ldC2 σ k p 0 = 0 := sorry
theorem ldC1_0 {σ : Sg} {k p : Nat} {f : Int32} (hf : FOK f) (h : ldC1 σ k p f ≤ 0) : f = 0 ∧ ldC1 σ k p 0 = 0 := sorry
theorem keeps_mono {s t : LSt} (h : ∀ j, s.1 j ≠ 0 → t.1 j = s.1 j) : (zs t).length ≤ (zs s).length := sorry
theorem one_ne0 : (1 : Int32) ≠ 0 := sorry
/-- a class that is not loaded is changed: nothing that is loaded stands on it -/
theorem LCL.set {σ : Sg} {st : LSt} (hC : LCL σ st) {n : Nat} {v : Int32} (hv : v ≠ 1) (h0 : st.1 n ≠ 1) (e : List Int32) : LCL σ (setN st.1 n v, e) := sorry
theorem nW_inj {σ : Sg} (hW : WOK σ 0) (hN : WNO σ) {a b : Nat} (ha : a ∈ wKs σ 0) (hb : b ∈ wKs σ 0) (h : nW σ a = nW σ b) : a = b := sorry
def rkMax (rk : Nat → Nat) : List Nat → Nat
  | [] => 0
  | a :: l => max (rk a) (rkMax rk l)
theorem rkMax_le {rk : Nat → Nat} : ∀ (l : List Nat) (a : Nat), a ∈ l → rk a ≤ rkMax rk l := sorry
/-- a class is loaded: it stands on what is loaded -/
theorem LCL.done {σ : Sg} (hW : WOK σ 0) (hN : WNO σ) {st : LSt} (hC : LCL σ st) {k : Nat} (hk : k ∈ wKs σ 0) (h0 : st.1 (nW σ k) ≠ 1) (hp : σ.B 1102 k 0 = false → ∃ p, wFind σ 0 (σ.L 1107 k 0) = some p ∧ ldC1 σ k p 0 = 0 ∧ (σ.I 1101 p 0 = 26 ∨ st.1 (nW σ p) = 1)) (hf : ∀ i, i < nFc σ k → ∃ e, wFind σ 0 (σ.L 1108 k i) = some e ∧ ldC2 σ k e 0 = 0 ∧ (σ.I 1101 e 0 = 26 ∨ st.1 (nW σ e) = 1)) (e : List Int32) : LCL σ (setN st.1 (nW σ k) 1, e) := sorry
theorem LCL.evt {σ : Sg} {st : LSt} {k : Nat} {v : Int32} (h : LCL σ st) : LCL σ (evt σ st k v) := sorry
theorem ld_some {σ : Sg} (hW : WOK σ 0) (hN : WNO σ) : ∀ (n k : Nat) (st : LSt), k ∈ wKs σ 0 → LOK st → LCL σ st → (zs st).length < n → ∃ r, ld σ n k st = some r ∧ LDp σ k st r := sorry
/-- load, with fuel enough -/
def wLd (σ : Sg) (k : Nat) (st : LSt) : Int32 × LSt := (ld σ 65 k st).getD (0, st)
theorem wLd_e {σ : Sg} (hW : WOK σ 0) (hN : WNO σ) {k : Nat} {st : LSt} (hk : k ∈ wKs σ 0) (hL : LOK st) (hC : LCL σ st) : ld σ 65 k st = some (wLd σ k st) ∧ LDp σ k st (wLd σ k st) := sorry
/-- loading what a name says -/
def wLn (σ : Sg) (nm : Int64) (st : LSt) : Int32 × LSt := match wFind σ 0 nm with
  | none => (1, st)
  | some k => wLd σ k st
theorem ldFs_st {σ : Sg} {g : Nat → LSt → Option (Int32 × LSt)} {k : Nat} : ∀ n j st, ldFs (stat σ) g k n j st = ldFs σ g k n j st := sorry
theorem ldH_st {σ : Sg} {g : Nat → LSt → Option (Int32 × LSt)} {k : Nat} {st : LSt} : ldH (stat σ) g k st = ldH σ g k st := sorry
theorem ld_st {σ : Sg} : ∀ n, ld (stat σ) n = ld σ n := sorry
theorem wLd_st {σ : Sg} {k : Nat} {st : LSt} : wLd (stat σ) k st = wLd σ k st := sorry
theorem wLn_st {σ : Sg} {nm : Int64} {st : LSt} : wLn (stat σ) nm st = wLn σ nm st := sorry
theorem wLd_mix {p : Nat → Nat → Bool} {σ ρ : Sg} (h : ∀ c i, sc c = true → p c i = false) {k : Nat} {st : LSt} : wLd (mix p σ ρ) k st = wLd σ k st := sorry
theorem wLn_mix {p : Nat → Nat → Bool} {σ ρ : Sg} (h : ∀ c i, sc c = true → p c i = false) {nm : Int64} {st : LSt} : wLn (mix p σ ρ) nm st = wLn σ nm st := sorry
section SPM
variable {l : Launch} {G : Gl} {σ : Sg}
theorem sq_X8_load (hG : GOK G) {d i k : Nat} (hd : 133 ≤ d) (hi : i < cnt 8) (hW : WOK σ 0) (hS : Shp σ) (hN : WNO σ) (hk : k ∈ wKs σ 0) {st : LSt} (hL : LOK st) (hC : LCL σ st) {ρ : Sg} (hf : LSR ρ i st) : CT l G yX8_load (ws_ yX8_load cX8_load 4 (some .int)) d [.ref (G.adr 8 i), rv G 1 (some k)] (mix (pK i) σ ρ) (rI (wLd σ k st).1 (fun s => ∃ ρ', s = mix (pK i) σ ρ' ∧ LSR ρ' i (wLd σ k st).2)) := sorry
theorem sp_X8_loadNamed (hG : GOK G) {d i : Nat} (hd : 134 ≤ d) (hi : i < cnt 8) (hW : WOK σ 0) (hS : Shp σ) (hN : WNO σ) (nm : Int64) {st : LSt} (hL : LOK st) (hC : LCL σ st) {ρ : Sg} (hf : LSR ρ i st) : CT l G yX8_loadNamed (ws_ yX8_loadNamed cX8_loadNamed 4 (some .int)) d [.ref (G.adr 8 i), .long nm] (mix (pK i) σ ρ) (rI (wLn σ nm st).1 (fun s => ∃ ρ', s = mix (pK i) σ ρ' ∧ LSR ρ' i (wLn σ nm st).2)) := sorry
end SPM
