/-! THE WORLD IS LAID: what both machines must know. -/
section KNT
variable {s : Sg} {P : Pg} {b i k j : Nat}
/-- the libraries that the model asks -/
theorem WrI.flb (h : WrI s P) : FLb s s (pkL s) := sorry
theorem WrI.lbe (h : WrI s P) (nm : Int64) : LbE s s (pkL s) nm := sorry
/-- the model finds what LinkHouse finds -/
theorem WrI.fd (h : WrI s P) {nm : Int64} (hn : TyC nm) : mFnd s (tM nm) = (hTt s ([192, 193] ++ (List.range 5).flatMap (pkL s)) nm).map cM := sorry
theorem WrI.mfd (h : WrI s P) : MFd s s 0 := sorry
theorem WrI.mwd (h : WrI s P) : MWd s s 0 (wKs s 0) := sorry
theorem WrI.mld (h : WrI s P) : MLd s s := sorry
theorem WrI.mlk (h : WrI s P) : MLk s s := sorry
theorem WrI.ovu (h : WrI s P) : OvU s s 0 := sorry
theorem WrI.wma (h : WrI s P) : WMa s P := sorry
theorem WrI.wco (h : WrI s P) : WCo s P := sorry
theorem WrI.knt (h : WrI s P) : KnT s s P := sorry
/-- what meeting must know -/
theorem WrI.wi (h : WrI s P) : WI s := sorry
end KNT
