/-! X: small things -/
set_option maxRecDepth 100000
set_option maxHeartbeats 4000000 in
theorem kX0_near {E : ET} {sh : SHT} {nn : Nat × Nat} {V : VT} {v lo hi : Int} (h0 : -9223372036854775808 ≤ v ∧ v ≤ 9223372036854775807) (h1 : R32 lo) (h2 : R32 hi) (h : lo ≤ hi) : TF E mX0_near 2 [.long (lI v), .int (iI lo), .int (iI hi)] sh nn V (.int (iI (wiZ v lo hi))) := by
  refine TC.intro [some (.long (lI v)), none, some (.int (iI lo)), some (.int (iI hi))] rfl ?_
  refine TGo.il2 dX0_near_0 rfl ?_
  refine TGo.i2l dX0_near_1 (by omega) ?_
  refine TGo.il3 dX0_near_2 rfl ?_
  refine TGo.i2l dX0_near_3 (by omega) ?_
  refine TGo.ll0 dX0_near_4 rfl ?_
  refine TGo.mminL dX0_near_5 q1356 (by omega) rfl (by omega) ?_
  refine TGo.mmaxL dX0_near_8 q1359 (by omega) rfl (by omega) ?_
  refine TGo.l2i dX0_near_11 (by omega) ?_
  refine TGo.iret dX0_near_12 rfl ?_
  refine leafF ?_
  unfold wiZ
  (repeat' split) <;> omega
