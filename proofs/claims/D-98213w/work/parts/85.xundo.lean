/-! X: undo -/
set_option maxRecDepth 100000
/-- the last version goes -/
theorem XR.popV {ow : Nat → Nat} {sh : SHT} {nn : Nat × Nat} {V V' : VT} {B : Nat} {z : ZT} {ap av al cp cv cl m : Nat} {gp gv gl : Nat → Nat} (hR : XR ow sh nn V B z) (hm : z.2 3 2 = (m : Int) + 1) (hne : ap ≠ av ∧ ap ≠ al ∧ av ≠ al) (p1 : StL ow sh V 1 (B + 26) ap cp (z.2 3 1).toNat gp) (p2 : ∀ k : Nat, (k : Int) < z.2 3 1 → PeR ow sh V (gp k) (z.2 3) k) (v1 : StL ow sh V 1 (B + 28) av cv (z.2 3 2).toNat gv) (v2 : ∀ k : Nat, (k : Int) < z.2 3 2 → VeR ow sh V (gv k) (z.2 3) k) (l1 : StL ow sh V 1 (B + 30) al cl (z.2 3 3).toNat gl) (l2 : ∀ k : Nat, (k : Int) < z.2 3 3 → LaR ow sh V (gl k) (z.2 3) k)
    (hL : LiR sh V' (B + 28) av cv m gv) (hV : ∀ a, a ≠ B + 28 → a ≠ av → V'.1 a = V.1 a ∧ V'.2.1 a = V.2.1 a ∧ V'.2.2 a = V.2.2 a) (hE : ∀ i : Int, 0 ≤ i → i < (cv : Int) → ∀ y, V'.2.2 av i = some y → V.2.2 av i = some y) (W : RWZ (z.2 3)) :
    XR ow sh nn V' B (za z 3 2 (z.2 3 2 - 1)) := by
  obtain ⟨r1, r2, r3, r4, r5, r6⟩ := hR
  have w1 := W.1.2.1
  obtain ⟨a1, ⟨a2, a3⟩, a4⟩ := v1
  have hst : ∀ i, xOk i = true → B + i ≠ av := fun i hi e => by
    have q1 := r1 i hi
    have q2 := a1.2.2.2.1
    rw [← e, q1] at q2
    exact (xNz hi).2.2 (congrArg Prod.fst q2)
  have kp : ∀ a, ow a ≠ 1 → ow a = ow a ∧ sh a = sh a ∧ V'.1 a = V.1 a ∧ V'.2.1 a = V.2.1 a ∧ V'.2.2 a = V.2.2 a := fun a ha => ⟨rfl, rfl, hV a (fun e => ha (by rw [e]; exact a2)) (fun e => ha (by rw [e]; exact a3))⟩
  have k4 : Kp (fun x => x = 4) ow ow sh sh V V' := fun a ha => kp a (by have ha : ow a = 4 := ha; omega)
  have f : ∀ i, i ≠ 2 → (za z 3 2 (z.2 3 2 - 1)).2 3 i = z.2 3 i := fun i hi => zf3 hi
  have f2 : (za z 3 2 (z.2 3 2 - 1)).2 3 2 = z.2 3 2 - 1 := zf3s
  have h20 : ∀ {L A c n : Nat} {g : Nat → Nat}, LiR sh V L A c n g → A ≠ B + 28 := fun h e => by
    have q := h.2.2.2.1
    rw [e, r1 28 (by decide)] at q
    exact absurd (show (20 : Nat) = 5 from congrArg Prod.fst q) (by decide)
  refine ⟨r1, r2, (r3.fr (fun i hi h => ?_)).ro (by omega), ?_, ?_, r6⟩
  · have hok : ∀ j, j < 69 → ¬ (26 ≤ j ∧ j ≤ 31) → xOk j = true := by decide
    have q := hV (B + i) (by omega) (hst i (hok i hi h))
    exact ⟨q.1, q.2.2⟩
  · refine ⟨ap, av, al, cp, cv, cl, gp, gv, gl, hne, ⟨?_, fun k hk => ?_⟩, ⟨?_, fun k hk => ?_⟩, ?_, fun k hk => ?_⟩
    · rw [f 1 (by omega)]
      exact p1.keep2 ⟨rfl, rfl, hV _ (by omega) (hst 26 (by decide))⟩ ⟨rfl, rfl, hV _ (h20 p1.1) hne.1⟩ k4
    · rw [f 1 (by omega)] at hk
      have q := (p2 k hk).keep k4
      unfold PeR at q ⊢
      rw [f _ (by omega), f _ (by omega), f _ (by omega)]; exact q
    · rw [f2, show (z.2 3 2 - 1).toNat = m by omega]
      exact ⟨hL, ⟨a2, a3⟩, fun i i0 i1 y hy => a4 i i0 i1 y (hE i i0 i1 y hy)⟩
    · rw [f2] at hk
      obtain ⟨q1, q2, q3, S, q4, q5, q6, q7⟩ := (v2 k (by omega)).keep k4
      refine ⟨q1, q2, ?_, S, q4, q5, q6, fun r r0 r1 => ?_⟩
      · rw [f _ (by omega), f _ (by omega), f _ (by omega)]; exact q3
      · have q := q7 r r0 r1
        show V'.1 (S + 1) r = wZ ((za z 3 2 (z.2 3 2 - 1)).2 3 (298 + 36 * k + r)) ∧ ((za z 3 2 (z.2 3 2 - 1)).2 3 (298 + 36 * k + r) ≠ -1 → _ = nZ ((za z 3 2 (z.2 3 2 - 1)).2 3 (298 + 36 * k + r)))
        rw [f _ (by omega)]; exact q
    · rw [f 3 (by omega)]
      exact l1.keep2 ⟨rfl, rfl, hV _ (by omega) (hst 30 (by decide))⟩ ⟨rfl, rfl, hV _ (h20 l1.1) (fun e => hne.2.2 e.symm)⟩ k4
    · rw [f 3 (by omega)] at hk
      have q := (l2 k hk).keep k4
      have et : txZ ((za z 3 2 (z.2 3 2 - 1)).2 3) = txZ (z.2 3) := funext fun i => by
        unfold txZ
        by_cases e : 780 ≤ i
        · rw [if_pos e, if_pos e]; exact f i (by omega)
        · rw [if_neg e, if_neg e]
      unfold LaR at q ⊢
      rw [et]; exact q
  · intro k hk
    have hB : V'.2.2 (B + 32) = V.2.2 (B + 32) := (hV _ (by omega) (hst 32 (by decide))).2.2
    have e5 : (za z 3 2 (z.2 3 2 - 1)).2 5 = z.2 5 := za_2 rfl
    have ei : imZ (za z 3 2 (z.2 3 2 - 1)) k = imZ z k := by
      unfold imZ
      rw [za_2 rfl]
    rw [hB, e5, ei]
    rcases r5 k hk with q | ⟨q1, I, q2, q3⟩
    · exact Or.inl q
    · exact Or.inr ⟨q1, I, q2, q3.keep (fun a ha => kp a (by have ha : ow a = 2 + k ∨ ow a = 4 := ha; omega))⟩
set_option maxHeartbeats 4000000 in
theorem kX0_undo {E : ET} {sh : SHT} {nn : Nat × Nat} {V : VT} {B : Nat} {ow : Nat → Nat} {z : ZT} (hR : XR ow sh nn V B z) (W : RWZ (z.2 3))   : TC E mX0_undo 4 [.ref B] sh nn V (XP B nn (zp_undo z)) := by
  obtain ⟨hB, -, hc, -⟩ := id hR
  have w2 := W.1.2.2.1
  have how := hR.2.1
  obtain ⟨ap, av, al, cp, cv, cl, gp, gv, gl, hne, ⟨hp1, hp2⟩, ⟨hv1, hv2⟩, hl1, hl2⟩ := id hR.2.2.2.1
  have hmv0 : True := trivial
  refine TC.intro [some (.ref B)] rfl ?_
  refine TGo.al0 dX0_undo_0 rfl ?_
  refine TGo.getS (t := 8) 2 2 (B + 2) (hB 0 (by decide)) rfl fgX0_16_0 dX0_undo_1 rfl rfl rfl ?_
  refine TGo.getS (t := 9) 6 6 (B + 28) (hB 2 (by decide)) rfl fgX0_136_1 dX0_undo_4 rfl rfl rfl ?_
  refine TGo.cF (csV0 (y2 := mJ2_isEmpty) (t := 20) 1 rfl (hB 28 (by decide)) rfl rfl dX0_undo_7 q1523 q1524 q1525 okJ2_isEmpty npJ2_isEmpty rfl rfl) (kJ2_isEmpty hv1.1) ?_
  refine TGo.ifb_eq 20 dX0_undo_10 (by decide) (fun h10 => ?_) (fun h10 => ?_)
  · have hm : z.2 3 2 = ((((z.2 3 2).toNat - 1) : Nat) : Int) + 1 := by omega
    have hvm : LiR sh V (B + 28) av cv (((z.2 3 2).toNat - 1) + 1) gv := (show (z.2 3 2).toNat = ((z.2 3 2).toNat - 1) + 1 by omega) ▸ hv1.1
    refine TGo.al0 dX0_undo_20 rfl ?_
    refine TGo.al0 dX0_undo_21 rfl ?_
    refine TGo.getS (t := 8) 2 2 (B + 2) (hB 0 (by decide)) rfl fgX0_16_0 dX0_undo_22 rfl rfl rfl ?_
    refine TGo.getS (t := 9) 6 6 (B + 28) (hB 2 (by decide)) rfl fgX0_136_1 dX0_undo_25 rfl rfl rfl ?_
    refine TGo.al0 dX0_undo_28 rfl ?_
    refine TGo.getS (t := 8) 2 2 (B + 2) (hB 0 (by decide)) rfl fgX0_16_0 dX0_undo_29 rfl rfl rfl ?_
    refine TGo.getS (t := 9) 6 6 (B + 28) (hB 2 (by decide)) rfl fgX0_136_1 dX0_undo_32 rfl rfl rfl ?_
    refine TGo.cF (csV0 (y2 := mJ2_size) (t := 20) 1 rfl (hB 28 (by decide)) rfl rfl dX0_undo_35 q756 q757 q758 okJ2_size npJ2_size rfl rfl) (kJ2_size hv1.1) ?_
    refine TGo.toz (z.2 3 2) (Int.toNat_of_nonneg (by omega)) ?_
    refine TGo.ic1 dX0_undo_38 ?_
    refine TGo.isub dX0_undo_39 ?_
    refine TGo.toz ((((z.2 3 2).toNat - 1) : Nat) : Int) (by omega) ?_
    refine TGo.cS (csV1 (y2 := mJ2_remove) (t := 20) 3 rfl (hB 28 (by decide)) rfl rfl dX0_undo_40 q1527 q1528 q1529 okJ2_remove npJ2_remove rfl rfl) (kJ2_remove hvm) (fun v40 V40 h40 => ?_)
    obtain ⟨rfl, q1, q2, q3⟩ := h40
    have hmv := hv2 ((z.2 3 2).toNat - 1) (by omega)
    have hVq : ∀ a, a ≠ B + 28 → a ≠ av → V40.1 a = V.1 a ∧ V40.2.1 a = V.2.1 a ∧ V40.2.2 a = V.2.2 a := fun a h1 h2 => q2 a (by simp; exact ⟨h1, h2⟩)
    have hR40 := hR.popV hm hne hp1 hp2 hv1 hv2 hl1 hl2 q1 hVq q3 W
    obtain ⟨-, -, hc40, -⟩ := id hR40
    have hg : V40.1 (gv ((z.2 3 2).toNat - 1)) 1 = z.2 3 (262 + 3 * (z.2 3 2 - 1) + 1) := by
      have e := (hVq (gv ((z.2 3 2).toNat - 1)) (fun e => by have q := hmv.1; rw [e] at q; have q2 := how 28 (by decide); rw [q2] at q; exact absurd q (by decide)) (fun e => by have q := hmv.1; rw [e, hv1.2.1.2] at q; exact absurd q (by decide))).1
      rw [e, hmv.2.2.1.2.1, show ((((z.2 3 2).toNat - 1) : Nat) : Int) = z.2 3 2 - 1 by omega]
    have hh := (W.2.2.2.2.1 (z.2 3 2 - 1) (by omega) (by omega)).2.1
    refine TGo.castO (t := 35) dX0_undo_43 q774 hmv.2.1 rfl rfl (Or.inl rfl) ?_
    refine TGo.getI (t := 35) 1 1 hmv.2.1 rfl fgX0_340_27 dX0_undo_46 rfl rfl rfl ?_
    refine TGo.toz _ (hg) ?_
    refine TGo.cS (csV1 (y2 := mX0_done) (t := 8) 1 rfl (hB 0 (by decide)) rfl rfl dX0_undo_49 q695 q697 qs3 okX0_done npX0_done rfl rfl) (kX0_done hB hc40) (fun v49 V49 h49 => ?_)
    obtain ⟨rfl, hc49, hf49⟩ := h49
    refine TGo.iret dX0_undo_52 rfl ?_
    have e : zp_undo z = (z.2 3 (262 + 3 * (z.2 3 2 - 1) + 1), zi (za z 3 2 (z.2 3 2 - 1)) 1 0) := by
      unfold zp_undo
      rw [if_neg (by omega), zT0 (by omega)]
    rw [e]
    exact ⟨rfl, ⟨ow, hR40.wr0 hf49 hc49 rfl rfl rfl⟩, ⟨Nat.le_refl _, by omega⟩, Nat.le_refl _, by omega⟩
  · refine TGo.al0 dX0_undo_13 rfl ?_
    refine TGo.bip (-3) dX0_undo_14 (by decide) ?_
    refine TGo.cS (csV1 (y2 := mX0_refuse) (t := 8) 1 rfl (hB 0 (by decide)) rfl rfl dX0_undo_16 q601 q603 qs1 okX0_refuse npX0_refuse rfl rfl) (kX0_refuse hB hc (by omega)) (fun v16 V16 h16 => ?_)
    obtain ⟨rfl, hc16, hf16⟩ := h16
    refine TGo.iret dX0_undo_19 rfl ?_
    first
    | (exfalso; omega)
    | (refine hR.leaf W (FrX.rf.tr hf16) hc16 ((zTell_2 rfl).trans rfl) ((zTell_2 rfl).trans rfl) StA.rf.tell ?_
       unfold zp_undo
       rw [if_pos (by omega)])
