/-! X: put -/
set_option maxRecDepth 100000
/-- the same when a person is put in another's place; A1 is the list's array then -/
theorem XR.setP {ow : Nat → Nat} {sh sh' : SHT} {nn nn' : Nat × Nat} {V V' : VT} {B : Nat} {z : ZT} {A1 c1 ap cp : Nat} {gp : Nat → Nat} {p w v : Int} (hp : 0 ≤ p ∧ p < z.2 3 1) (hw : w = 0 ∨ w = 1) (hR : XR ow sh nn V B z) (W : RWZ (z.2 3)) (hap : StL ow sh V 1 (B + 26) ap cp (z.2 3 1).toNat gp) (hpe : ∀ k : Nat, (k : Int) < z.2 3 1 → PeR ow sh V (gp k) (z.2 3) k) (hoth : ∃ av al cv cl, ∃ gv gl : Nat → Nat, (ap ≠ av ∧ ap ≠ al ∧ av ≠ al) ∧ (StL ow sh V 1 (B + 28) av cv (z.2 3 2).toNat gv ∧ ∀ k : Nat, (k : Int) < z.2 3 2 → VeR ow sh V (gv k) (z.2 3) k) ∧ (StL ow sh V 1 (B + 30) al cl (z.2 3 3).toNat gl ∧ ∀ k : Nat, (k : Int) < z.2 3 3 → LaR ow sh V (gl k) (z.2 3) k))
    (hs : ∀ a, a < nn.1 → sh' a = sh a) (hL : LiR sh' V' (B + 26) A1 c1 ((z.2 3 1).toNat) (fun i => if i = p.toNat then nn.1 else gp i)) (hA : A1 = ap ∨ (nn.1 < A1 ∧ A1 < nn'.1)) (hV : ∀ a, a < nn.1 → a ≠ B + 26 → a ≠ A1 → V'.1 a = V.1 a ∧ V'.2.1 a = V.2.1 a ∧ V'.2.2 a = V.2.2 a)
    (hE : ∀ i : Int, 0 ≤ i → i < (c1 : Int) → ∀ y, V'.2.2 A1 i = some y → y = nn.1 ∨ ∃ j : Int, (0 ≤ j ∧ j < (cp : Int)) ∧ V.2.2 ap j = some y) (hx : sh' nn.1 = (19, 0)) (hx0 : V'.1 nn.1 0 = (za z 3 (238 + 3 * p + 1 + w) v).2 3 (238 + 3 * p) ∧ V'.1 nn.1 1 = (za z 3 (238 + 3 * p + 1 + w) v).2 3 (238 + 3 * p + 1) ∧ V'.1 nn.1 2 = (za z 3 (238 + 3 * p + 1 + w) v).2 3 (238 + 3 * p + 2)) (hn : nn.1 < nn'.1) :
    XR (owU ow nn.1 A1 1) sh' nn' V' B (za z 3 (238 + 3 * p + 1 + w) v) := by
  obtain ⟨r1, r2, r3, r4, r5, r6⟩ := hR
  have w1 := W.1.2.1
  have w2 := W.1.2.2.1
  obtain ⟨a1, ⟨a2, a3⟩, a4⟩ := hap
  have hst : ∀ i, xOk i = true → B + i < nn.1 ∧ B + i ≠ ap := fun i hi => ⟨r6 _ (by rw [r2 i hi]; decide), fun e => by
    have q1 := r1 i hi
    have q2 := a1.2.2.2.1
    rw [← e, q1] at q2
    exact (xNz hi).2.2 (congrArg Prod.fst q2)⟩
  have hA1 : ∀ i, xOk i = true → B + i ≠ A1 := fun i hi => by
    have q := hst i hi
    rcases hA with e | e
    · rw [e]; exact q.2
    · omega
  have hAx : A1 ≠ nn.1 := by
    rcases hA with e | e
    · have := r6 ap (by rw [a3]; decide); omega
    · omega
  -- what keeps its owner and its cell
  have kp : ∀ a, ow a ≠ 0 → a ≠ B + 26 → a ≠ A1 → owU ow nn.1 A1 1 a = ow a ∧ sh' a = sh a ∧ V'.1 a = V.1 a ∧ V'.2.1 a = V.2.1 a ∧ V'.2.2 a = V.2.2 a := fun a ha h1 h2 => by
    have hlt := r6 a ha
    refine ⟨?_, hs a hlt, hV a hlt h1 h2⟩
    unfold owU
    rw [if_neg (by omega), if_neg h2]
  have h26 : ow (B + 26) = 1 := a2
  have k4 : Kp (fun x => x = 4) ow (owU ow nn.1 A1 1) sh sh' V V' := fun a ha => by
    have ha : ow a = 4 := ha
    refine kp a (by omega) (fun e => by rw [e, h26] at ha; omega) (fun e => ?_)
    rcases hA with e2 | e2
    · rw [e, e2, a3] at ha; omega
    · have := r6 a (by omega); omega
  obtain ⟨av, al, cv, cl, gv, gl, ⟨d1, d2, d3⟩, ⟨v1, v2⟩, l1, l2⟩ := hoth
  have kl : ∀ a, ow a = 1 → a ≠ B + 26 → a ≠ ap → owU ow nn.1 A1 1 a = ow a ∧ sh' a = sh a ∧ V'.1 a = V.1 a ∧ V'.2.1 a = V.2.1 a ∧ V'.2.2 a = V.2.2 a := fun a ha h1 h2 => by
    refine kp a (by omega) h1 ?_
    rcases hA with e2 | e2
    · rw [e2]; exact h2
    · have := r6 a (by omega); omega
  have fz : ∀ i, i ≠ 238 + 3 * p + 1 + w → (za z 3 (238 + 3 * p + 1 + w) v).2 3 i = z.2 3 i := fun i hi => by
    rw [zf3 hi]
  have f1 : (za z 3 (238 + 3 * p + 1 + w) v).2 3 1 = z.2 3 1 := zf3 (by omega)
  refine ⟨fun i hi => (hs _ (hst i hi).1).trans (r1 i hi), fun i hi => ?_, ?_, ?_, ?_, ?_⟩
  · unfold owU
    rw [if_neg (by have := (hst i hi).1; omega), if_neg (hA1 i hi)]; exact r2 i hi
  · refine (r3.fr (fun i hi h => ?_)).ro (by omega)
    have hok : ∀ j, j < 69 → ¬ (26 ≤ j ∧ j ≤ 31) → xOk j = true := by decide
    have q := hV (B + i) (hst i (hok i hi h)).1 (by omega) (hA1 i (hok i hi h))
    exact ⟨q.1, q.2.2⟩
  · have hAv : A1 ≠ av := by
      rcases hA with e | e
      · rw [e]; exact d1
      · have := r6 av (by rw [v1.2.1.2]; decide); omega
    have hAl : A1 ≠ al := by
      rcases hA with e | e
      · rw [e]; exact d2
      · have := r6 al (by rw [l1.2.1.2]; decide); omega
    have hAp26 : A1 ≠ B + 26 := hL.ne
    have hox : owU ow nn.1 A1 1 nn.1 = 4 := if_pos rfl
    refine ⟨A1, av, al, c1, cv, cl, (fun i => if i = p.toNat then nn.1 else gp i), gv, gl, ⟨hAv, hAl, d3⟩, ⟨?_, fun k hk => ?_⟩, ⟨?_, fun k hk => ?_⟩, ?_, fun k hk => ?_⟩
    · rw [f1]
      refine ⟨hL, ⟨?_, ?_⟩, fun i i0 i1 y hy => ?_⟩
      · show owU ow nn.1 A1 1 (B + 26) = 1
        unfold owU
        rw [if_neg (by have := r6 (B + 26) (by rw [h26]; decide); omega), if_neg (fun e => hAp26 e.symm)]; exact h26
      · unfold owU
        rw [if_neg hAx, if_pos rfl]
      · rcases hE i i0 i1 y hy with e | ⟨j, hj, e⟩
        · rw [e]; exact hox
        · have q := a4 j hj.1 hj.2 y e
          rw [(k4 y q).1]; exact q
    · rw [f1] at hk
      by_cases e : k = p.toNat
      · have ek : (k : Int) = p := by omega
        show PeR _ _ _ (if k = p.toNat then nn.1 else gp k) _ _
        rw [if_pos e]
        refine ⟨hox, hx, ?_⟩
        rw [ek]; exact hx0
      · show PeR _ _ _ (if k = p.toNat then nn.1 else gp k) _ _
        rw [if_neg e]
        have q := (hpe k (by omega)).keep k4
        unfold PeR at q ⊢
        rw [fz _ (by omega), fz _ (by omega), fz _ (by omega)]; exact q
    · rw [fz 2 (by omega)]
      exact v1.keep2 (kl _ v1.2.1.1 (by omega) (fun e => (hst 28 (by decide)).2 e)) (kl _ v1.2.1.2 (fun e => by
        have q1 := v1.1.2.2.2.1
        rw [e, r1 26 (by decide)] at q1
        exact absurd (show (20 : Nat) = 5 from congrArg Prod.fst q1) (by decide)) (fun e => d1 e.symm)) k4
    · rw [fz 2 (by omega)] at hk
      obtain ⟨q1, q2, q3, S, q4, q5, q6, q7⟩ := (v2 k hk).keep k4
      refine ⟨q1, q2, ?_, S, q4, q5, q6, fun r r0 r1 => ?_⟩
      · rw [fz _ (by omega), fz _ (by omega), fz _ (by omega)]; exact q3
      · have q := q7 r r0 r1
        show V'.1 (S + 1) r = wZ ((za z 3 (238 + 3 * p + 1 + w) v).2 3 (298 + 36 * k + r)) ∧ ((za z 3 (238 + 3 * p + 1 + w) v).2 3 (298 + 36 * k + r) ≠ -1 → _ = nZ ((za z 3 (238 + 3 * p + 1 + w) v).2 3 (298 + 36 * k + r)))
        rw [fz _ (by omega)]; exact q
    · rw [fz 3 (by omega)]
      exact l1.keep2 (kl _ l1.2.1.1 (by omega) (fun e => (hst 30 (by decide)).2 e)) (kl _ l1.2.1.2 (fun e => by
        have q1 := l1.1.2.2.2.1
        rw [e, r1 26 (by decide)] at q1
        exact absurd (show (20 : Nat) = 5 from congrArg Prod.fst q1) (by decide)) (fun e => d2 e.symm)) k4
    · rw [fz 3 (by omega)] at hk
      have q := (l2 k hk).keep k4
      have et : txZ ((za z 3 (238 + 3 * p + 1 + w) v).2 3) = txZ (z.2 3) := funext fun i => by
        unfold txZ
        by_cases e : 780 ≤ i
        · rw [if_pos e, if_pos e]; exact fz i (by omega)
        · rw [if_neg e, if_neg e]
      unfold LaR at q ⊢
      rw [et]; exact q
  · intro k hk
    have hB : V'.2.2 (B + 32) = V.2.2 (B + 32) := (hV _ (hst 32 (by decide)).1 (by omega) (hA1 32 (by decide))).2.2
    have e5 : (za z 3 (238 + 3 * p + 1 + w) v).2 5 = z.2 5 := by rw [za_2 rfl]
    have ei : imZ (za z 3 (238 + 3 * p + 1 + w) v) k = imZ z k := by
      unfold imZ
      rw [za_2 rfl]
    rw [hB, e5, ei]
    rcases r5 k hk with q | ⟨q1, I, q2, q3⟩
    · exact Or.inl q
    · refine Or.inr ⟨q1, I, q2, q3.keep (fun a ha => ?_)⟩
      have ha : ow a = 2 + k ∨ ow a = 4 := ha
      refine kp a (by omega) (fun e => by rw [e, h26] at ha; omega) (fun e => ?_)
      rcases hA with e2 | e2
      · rw [e, e2, a3] at ha; omega
      · have := r6 a (by omega); omega
  · intro a ha
    unfold owU at ha
    by_cases e : a = nn.1
    · omega
    · rw [if_neg e] at ha
      by_cases e2 : a = A1
      · rcases hA with e3 | e3
        · have := r6 ap (by rw [a3]; decide); omega
        · omega
      · rw [if_neg e2] at ha
        have := r6 a ha; omega
set_option maxHeartbeats 4000000 in
theorem kX0_put {E : ET} {sh : SHT} {nn : Nat × Nat} {V : VT} {B : Nat} {ow : Nat → Nat} {z : ZT} {p w v : Int} (hR : XR ow sh nn V B z) (W : RWZ (z.2 3))  (rp : R32 p) (rw : R32 w) (rv : R32 v) : TC E mX0_put 4 [.ref B, .int (iI p), .int (iI w), .int (iI v)] sh nn V (XP B nn (zp_put z p w v)) := by
  obtain ⟨hB, -, hc, -⟩ := id hR
  have w1 := W.1.2.1
  obtain ⟨ap, av, al, cp, cv, cl, gp, gv, gl, hne, ⟨hp1, hp2⟩, ⟨hv1, hv2⟩, hl1, hl2⟩ := id hR.2.2.2.1
  have hPe (hq : 0 ≤ p ∧ p < z.2 3 1) : PeR ow sh V (gp p.toNat) (z.2 3) p := by have q := hp2 p.toNat (by omega); rw [Int.toNat_of_nonneg hq.1] at q; exact q
  have hPb (hq : 0 ≤ p ∧ p < z.2 3 1) := W.2.2.2.1 p hq.1 hq.2
  refine TC.intro [some (.ref B), some (.int (iI p)), some (.int (iI w)), some (.int (iI v)), none] rfl ?_
  refine TGo.il2 dX0_put_0 rfl ?_
  refine TGo.ic0 dX0_put_1 ?_
  refine TGo.ic1 dX0_put_2 ?_
  refine TGo.cF (csS3 (y2 := mX0_in) 1 rfl dX0_put_3 q598 q599 okX0_in npX0_in rfl rfl) (kX0_in (by omega) (by omega) (by omega)) ?_
  refine TGo.ifb_eq 37 dX0_put_6 (by decide) (fun h6 => ?_) (fun h6 => ?_)
  · refine TGo.al0 dX0_put_37 rfl ?_
    refine TGo.icm1 dX0_put_38 ?_
    refine TGo.cS (csV1 (y2 := mX0_refuse) (t := 8) 1 rfl (hB 0 (by decide)) rfl rfl dX0_put_39 q601 q603 qs1 okX0_refuse npX0_refuse rfl rfl) (kX0_refuse hB hc (by omega)) (fun v39 V39 h39 => ?_)
    obtain ⟨rfl, hc39, hf39⟩ := h39
    refine TGo.iret dX0_put_42 rfl ?_
    first
    | (exfalso; omega)
    | (refine hR.leaf W (FrX.rf.tr hf39) hc39 ((zTell_2 rfl).trans rfl) ((zTell_2 rfl).trans rfl) (StA.rf.tell) ?_
       unfold zp_put
       (repeat (first | rw [if_pos (by first | rfl | assumption | omega)] | rw [if_neg (by first | decide | assumption | omega)]))
       (try first | rfl))
  · refine TGo.il3 dX0_put_9 rfl ?_
    refine TGo.il2 dX0_put_10 rfl ?_
    refine TGo.if_ne 18 dX0_put_11 (by decide) (by omega) (fun h11 => ?_) (fun h11 => ?_)
    · refine TGo.ic1 dX0_put_18 ?_
      refine TGo.il2 dX0_put_19 rfl ?_
      refine TGo.if_ne 29 dX0_put_20 (by decide) (by omega) (fun h20 => ?_) (fun h20 => ?_)
      · refine TGo.bip 9 dX0_put_29 (by decide) ?_
        refine TGo.cF (csS3 (y2 := mX0_in) 1 rfl dX0_put_31 q598 q599 okX0_in npX0_in rfl rfl) (kX0_in (by omega) (by omega) (by omega)) ?_
        refine TGo.ifb_ne 43 dX0_put_34 (by decide) (fun h34 => ?_) (fun h34 => ?_)
        · refine TGo.al0 dX0_put_43 rfl ?_
          refine TGo.il1 dX0_put_44 rfl ?_
          refine TGo.cF (csV1 (y2 := mX0_isPerson) (t := 8) 2 rfl (hB 0 (by decide)) rfl rfl dX0_put_45 q815 q817 qs7 okX0_isPerson npX0_isPerson rfl rfl) (kX0_isPerson hR W (by omega)) ?_
          refine TGo.ifb_ne 58 dX0_put_48 (by decide) (fun h48 => ?_) (fun h48 => ?_)
          · refine TGo.known (fun kn => ?_)
            have hpe := hPe (by assumption)
            have hpb := hPb (by assumption)
            refine TGo.al0 dX0_put_58 rfl ?_
            refine TGo.getS (t := 8) 2 2 (B + 2) (hB 0 (by decide)) rfl fgX0_16_0 dX0_put_59 rfl rfl rfl ?_
            refine TGo.getS (t := 9) 5 5 (B + 26) (hB 2 (by decide)) rfl fgX0_126_1 dX0_put_62 rfl rfl rfl ?_
            refine TGo.il1 dX0_put_65 rfl ?_
            refine TGo.toz ((p.toNat : Nat) : Int) (Int.toNat_of_nonneg (by omega)).symm ?_
            refine TGo.cF (csV1 (y2 := mJ2_get) (t := 20) 3 rfl (hB 26 (by decide)) rfl rfl dX0_put_66 q760 q761 q762 okJ2_get npJ2_get rfl rfl) (kJ2_get hp1.1 (k := p.toNat) (by omega)) ?_
            refine TGo.castO (t := 19) dX0_put_69 q779 (hPe (by assumption)).2.1 rfl rfl (Or.inl rfl) ?_
            refine TGo.as dX0_put_72 rfl rfl ?_
            refine TGo.il2 dX0_put_74 rfl ?_
            refine TGo.if_ne 93 dX0_put_75 (by decide) (by omega) (fun h75 => ?_) (fun h75 => ?_)
            · refine TGo.al0 dX0_put_93 rfl ?_
              refine TGo.getS (t := 8) 2 2 (B + 2) (hB 0 (by decide)) rfl fgX0_16_0 dX0_put_94 rfl rfl rfl ?_
              refine TGo.getS (t := 9) 5 5 (B + 26) (hB 2 (by decide)) rfl fgX0_126_1 dX0_put_97 rfl rfl rfl ?_
              refine TGo.il1 dX0_put_100 rfl ?_
              refine TGo.toz ((p.toNat : Nat) : Int) (Int.toNat_of_nonneg (by omega)).symm ?_
              refine TGo.il2 dX0_put_101 rfl ?_
              refine TGo.if_ne 126 dX0_put_102 (by decide) (by omega) (fun h102 => ?_) (fun h102 => ?_)
              · refine TGo.new (ci := 11) (N := 3) nwX0_148 dX0_put_126 rfl rfl (fun z126 e126 => ?_)
                have hraw : va_up sh nn.1 (111, 0) nn.1 = (111, 0) := va_up_self _ _ _
                have hw1 : w = 1 := by omega
                have hPr : va_up sh nn.1 (111, 0) (gp p.toNat) = (19, 0) := (va_up_ne _ _ (by have := kn (gp p.toNat) (by rw [hpe.2.1]; show (19 : Nat) ≠ 0; decide); omega)).trans hpe.2.1
                refine TGo.dup dX0_put_129 rfl ?_
                refine TGo.al dX0_put_130 rfl ?_
                refine TGo.getI (t := 19) 0 0 hPr rfl fgX0_216_11 dX0_put_132 rfl rfl rfl ?_
                refine TGo.toz _ (hpe.2.2.1) ?_
                refine TGo.al dX0_put_135 rfl ?_
                refine TGo.getI (t := 19) 1 1 hPr rfl fgX0_222_11 dX0_put_137 rfl rfl rfl ?_
                refine TGo.toz _ (hpe.2.2.2.1) ?_
                refine TGo.il3 dX0_put_140 rfl ?_
                refine TGo.callG (csI3 (y2 := mX11_init) 2 rfl dX0_put_141 q781 q782 rfl rfl okX11_init npX11_init rfl rfl) (kX11_init hraw) (fun o141 sh141 nn141 V141 e141 h141 => ?_)
                obtain ⟨rfl, rfl, rfl, rfl⟩ := h141
                have hB26 : B + 26 < nn.1 := kn _ (by rw [hB 26 (by decide)]; decide)
                have hap : ap < nn.1 := kn ap (by rw [hp1.1.2.2.2.1]; show (5 : Nat) ≠ 0; decide)
                have hpn : gp p.toNat < nn.1 := kn _ (by rw [hpe.2.1]; show (19 : Nat) ≠ 0; decide)
                have hlt : ∀ a, a < nn.1 → (va_up (va_up sh nn.1 (111, 0)) nn.1 (19, 0)) a = sh a := fun a ha => (va_up_ne _ _ (by omega)).trans (va_up_ne _ _ (by omega))
                have hxP : (va_up (va_up sh nn.1 (111, 0)) nn.1 (19, 0)) nn.1 = (19, 0) := va_up_self _ _ _
                have hPx : (va_up (va_up sh nn.1 (111, 0)) nn.1 (19, 0)) (gp p.toNat) = (19, 0) := (hlt _ hpn).trans hpe.2.1
                have hB1 : XSh B (va_up (va_up sh nn.1 (111, 0)) nn.1 (19, 0)) := fun i hi => (hlt _ (kn _ (by rw [hB i hi]; exact (xNz hi).2.1))).trans (hB i hi)
                have hVP : ∀ a, a ≠ nn.1 → (vI (vI (vI V nn.1 0 (z.2 3 (238 + 3 * p))) nn.1 1 (z.2 3 (238 + 3 * p + 1))) nn.1 2 (v)).1 a = V.1 a := fun a ha => (u2_a ha).trans ((u2_a ha).trans (u2_a ha))
                have hL1 : LiR (va_up (va_up sh nn.1 (111, 0)) nn.1 (19, 0)) (vI (vI (vI V nn.1 0 (z.2 3 (238 + 3 * p))) nn.1 1 (z.2 3 (238 + 3 * p + 1))) nn.1 2 (v)) (B + 26) ap cp (z.2 3 1).toNat gp := hp1.1.keep (fun a ha => hlt a (kn a ha)) (congrFun (hVP _ (by omega)) 2) rfl rfl
                show TGo _ _ _ _ _ _ _ _ _ _
                refine TGo.cW (csV2 (y2 := mJ2_set) (t := 20) 3 rfl (hB1 26 (by decide)) rfl rfl dX0_put_144 q819 q820 q821 okJ2_set npJ2_set rfl rfl) (kJ2_set hL1 (by omega) hxP rfl) ?_
                have ew : (za z 3 (238 + 3 * p + 1 + w) v).2 3 (238 + 3 * p + 2) = v := by
                  have q := @zf3s z (238 + 3 * p + 1 + w) v
                  have e : 238 + 3 * p + 1 + w = 238 + 3 * p + 2 := by omega
                  rw [e] at q ⊢
                  exact q
                have q1 := hL1.setp (k := p.toNat) (by omega) hxP rfl
                have hVs : ∀ a, a < nn.1 → a ≠ B + 26 → a ≠ ap → (vR (vI (vI (vI V nn.1 0 (z.2 3 (238 + 3 * p))) nn.1 1 (z.2 3 (238 + 3 * p + 1))) nn.1 2 (v)) ap ((p.toNat : Nat) : Int) (some nn.1)).1 a = V.1 a ∧ (vR (vI (vI (vI V nn.1 0 (z.2 3 (238 + 3 * p))) nn.1 1 (z.2 3 (238 + 3 * p + 1))) nn.1 2 (v)) ap ((p.toNat : Nat) : Int) (some nn.1)).2.1 a = V.2.1 a ∧ (vR (vI (vI (vI V nn.1 0 (z.2 3 (238 + 3 * p))) nn.1 1 (z.2 3 (238 + 3 * p + 1))) nn.1 2 (v)) ap ((p.toNat : Nat) : Int) (some nn.1)).2.2 a = V.2.2 a := fun a ha h1 h2 => ⟨hVP a (by omega), rfl, u2_a h2⟩
                have hEs : ∀ i : Int, 0 ≤ i → i < (cp : Int) → ∀ y, (vR (vI (vI (vI V nn.1 0 (z.2 3 (238 + 3 * p))) nn.1 1 (z.2 3 (238 + 3 * p + 1))) nn.1 2 (v)) ap ((p.toNat : Nat) : Int) (some nn.1)).2.2 ap i = some y → y = nn.1 ∨ ∃ j : Int, (0 ≤ j ∧ j < (cp : Int)) ∧ V.2.2 ap j = some y := fun i i0 i1 y hy => by
                  have hy : u2 V.2.2 ap ((p.toNat : Nat) : Int) (some nn.1) ap i = some y := hy
                  by_cases e : i = ((p.toNat : Nat) : Int)
                  · subst e; rw [u2_s] at hy; exact Or.inl (Option.some.inj hy).symm
                  · rw [u2_n (Or.inr e)] at hy; exact Or.inr ⟨i, ⟨i0, i1⟩, hy⟩
                have hx0 : (vR (vI (vI (vI V nn.1 0 (z.2 3 (238 + 3 * p))) nn.1 1 (z.2 3 (238 + 3 * p + 1))) nn.1 2 (v)) ap ((p.toNat : Nat) : Int) (some nn.1)).1 nn.1 0 = (za z 3 (238 + 3 * p + 1 + w) v).2 3 (238 + 3 * p) ∧ (vR (vI (vI (vI V nn.1 0 (z.2 3 (238 + 3 * p))) nn.1 1 (z.2 3 (238 + 3 * p + 1))) nn.1 2 (v)) ap ((p.toNat : Nat) : Int) (some nn.1)).1 nn.1 1 = (za z 3 (238 + 3 * p + 1 + w) v).2 3 (238 + 3 * p + 1) ∧ (vR (vI (vI (vI V nn.1 0 (z.2 3 (238 + 3 * p))) nn.1 1 (z.2 3 (238 + 3 * p + 1))) nn.1 2 (v)) ap ((p.toNat : Nat) : Int) (some nn.1)).1 nn.1 2 = (za z 3 (238 + 3 * p + 1 + w) v).2 3 (238 + 3 * p + 2) :=
                  ⟨((u2_n (Or.inr (by decide))).trans ((u2_n (Or.inr (by decide))).trans u2_s)).trans (zf3 (by omega)).symm, ((u2_n (Or.inr (by decide))).trans u2_s).trans (zf3 (by omega)).symm, u2_s.trans ew.symm⟩
                have hRs := hR.setP (nn' := (nn.1 + 1, nn.2 + 3)) (A1 := ap) (c1 := cp) (p := p) (w := w) (v := v) (by assumption) (by omega) W hp1 hp2 ⟨av, al, cv, cl, gv, gl, hne, ⟨hv1, hv2⟩, hl1, hl2⟩ hlt q1 (Or.inl rfl) hVs hEs hxP hx0 (by show nn.1 < nn.1 + 1; omega)
                obtain ⟨hB3, -, hcs, -⟩ := id hRs
                have g1 : (vR (vI (vI (vI V nn.1 0 (z.2 3 (238 + 3 * p))) nn.1 1 (z.2 3 (238 + 3 * p + 1))) nn.1 2 (v)) ap ((p.toNat : Nat) : Int) (some nn.1)).1 (gp p.toNat) 1 = z.2 3 (238 + 3 * p + 1) := (congrFun (hVP _ (by omega)) 1).trans hpe.2.2.2.1
                have g2 : (vR (vI (vI (vI V nn.1 0 (z.2 3 (238 + 3 * p))) nn.1 1 (z.2 3 (238 + 3 * p + 1))) nn.1 2 (v)) ap ((p.toNat : Nat) : Int) (some nn.1)).1 (gp p.toNat) 2 = z.2 3 (238 + 3 * p + 2) := (congrFun (hVP _ (by omega)) 2).trans hpe.2.2.2.2
                refine TGo.pop dX0_put_147 rfl ?_
                refine TGo.al0 dX0_put_148 rfl ?_
                refine TGo.il2 dX0_put_149 rfl ?_
                refine TGo.if_ne 161 dX0_put_150 (by decide) (by omega) (fun h150 => ?_) (fun h150 => ?_)
                · refine TGo.al dX0_put_161 rfl ?_
                  refine TGo.getI (t := 19) 2 2 hPx rfl fgX0_219_11 dX0_put_163 rfl rfl rfl ?_
                  refine TGo.toz _ (g2) ?_
                  refine TGo.cS (csV1 (y2 := mX0_done) (t := 8) 1 rfl (hB1 0 (by decide)) rfl rfl dX0_put_166 q695 q697 qs3 okX0_done npX0_done rfl rfl) (kX0_done hB3 hcs) (fun v166 V166 h166 => ?_)
                  obtain ⟨rfl, hcd, hfd⟩ := h166
                  refine TGo.iret dX0_put_169 rfl ?_
                  first
                  | (exfalso; omega)
                  | (have e : zp_put z p w v = (z.2 3 (238 + 3 * p + 1 + w), zi (za z 3 (238 + 3 * p + 1 + w) v) 1 0) := by
                       unfold zp_put
                       rw [if_neg (by omega), if_neg (fun q => q (by assumption)), if_neg (by omega)]
                     rw [e]
                     refine ⟨?_, ⟨_, hRs.wr0 hfd hcd rfl rfl rfl⟩, ⟨by show nn.1 ≤ nn.1 + 1; omega, by show nn.1 + 1 ≤ nn.1 + 4000; omega⟩, by show nn.2 ≤ nn.2 + 3; omega, by show nn.2 + 3 ≤ nn.2 + 40000; omega⟩
                     first
                     | (rw [show 238 + 3 * p + 1 + w = 238 + 3 * p + 1 by omega])
                     | (rw [show 238 + 3 * p + 1 + w = 238 + 3 * p + 2 by omega]))
                · refine TGo.al dX0_put_153 rfl ?_
                  refine TGo.getI (t := 19) 1 1 hPx rfl fgX0_222_11 dX0_put_155 rfl rfl rfl ?_
                  refine TGo.toz _ (g1) ?_
                  refine TGo.goto 166 dX0_put_158 (by decide) ?_
                  refine TGo.cS (csV1 (y2 := mX0_done) (t := 8) 1 rfl (hB1 0 (by decide)) rfl rfl dX0_put_166 q695 q697 qs3 okX0_done npX0_done rfl rfl) (kX0_done hB3 hcs) (fun v166 V166 h166 => ?_)
                  obtain ⟨rfl, hcd, hfd⟩ := h166
                  refine TGo.iret dX0_put_169 rfl ?_
                  first
                  | (exfalso; omega)
                  | (have e : zp_put z p w v = (z.2 3 (238 + 3 * p + 1 + w), zi (za z 3 (238 + 3 * p + 1 + w) v) 1 0) := by
                       unfold zp_put
                       rw [if_neg (by omega), if_neg (fun q => q (by assumption)), if_neg (by omega)]
                     rw [e]
                     refine ⟨?_, ⟨_, hRs.wr0 hfd hcd rfl rfl rfl⟩, ⟨by show nn.1 ≤ nn.1 + 1; omega, by show nn.1 + 1 ≤ nn.1 + 4000; omega⟩, by show nn.2 ≤ nn.2 + 3; omega, by show nn.2 + 3 ≤ nn.2 + 40000; omega⟩
                     first
                     | (rw [show 238 + 3 * p + 1 + w = 238 + 3 * p + 1 by omega])
                     | (rw [show 238 + 3 * p + 1 + w = 238 + 3 * p + 2 by omega]))
              · refine TGo.new (ci := 11) (N := 3) nwX0_148 dX0_put_105 rfl rfl (fun z105 e105 => ?_)
                have hraw : va_up sh nn.1 (111, 0) nn.1 = (111, 0) := va_up_self _ _ _
                have hw0 : w = 0 := by omega
                have hPr : va_up sh nn.1 (111, 0) (gp p.toNat) = (19, 0) := (va_up_ne _ _ (by have := kn (gp p.toNat) (by rw [hpe.2.1]; show (19 : Nat) ≠ 0; decide); omega)).trans hpe.2.1
                refine TGo.dup dX0_put_108 rfl ?_
                refine TGo.al dX0_put_109 rfl ?_
                refine TGo.getI (t := 19) 0 0 hPr rfl fgX0_216_11 dX0_put_111 rfl rfl rfl ?_
                refine TGo.toz _ (hpe.2.2.1) ?_
                refine TGo.il3 dX0_put_114 rfl ?_
                refine TGo.al dX0_put_115 rfl ?_
                refine TGo.getI (t := 19) 2 2 hPr rfl fgX0_219_11 dX0_put_117 rfl rfl rfl ?_
                refine TGo.toz _ (hpe.2.2.2.2) ?_
                refine TGo.callG (csI3 (y2 := mX11_init) 2 rfl dX0_put_120 q781 q782 rfl rfl okX11_init npX11_init rfl rfl) (kX11_init hraw) (fun o120 sh120 nn120 V120 e120 h120 => ?_)
                obtain ⟨rfl, rfl, rfl, rfl⟩ := h120
                have hB26 : B + 26 < nn.1 := kn _ (by rw [hB 26 (by decide)]; decide)
                have hap : ap < nn.1 := kn ap (by rw [hp1.1.2.2.2.1]; show (5 : Nat) ≠ 0; decide)
                have hpn : gp p.toNat < nn.1 := kn _ (by rw [hpe.2.1]; show (19 : Nat) ≠ 0; decide)
                have hlt : ∀ a, a < nn.1 → (va_up (va_up sh nn.1 (111, 0)) nn.1 (19, 0)) a = sh a := fun a ha => (va_up_ne _ _ (by omega)).trans (va_up_ne _ _ (by omega))
                have hxP : (va_up (va_up sh nn.1 (111, 0)) nn.1 (19, 0)) nn.1 = (19, 0) := va_up_self _ _ _
                have hPx : (va_up (va_up sh nn.1 (111, 0)) nn.1 (19, 0)) (gp p.toNat) = (19, 0) := (hlt _ hpn).trans hpe.2.1
                have hB1 : XSh B (va_up (va_up sh nn.1 (111, 0)) nn.1 (19, 0)) := fun i hi => (hlt _ (kn _ (by rw [hB i hi]; exact (xNz hi).2.1))).trans (hB i hi)
                have hVP : ∀ a, a ≠ nn.1 → (vI (vI (vI V nn.1 0 (z.2 3 (238 + 3 * p))) nn.1 1 (v)) nn.1 2 (z.2 3 (238 + 3 * p + 2))).1 a = V.1 a := fun a ha => (u2_a ha).trans ((u2_a ha).trans (u2_a ha))
                have hL1 : LiR (va_up (va_up sh nn.1 (111, 0)) nn.1 (19, 0)) (vI (vI (vI V nn.1 0 (z.2 3 (238 + 3 * p))) nn.1 1 (v)) nn.1 2 (z.2 3 (238 + 3 * p + 2))) (B + 26) ap cp (z.2 3 1).toNat gp := hp1.1.keep (fun a ha => hlt a (kn a ha)) (congrFun (hVP _ (by omega)) 2) rfl rfl
                show TGo _ _ _ _ _ _ _ _ _ _
                refine TGo.goto 144 dX0_put_123 (by decide) ?_
                refine TGo.cW (csV2 (y2 := mJ2_set) (t := 20) 3 rfl (hB1 26 (by decide)) rfl rfl dX0_put_144 q819 q820 q821 okJ2_set npJ2_set rfl rfl) (kJ2_set hL1 (by omega) hxP rfl) ?_
                have ew : (za z 3 (238 + 3 * p + 1 + w) v).2 3 (238 + 3 * p + 1) = v := by
                  have q := @zf3s z (238 + 3 * p + 1 + w) v
                  have e : 238 + 3 * p + 1 + w = 238 + 3 * p + 1 := by omega
                  rw [e] at q ⊢
                  exact q
                have q1 := hL1.setp (k := p.toNat) (by omega) hxP rfl
                have hVs : ∀ a, a < nn.1 → a ≠ B + 26 → a ≠ ap → (vR (vI (vI (vI V nn.1 0 (z.2 3 (238 + 3 * p))) nn.1 1 (v)) nn.1 2 (z.2 3 (238 + 3 * p + 2))) ap ((p.toNat : Nat) : Int) (some nn.1)).1 a = V.1 a ∧ (vR (vI (vI (vI V nn.1 0 (z.2 3 (238 + 3 * p))) nn.1 1 (v)) nn.1 2 (z.2 3 (238 + 3 * p + 2))) ap ((p.toNat : Nat) : Int) (some nn.1)).2.1 a = V.2.1 a ∧ (vR (vI (vI (vI V nn.1 0 (z.2 3 (238 + 3 * p))) nn.1 1 (v)) nn.1 2 (z.2 3 (238 + 3 * p + 2))) ap ((p.toNat : Nat) : Int) (some nn.1)).2.2 a = V.2.2 a := fun a ha h1 h2 => ⟨hVP a (by omega), rfl, u2_a h2⟩
                have hEs : ∀ i : Int, 0 ≤ i → i < (cp : Int) → ∀ y, (vR (vI (vI (vI V nn.1 0 (z.2 3 (238 + 3 * p))) nn.1 1 (v)) nn.1 2 (z.2 3 (238 + 3 * p + 2))) ap ((p.toNat : Nat) : Int) (some nn.1)).2.2 ap i = some y → y = nn.1 ∨ ∃ j : Int, (0 ≤ j ∧ j < (cp : Int)) ∧ V.2.2 ap j = some y := fun i i0 i1 y hy => by
                  have hy : u2 V.2.2 ap ((p.toNat : Nat) : Int) (some nn.1) ap i = some y := hy
                  by_cases e : i = ((p.toNat : Nat) : Int)
                  · subst e; rw [u2_s] at hy; exact Or.inl (Option.some.inj hy).symm
                  · rw [u2_n (Or.inr e)] at hy; exact Or.inr ⟨i, ⟨i0, i1⟩, hy⟩
                have hx0 : (vR (vI (vI (vI V nn.1 0 (z.2 3 (238 + 3 * p))) nn.1 1 (v)) nn.1 2 (z.2 3 (238 + 3 * p + 2))) ap ((p.toNat : Nat) : Int) (some nn.1)).1 nn.1 0 = (za z 3 (238 + 3 * p + 1 + w) v).2 3 (238 + 3 * p) ∧ (vR (vI (vI (vI V nn.1 0 (z.2 3 (238 + 3 * p))) nn.1 1 (v)) nn.1 2 (z.2 3 (238 + 3 * p + 2))) ap ((p.toNat : Nat) : Int) (some nn.1)).1 nn.1 1 = (za z 3 (238 + 3 * p + 1 + w) v).2 3 (238 + 3 * p + 1) ∧ (vR (vI (vI (vI V nn.1 0 (z.2 3 (238 + 3 * p))) nn.1 1 (v)) nn.1 2 (z.2 3 (238 + 3 * p + 2))) ap ((p.toNat : Nat) : Int) (some nn.1)).1 nn.1 2 = (za z 3 (238 + 3 * p + 1 + w) v).2 3 (238 + 3 * p + 2) :=
                  ⟨((u2_n (Or.inr (by decide))).trans ((u2_n (Or.inr (by decide))).trans u2_s)).trans (zf3 (by omega)).symm, ((u2_n (Or.inr (by decide))).trans u2_s).trans ew.symm, u2_s.trans (zf3 (by omega)).symm⟩
                have hRs := hR.setP (nn' := (nn.1 + 1, nn.2 + 3)) (A1 := ap) (c1 := cp) (p := p) (w := w) (v := v) (by assumption) (by omega) W hp1 hp2 ⟨av, al, cv, cl, gv, gl, hne, ⟨hv1, hv2⟩, hl1, hl2⟩ hlt q1 (Or.inl rfl) hVs hEs hxP hx0 (by show nn.1 < nn.1 + 1; omega)
                obtain ⟨hB3, -, hcs, -⟩ := id hRs
                have g1 : (vR (vI (vI (vI V nn.1 0 (z.2 3 (238 + 3 * p))) nn.1 1 (v)) nn.1 2 (z.2 3 (238 + 3 * p + 2))) ap ((p.toNat : Nat) : Int) (some nn.1)).1 (gp p.toNat) 1 = z.2 3 (238 + 3 * p + 1) := (congrFun (hVP _ (by omega)) 1).trans hpe.2.2.2.1
                have g2 : (vR (vI (vI (vI V nn.1 0 (z.2 3 (238 + 3 * p))) nn.1 1 (v)) nn.1 2 (z.2 3 (238 + 3 * p + 2))) ap ((p.toNat : Nat) : Int) (some nn.1)).1 (gp p.toNat) 2 = z.2 3 (238 + 3 * p + 2) := (congrFun (hVP _ (by omega)) 2).trans hpe.2.2.2.2
                refine TGo.pop dX0_put_147 rfl ?_
                refine TGo.al0 dX0_put_148 rfl ?_
                refine TGo.il2 dX0_put_149 rfl ?_
                refine TGo.if_ne 161 dX0_put_150 (by decide) (by omega) (fun h150 => ?_) (fun h150 => ?_)
                · refine TGo.al dX0_put_161 rfl ?_
                  refine TGo.getI (t := 19) 2 2 hPx rfl fgX0_219_11 dX0_put_163 rfl rfl rfl ?_
                  refine TGo.toz _ (g2) ?_
                  refine TGo.cS (csV1 (y2 := mX0_done) (t := 8) 1 rfl (hB1 0 (by decide)) rfl rfl dX0_put_166 q695 q697 qs3 okX0_done npX0_done rfl rfl) (kX0_done hB3 hcs) (fun v166 V166 h166 => ?_)
                  obtain ⟨rfl, hcd, hfd⟩ := h166
                  refine TGo.iret dX0_put_169 rfl ?_
                  first
                  | (exfalso; omega)
                  | (have e : zp_put z p w v = (z.2 3 (238 + 3 * p + 1 + w), zi (za z 3 (238 + 3 * p + 1 + w) v) 1 0) := by
                       unfold zp_put
                       rw [if_neg (by omega), if_neg (fun q => q (by assumption)), if_neg (by omega)]
                     rw [e]
                     refine ⟨?_, ⟨_, hRs.wr0 hfd hcd rfl rfl rfl⟩, ⟨by show nn.1 ≤ nn.1 + 1; omega, by show nn.1 + 1 ≤ nn.1 + 4000; omega⟩, by show nn.2 ≤ nn.2 + 3; omega, by show nn.2 + 3 ≤ nn.2 + 40000; omega⟩
                     first
                     | (rw [show 238 + 3 * p + 1 + w = 238 + 3 * p + 1 by omega])
                     | (rw [show 238 + 3 * p + 1 + w = 238 + 3 * p + 2 by omega]))
                · refine TGo.al dX0_put_153 rfl ?_
                  refine TGo.getI (t := 19) 1 1 hPx rfl fgX0_222_11 dX0_put_155 rfl rfl rfl ?_
                  refine TGo.toz _ (g1) ?_
                  refine TGo.goto 166 dX0_put_158 (by decide) ?_
                  refine TGo.cS (csV1 (y2 := mX0_done) (t := 8) 1 rfl (hB1 0 (by decide)) rfl rfl dX0_put_166 q695 q697 qs3 okX0_done npX0_done rfl rfl) (kX0_done hB3 hcs) (fun v166 V166 h166 => ?_)
                  obtain ⟨rfl, hcd, hfd⟩ := h166
                  refine TGo.iret dX0_put_169 rfl ?_
                  first
                  | (exfalso; omega)
                  | (have e : zp_put z p w v = (z.2 3 (238 + 3 * p + 1 + w), zi (za z 3 (238 + 3 * p + 1 + w) v) 1 0) := by
                       unfold zp_put
                       rw [if_neg (by omega), if_neg (fun q => q (by assumption)), if_neg (by omega)]
                     rw [e]
                     refine ⟨?_, ⟨_, hRs.wr0 hfd hcd rfl rfl rfl⟩, ⟨by show nn.1 ≤ nn.1 + 1; omega, by show nn.1 + 1 ≤ nn.1 + 4000; omega⟩, by show nn.2 ≤ nn.2 + 3; omega, by show nn.2 + 3 ≤ nn.2 + 40000; omega⟩
                     first
                     | (rw [show 238 + 3 * p + 1 + w = 238 + 3 * p + 1 by omega])
                     | (rw [show 238 + 3 * p + 1 + w = 238 + 3 * p + 2 by omega]))
            · refine TGo.il3 dX0_put_78 rfl ?_
              refine TGo.al dX0_put_79 rfl ?_
              refine TGo.getI (t := 19) 0 0 (hPe (by assumption)).2.1 rfl fgX0_216_11 dX0_put_81 rfl rfl rfl ?_
              refine TGo.toz _ (hpe.2.2.1) ?_
              refine TGo.icmp_gt 93 dX0_put_84 (by decide) (by omega) (fun h84 => ?_) (fun h84 => ?_)
              · refine TGo.al0 dX0_put_93 rfl ?_
                refine TGo.getS (t := 8) 2 2 (B + 2) (hB 0 (by decide)) rfl fgX0_16_0 dX0_put_94 rfl rfl rfl ?_
                refine TGo.getS (t := 9) 5 5 (B + 26) (hB 2 (by decide)) rfl fgX0_126_1 dX0_put_97 rfl rfl rfl ?_
                refine TGo.il1 dX0_put_100 rfl ?_
                refine TGo.toz ((p.toNat : Nat) : Int) (Int.toNat_of_nonneg (by omega)).symm ?_
                refine TGo.il2 dX0_put_101 rfl ?_
                refine TGo.if_ne 126 dX0_put_102 (by decide) (by omega) (fun h102 => ?_) (fun h102 => ?_)
                · refine TGo.new (ci := 11) (N := 3) nwX0_148 dX0_put_126 rfl rfl (fun z126 e126 => ?_)
                  have hraw : va_up sh nn.1 (111, 0) nn.1 = (111, 0) := va_up_self _ _ _
                  have hw1 : w = 1 := by omega
                  have hPr : va_up sh nn.1 (111, 0) (gp p.toNat) = (19, 0) := (va_up_ne _ _ (by have := kn (gp p.toNat) (by rw [hpe.2.1]; show (19 : Nat) ≠ 0; decide); omega)).trans hpe.2.1
                  refine TGo.dup dX0_put_129 rfl ?_
                  refine TGo.al dX0_put_130 rfl ?_
                  refine TGo.getI (t := 19) 0 0 hPr rfl fgX0_216_11 dX0_put_132 rfl rfl rfl ?_
                  refine TGo.toz _ (hpe.2.2.1) ?_
                  refine TGo.al dX0_put_135 rfl ?_
                  refine TGo.getI (t := 19) 1 1 hPr rfl fgX0_222_11 dX0_put_137 rfl rfl rfl ?_
                  refine TGo.toz _ (hpe.2.2.2.1) ?_
                  refine TGo.il3 dX0_put_140 rfl ?_
                  refine TGo.callG (csI3 (y2 := mX11_init) 2 rfl dX0_put_141 q781 q782 rfl rfl okX11_init npX11_init rfl rfl) (kX11_init hraw) (fun o141 sh141 nn141 V141 e141 h141 => ?_)
                  obtain ⟨rfl, rfl, rfl, rfl⟩ := h141
                  have hB26 : B + 26 < nn.1 := kn _ (by rw [hB 26 (by decide)]; decide)
                  have hap : ap < nn.1 := kn ap (by rw [hp1.1.2.2.2.1]; show (5 : Nat) ≠ 0; decide)
                  have hpn : gp p.toNat < nn.1 := kn _ (by rw [hpe.2.1]; show (19 : Nat) ≠ 0; decide)
                  have hlt : ∀ a, a < nn.1 → (va_up (va_up sh nn.1 (111, 0)) nn.1 (19, 0)) a = sh a := fun a ha => (va_up_ne _ _ (by omega)).trans (va_up_ne _ _ (by omega))
                  have hxP : (va_up (va_up sh nn.1 (111, 0)) nn.1 (19, 0)) nn.1 = (19, 0) := va_up_self _ _ _
                  have hPx : (va_up (va_up sh nn.1 (111, 0)) nn.1 (19, 0)) (gp p.toNat) = (19, 0) := (hlt _ hpn).trans hpe.2.1
                  have hB1 : XSh B (va_up (va_up sh nn.1 (111, 0)) nn.1 (19, 0)) := fun i hi => (hlt _ (kn _ (by rw [hB i hi]; exact (xNz hi).2.1))).trans (hB i hi)
                  have hVP : ∀ a, a ≠ nn.1 → (vI (vI (vI V nn.1 0 (z.2 3 (238 + 3 * p))) nn.1 1 (z.2 3 (238 + 3 * p + 1))) nn.1 2 (v)).1 a = V.1 a := fun a ha => (u2_a ha).trans ((u2_a ha).trans (u2_a ha))
                  have hL1 : LiR (va_up (va_up sh nn.1 (111, 0)) nn.1 (19, 0)) (vI (vI (vI V nn.1 0 (z.2 3 (238 + 3 * p))) nn.1 1 (z.2 3 (238 + 3 * p + 1))) nn.1 2 (v)) (B + 26) ap cp (z.2 3 1).toNat gp := hp1.1.keep (fun a ha => hlt a (kn a ha)) (congrFun (hVP _ (by omega)) 2) rfl rfl
                  show TGo _ _ _ _ _ _ _ _ _ _
                  refine TGo.cW (csV2 (y2 := mJ2_set) (t := 20) 3 rfl (hB1 26 (by decide)) rfl rfl dX0_put_144 q819 q820 q821 okJ2_set npJ2_set rfl rfl) (kJ2_set hL1 (by omega) hxP rfl) ?_
                  have ew : (za z 3 (238 + 3 * p + 1 + w) v).2 3 (238 + 3 * p + 2) = v := by
                    have q := @zf3s z (238 + 3 * p + 1 + w) v
                    have e : 238 + 3 * p + 1 + w = 238 + 3 * p + 2 := by omega
                    rw [e] at q ⊢
                    exact q
                  have q1 := hL1.setp (k := p.toNat) (by omega) hxP rfl
                  have hVs : ∀ a, a < nn.1 → a ≠ B + 26 → a ≠ ap → (vR (vI (vI (vI V nn.1 0 (z.2 3 (238 + 3 * p))) nn.1 1 (z.2 3 (238 + 3 * p + 1))) nn.1 2 (v)) ap ((p.toNat : Nat) : Int) (some nn.1)).1 a = V.1 a ∧ (vR (vI (vI (vI V nn.1 0 (z.2 3 (238 + 3 * p))) nn.1 1 (z.2 3 (238 + 3 * p + 1))) nn.1 2 (v)) ap ((p.toNat : Nat) : Int) (some nn.1)).2.1 a = V.2.1 a ∧ (vR (vI (vI (vI V nn.1 0 (z.2 3 (238 + 3 * p))) nn.1 1 (z.2 3 (238 + 3 * p + 1))) nn.1 2 (v)) ap ((p.toNat : Nat) : Int) (some nn.1)).2.2 a = V.2.2 a := fun a ha h1 h2 => ⟨hVP a (by omega), rfl, u2_a h2⟩
                  have hEs : ∀ i : Int, 0 ≤ i → i < (cp : Int) → ∀ y, (vR (vI (vI (vI V nn.1 0 (z.2 3 (238 + 3 * p))) nn.1 1 (z.2 3 (238 + 3 * p + 1))) nn.1 2 (v)) ap ((p.toNat : Nat) : Int) (some nn.1)).2.2 ap i = some y → y = nn.1 ∨ ∃ j : Int, (0 ≤ j ∧ j < (cp : Int)) ∧ V.2.2 ap j = some y := fun i i0 i1 y hy => by
                    have hy : u2 V.2.2 ap ((p.toNat : Nat) : Int) (some nn.1) ap i = some y := hy
                    by_cases e : i = ((p.toNat : Nat) : Int)
                    · subst e; rw [u2_s] at hy; exact Or.inl (Option.some.inj hy).symm
                    · rw [u2_n (Or.inr e)] at hy; exact Or.inr ⟨i, ⟨i0, i1⟩, hy⟩
                  have hx0 : (vR (vI (vI (vI V nn.1 0 (z.2 3 (238 + 3 * p))) nn.1 1 (z.2 3 (238 + 3 * p + 1))) nn.1 2 (v)) ap ((p.toNat : Nat) : Int) (some nn.1)).1 nn.1 0 = (za z 3 (238 + 3 * p + 1 + w) v).2 3 (238 + 3 * p) ∧ (vR (vI (vI (vI V nn.1 0 (z.2 3 (238 + 3 * p))) nn.1 1 (z.2 3 (238 + 3 * p + 1))) nn.1 2 (v)) ap ((p.toNat : Nat) : Int) (some nn.1)).1 nn.1 1 = (za z 3 (238 + 3 * p + 1 + w) v).2 3 (238 + 3 * p + 1) ∧ (vR (vI (vI (vI V nn.1 0 (z.2 3 (238 + 3 * p))) nn.1 1 (z.2 3 (238 + 3 * p + 1))) nn.1 2 (v)) ap ((p.toNat : Nat) : Int) (some nn.1)).1 nn.1 2 = (za z 3 (238 + 3 * p + 1 + w) v).2 3 (238 + 3 * p + 2) :=
                    ⟨((u2_n (Or.inr (by decide))).trans ((u2_n (Or.inr (by decide))).trans u2_s)).trans (zf3 (by omega)).symm, ((u2_n (Or.inr (by decide))).trans u2_s).trans (zf3 (by omega)).symm, u2_s.trans ew.symm⟩
                  have hRs := hR.setP (nn' := (nn.1 + 1, nn.2 + 3)) (A1 := ap) (c1 := cp) (p := p) (w := w) (v := v) (by assumption) (by omega) W hp1 hp2 ⟨av, al, cv, cl, gv, gl, hne, ⟨hv1, hv2⟩, hl1, hl2⟩ hlt q1 (Or.inl rfl) hVs hEs hxP hx0 (by show nn.1 < nn.1 + 1; omega)
                  obtain ⟨hB3, -, hcs, -⟩ := id hRs
                  have g1 : (vR (vI (vI (vI V nn.1 0 (z.2 3 (238 + 3 * p))) nn.1 1 (z.2 3 (238 + 3 * p + 1))) nn.1 2 (v)) ap ((p.toNat : Nat) : Int) (some nn.1)).1 (gp p.toNat) 1 = z.2 3 (238 + 3 * p + 1) := (congrFun (hVP _ (by omega)) 1).trans hpe.2.2.2.1
                  have g2 : (vR (vI (vI (vI V nn.1 0 (z.2 3 (238 + 3 * p))) nn.1 1 (z.2 3 (238 + 3 * p + 1))) nn.1 2 (v)) ap ((p.toNat : Nat) : Int) (some nn.1)).1 (gp p.toNat) 2 = z.2 3 (238 + 3 * p + 2) := (congrFun (hVP _ (by omega)) 2).trans hpe.2.2.2.2
                  refine TGo.pop dX0_put_147 rfl ?_
                  refine TGo.al0 dX0_put_148 rfl ?_
                  refine TGo.il2 dX0_put_149 rfl ?_
                  refine TGo.if_ne 161 dX0_put_150 (by decide) (by omega) (fun h150 => ?_) (fun h150 => ?_)
                  · refine TGo.al dX0_put_161 rfl ?_
                    refine TGo.getI (t := 19) 2 2 hPx rfl fgX0_219_11 dX0_put_163 rfl rfl rfl ?_
                    refine TGo.toz _ (g2) ?_
                    refine TGo.cS (csV1 (y2 := mX0_done) (t := 8) 1 rfl (hB1 0 (by decide)) rfl rfl dX0_put_166 q695 q697 qs3 okX0_done npX0_done rfl rfl) (kX0_done hB3 hcs) (fun v166 V166 h166 => ?_)
                    obtain ⟨rfl, hcd, hfd⟩ := h166
                    refine TGo.iret dX0_put_169 rfl ?_
                    first
                    | (exfalso; omega)
                    | (have e : zp_put z p w v = (z.2 3 (238 + 3 * p + 1 + w), zi (za z 3 (238 + 3 * p + 1 + w) v) 1 0) := by
                         unfold zp_put
                         rw [if_neg (by omega), if_neg (fun q => q (by assumption)), if_neg (by omega)]
                       rw [e]
                       refine ⟨?_, ⟨_, hRs.wr0 hfd hcd rfl rfl rfl⟩, ⟨by show nn.1 ≤ nn.1 + 1; omega, by show nn.1 + 1 ≤ nn.1 + 4000; omega⟩, by show nn.2 ≤ nn.2 + 3; omega, by show nn.2 + 3 ≤ nn.2 + 40000; omega⟩
                       first
                       | (rw [show 238 + 3 * p + 1 + w = 238 + 3 * p + 1 by omega])
                       | (rw [show 238 + 3 * p + 1 + w = 238 + 3 * p + 2 by omega]))
                  · refine TGo.al dX0_put_153 rfl ?_
                    refine TGo.getI (t := 19) 1 1 hPx rfl fgX0_222_11 dX0_put_155 rfl rfl rfl ?_
                    refine TGo.toz _ (g1) ?_
                    refine TGo.goto 166 dX0_put_158 (by decide) ?_
                    refine TGo.cS (csV1 (y2 := mX0_done) (t := 8) 1 rfl (hB1 0 (by decide)) rfl rfl dX0_put_166 q695 q697 qs3 okX0_done npX0_done rfl rfl) (kX0_done hB3 hcs) (fun v166 V166 h166 => ?_)
                    obtain ⟨rfl, hcd, hfd⟩ := h166
                    refine TGo.iret dX0_put_169 rfl ?_
                    first
                    | (exfalso; omega)
                    | (have e : zp_put z p w v = (z.2 3 (238 + 3 * p + 1 + w), zi (za z 3 (238 + 3 * p + 1 + w) v) 1 0) := by
                         unfold zp_put
                         rw [if_neg (by omega), if_neg (fun q => q (by assumption)), if_neg (by omega)]
                       rw [e]
                       refine ⟨?_, ⟨_, hRs.wr0 hfd hcd rfl rfl rfl⟩, ⟨by show nn.1 ≤ nn.1 + 1; omega, by show nn.1 + 1 ≤ nn.1 + 4000; omega⟩, by show nn.2 ≤ nn.2 + 3; omega, by show nn.2 + 3 ≤ nn.2 + 40000; omega⟩
                       first
                       | (rw [show 238 + 3 * p + 1 + w = 238 + 3 * p + 1 by omega])
                       | (rw [show 238 + 3 * p + 1 + w = 238 + 3 * p + 2 by omega]))
                · refine TGo.new (ci := 11) (N := 3) nwX0_148 dX0_put_105 rfl rfl (fun z105 e105 => ?_)
                  have hraw : va_up sh nn.1 (111, 0) nn.1 = (111, 0) := va_up_self _ _ _
                  have hw0 : w = 0 := by omega
                  have hPr : va_up sh nn.1 (111, 0) (gp p.toNat) = (19, 0) := (va_up_ne _ _ (by have := kn (gp p.toNat) (by rw [hpe.2.1]; show (19 : Nat) ≠ 0; decide); omega)).trans hpe.2.1
                  refine TGo.dup dX0_put_108 rfl ?_
                  refine TGo.al dX0_put_109 rfl ?_
                  refine TGo.getI (t := 19) 0 0 hPr rfl fgX0_216_11 dX0_put_111 rfl rfl rfl ?_
                  refine TGo.toz _ (hpe.2.2.1) ?_
                  refine TGo.il3 dX0_put_114 rfl ?_
                  refine TGo.al dX0_put_115 rfl ?_
                  refine TGo.getI (t := 19) 2 2 hPr rfl fgX0_219_11 dX0_put_117 rfl rfl rfl ?_
                  refine TGo.toz _ (hpe.2.2.2.2) ?_
                  refine TGo.callG (csI3 (y2 := mX11_init) 2 rfl dX0_put_120 q781 q782 rfl rfl okX11_init npX11_init rfl rfl) (kX11_init hraw) (fun o120 sh120 nn120 V120 e120 h120 => ?_)
                  obtain ⟨rfl, rfl, rfl, rfl⟩ := h120
                  have hB26 : B + 26 < nn.1 := kn _ (by rw [hB 26 (by decide)]; decide)
                  have hap : ap < nn.1 := kn ap (by rw [hp1.1.2.2.2.1]; show (5 : Nat) ≠ 0; decide)
                  have hpn : gp p.toNat < nn.1 := kn _ (by rw [hpe.2.1]; show (19 : Nat) ≠ 0; decide)
                  have hlt : ∀ a, a < nn.1 → (va_up (va_up sh nn.1 (111, 0)) nn.1 (19, 0)) a = sh a := fun a ha => (va_up_ne _ _ (by omega)).trans (va_up_ne _ _ (by omega))
                  have hxP : (va_up (va_up sh nn.1 (111, 0)) nn.1 (19, 0)) nn.1 = (19, 0) := va_up_self _ _ _
                  have hPx : (va_up (va_up sh nn.1 (111, 0)) nn.1 (19, 0)) (gp p.toNat) = (19, 0) := (hlt _ hpn).trans hpe.2.1
                  have hB1 : XSh B (va_up (va_up sh nn.1 (111, 0)) nn.1 (19, 0)) := fun i hi => (hlt _ (kn _ (by rw [hB i hi]; exact (xNz hi).2.1))).trans (hB i hi)
                  have hVP : ∀ a, a ≠ nn.1 → (vI (vI (vI V nn.1 0 (z.2 3 (238 + 3 * p))) nn.1 1 (v)) nn.1 2 (z.2 3 (238 + 3 * p + 2))).1 a = V.1 a := fun a ha => (u2_a ha).trans ((u2_a ha).trans (u2_a ha))
                  have hL1 : LiR (va_up (va_up sh nn.1 (111, 0)) nn.1 (19, 0)) (vI (vI (vI V nn.1 0 (z.2 3 (238 + 3 * p))) nn.1 1 (v)) nn.1 2 (z.2 3 (238 + 3 * p + 2))) (B + 26) ap cp (z.2 3 1).toNat gp := hp1.1.keep (fun a ha => hlt a (kn a ha)) (congrFun (hVP _ (by omega)) 2) rfl rfl
                  show TGo _ _ _ _ _ _ _ _ _ _
                  refine TGo.goto 144 dX0_put_123 (by decide) ?_
                  refine TGo.cW (csV2 (y2 := mJ2_set) (t := 20) 3 rfl (hB1 26 (by decide)) rfl rfl dX0_put_144 q819 q820 q821 okJ2_set npJ2_set rfl rfl) (kJ2_set hL1 (by omega) hxP rfl) ?_
                  have ew : (za z 3 (238 + 3 * p + 1 + w) v).2 3 (238 + 3 * p + 1) = v := by
                    have q := @zf3s z (238 + 3 * p + 1 + w) v
                    have e : 238 + 3 * p + 1 + w = 238 + 3 * p + 1 := by omega
                    rw [e] at q ⊢
                    exact q
                  have q1 := hL1.setp (k := p.toNat) (by omega) hxP rfl
                  have hVs : ∀ a, a < nn.1 → a ≠ B + 26 → a ≠ ap → (vR (vI (vI (vI V nn.1 0 (z.2 3 (238 + 3 * p))) nn.1 1 (v)) nn.1 2 (z.2 3 (238 + 3 * p + 2))) ap ((p.toNat : Nat) : Int) (some nn.1)).1 a = V.1 a ∧ (vR (vI (vI (vI V nn.1 0 (z.2 3 (238 + 3 * p))) nn.1 1 (v)) nn.1 2 (z.2 3 (238 + 3 * p + 2))) ap ((p.toNat : Nat) : Int) (some nn.1)).2.1 a = V.2.1 a ∧ (vR (vI (vI (vI V nn.1 0 (z.2 3 (238 + 3 * p))) nn.1 1 (v)) nn.1 2 (z.2 3 (238 + 3 * p + 2))) ap ((p.toNat : Nat) : Int) (some nn.1)).2.2 a = V.2.2 a := fun a ha h1 h2 => ⟨hVP a (by omega), rfl, u2_a h2⟩
                  have hEs : ∀ i : Int, 0 ≤ i → i < (cp : Int) → ∀ y, (vR (vI (vI (vI V nn.1 0 (z.2 3 (238 + 3 * p))) nn.1 1 (v)) nn.1 2 (z.2 3 (238 + 3 * p + 2))) ap ((p.toNat : Nat) : Int) (some nn.1)).2.2 ap i = some y → y = nn.1 ∨ ∃ j : Int, (0 ≤ j ∧ j < (cp : Int)) ∧ V.2.2 ap j = some y := fun i i0 i1 y hy => by
                    have hy : u2 V.2.2 ap ((p.toNat : Nat) : Int) (some nn.1) ap i = some y := hy
                    by_cases e : i = ((p.toNat : Nat) : Int)
                    · subst e; rw [u2_s] at hy; exact Or.inl (Option.some.inj hy).symm
                    · rw [u2_n (Or.inr e)] at hy; exact Or.inr ⟨i, ⟨i0, i1⟩, hy⟩
                  have hx0 : (vR (vI (vI (vI V nn.1 0 (z.2 3 (238 + 3 * p))) nn.1 1 (v)) nn.1 2 (z.2 3 (238 + 3 * p + 2))) ap ((p.toNat : Nat) : Int) (some nn.1)).1 nn.1 0 = (za z 3 (238 + 3 * p + 1 + w) v).2 3 (238 + 3 * p) ∧ (vR (vI (vI (vI V nn.1 0 (z.2 3 (238 + 3 * p))) nn.1 1 (v)) nn.1 2 (z.2 3 (238 + 3 * p + 2))) ap ((p.toNat : Nat) : Int) (some nn.1)).1 nn.1 1 = (za z 3 (238 + 3 * p + 1 + w) v).2 3 (238 + 3 * p + 1) ∧ (vR (vI (vI (vI V nn.1 0 (z.2 3 (238 + 3 * p))) nn.1 1 (v)) nn.1 2 (z.2 3 (238 + 3 * p + 2))) ap ((p.toNat : Nat) : Int) (some nn.1)).1 nn.1 2 = (za z 3 (238 + 3 * p + 1 + w) v).2 3 (238 + 3 * p + 2) :=
                    ⟨((u2_n (Or.inr (by decide))).trans ((u2_n (Or.inr (by decide))).trans u2_s)).trans (zf3 (by omega)).symm, ((u2_n (Or.inr (by decide))).trans u2_s).trans ew.symm, u2_s.trans (zf3 (by omega)).symm⟩
                  have hRs := hR.setP (nn' := (nn.1 + 1, nn.2 + 3)) (A1 := ap) (c1 := cp) (p := p) (w := w) (v := v) (by assumption) (by omega) W hp1 hp2 ⟨av, al, cv, cl, gv, gl, hne, ⟨hv1, hv2⟩, hl1, hl2⟩ hlt q1 (Or.inl rfl) hVs hEs hxP hx0 (by show nn.1 < nn.1 + 1; omega)
                  obtain ⟨hB3, -, hcs, -⟩ := id hRs
                  have g1 : (vR (vI (vI (vI V nn.1 0 (z.2 3 (238 + 3 * p))) nn.1 1 (v)) nn.1 2 (z.2 3 (238 + 3 * p + 2))) ap ((p.toNat : Nat) : Int) (some nn.1)).1 (gp p.toNat) 1 = z.2 3 (238 + 3 * p + 1) := (congrFun (hVP _ (by omega)) 1).trans hpe.2.2.2.1
                  have g2 : (vR (vI (vI (vI V nn.1 0 (z.2 3 (238 + 3 * p))) nn.1 1 (v)) nn.1 2 (z.2 3 (238 + 3 * p + 2))) ap ((p.toNat : Nat) : Int) (some nn.1)).1 (gp p.toNat) 2 = z.2 3 (238 + 3 * p + 2) := (congrFun (hVP _ (by omega)) 2).trans hpe.2.2.2.2
                  refine TGo.pop dX0_put_147 rfl ?_
                  refine TGo.al0 dX0_put_148 rfl ?_
                  refine TGo.il2 dX0_put_149 rfl ?_
                  refine TGo.if_ne 161 dX0_put_150 (by decide) (by omega) (fun h150 => ?_) (fun h150 => ?_)
                  · refine TGo.al dX0_put_161 rfl ?_
                    refine TGo.getI (t := 19) 2 2 hPx rfl fgX0_219_11 dX0_put_163 rfl rfl rfl ?_
                    refine TGo.toz _ (g2) ?_
                    refine TGo.cS (csV1 (y2 := mX0_done) (t := 8) 1 rfl (hB1 0 (by decide)) rfl rfl dX0_put_166 q695 q697 qs3 okX0_done npX0_done rfl rfl) (kX0_done hB3 hcs) (fun v166 V166 h166 => ?_)
                    obtain ⟨rfl, hcd, hfd⟩ := h166
                    refine TGo.iret dX0_put_169 rfl ?_
                    first
                    | (exfalso; omega)
                    | (have e : zp_put z p w v = (z.2 3 (238 + 3 * p + 1 + w), zi (za z 3 (238 + 3 * p + 1 + w) v) 1 0) := by
                         unfold zp_put
                         rw [if_neg (by omega), if_neg (fun q => q (by assumption)), if_neg (by omega)]
                       rw [e]
                       refine ⟨?_, ⟨_, hRs.wr0 hfd hcd rfl rfl rfl⟩, ⟨by show nn.1 ≤ nn.1 + 1; omega, by show nn.1 + 1 ≤ nn.1 + 4000; omega⟩, by show nn.2 ≤ nn.2 + 3; omega, by show nn.2 + 3 ≤ nn.2 + 40000; omega⟩
                       first
                       | (rw [show 238 + 3 * p + 1 + w = 238 + 3 * p + 1 by omega])
                       | (rw [show 238 + 3 * p + 1 + w = 238 + 3 * p + 2 by omega]))
                  · refine TGo.al dX0_put_153 rfl ?_
                    refine TGo.getI (t := 19) 1 1 hPx rfl fgX0_222_11 dX0_put_155 rfl rfl rfl ?_
                    refine TGo.toz _ (g1) ?_
                    refine TGo.goto 166 dX0_put_158 (by decide) ?_
                    refine TGo.cS (csV1 (y2 := mX0_done) (t := 8) 1 rfl (hB1 0 (by decide)) rfl rfl dX0_put_166 q695 q697 qs3 okX0_done npX0_done rfl rfl) (kX0_done hB3 hcs) (fun v166 V166 h166 => ?_)
                    obtain ⟨rfl, hcd, hfd⟩ := h166
                    refine TGo.iret dX0_put_169 rfl ?_
                    first
                    | (exfalso; omega)
                    | (have e : zp_put z p w v = (z.2 3 (238 + 3 * p + 1 + w), zi (za z 3 (238 + 3 * p + 1 + w) v) 1 0) := by
                         unfold zp_put
                         rw [if_neg (by omega), if_neg (fun q => q (by assumption)), if_neg (by omega)]
                       rw [e]
                       refine ⟨?_, ⟨_, hRs.wr0 hfd hcd rfl rfl rfl⟩, ⟨by show nn.1 ≤ nn.1 + 1; omega, by show nn.1 + 1 ≤ nn.1 + 4000; omega⟩, by show nn.2 ≤ nn.2 + 3; omega, by show nn.2 + 3 ≤ nn.2 + 40000; omega⟩
                       first
                       | (rw [show 238 + 3 * p + 1 + w = 238 + 3 * p + 1 by omega])
                       | (rw [show 238 + 3 * p + 1 + w = 238 + 3 * p + 2 by omega]))
              · refine TGo.al0 dX0_put_87 rfl ?_
                refine TGo.icm1 dX0_put_88 ?_
                refine TGo.cS (csV1 (y2 := mX0_refuse) (t := 8) 1 rfl (hB 0 (by decide)) rfl rfl dX0_put_89 q601 q603 qs1 okX0_refuse npX0_refuse rfl rfl) (kX0_refuse hB hc (by omega)) (fun v89 V89 h89 => ?_)
                obtain ⟨rfl, hc89, hf89⟩ := h89
                refine TGo.iret dX0_put_92 rfl ?_
                first
                | (exfalso; omega)
                | (refine hR.leaf W (FrX.rf.tr hf89) hc89 ((zTell_2 rfl).trans rfl) ((zTell_2 rfl).trans rfl) (StA.rf.tell) ?_
                   unfold zp_put
                   (repeat (first | rw [if_pos (by first | rfl | assumption | omega)] | rw [if_neg (by first | decide | assumption | omega)]))
                   (try first | rfl))
          · refine TGo.al0 dX0_put_51 rfl ?_
            refine TGo.bip (-2) dX0_put_52 (by decide) ?_
            refine TGo.cS (csV1 (y2 := mX0_refuse) (t := 8) 1 rfl (hB 0 (by decide)) rfl rfl dX0_put_54 q601 q603 qs1 okX0_refuse npX0_refuse rfl rfl) (kX0_refuse hB hc (by omega)) (fun v54 V54 h54 => ?_)
            obtain ⟨rfl, hc54, hf54⟩ := h54
            refine TGo.iret dX0_put_57 rfl ?_
            first
            | (exfalso; omega)
            | (refine hR.leaf W (FrX.rf.tr hf54) hc54 ((zTell_2 rfl).trans rfl) ((zTell_2 rfl).trans rfl) (StA.rf.tell) ?_
               unfold zp_put
               (repeat (first | rw [if_pos (by first | rfl | assumption | omega)] | rw [if_neg (by first | decide | assumption | omega)]))
               (try first | rfl))
        · refine TGo.al0 dX0_put_37 rfl ?_
          refine TGo.icm1 dX0_put_38 ?_
          refine TGo.cS (csV1 (y2 := mX0_refuse) (t := 8) 1 rfl (hB 0 (by decide)) rfl rfl dX0_put_39 q601 q603 qs1 okX0_refuse npX0_refuse rfl rfl) (kX0_refuse hB hc (by omega)) (fun v39 V39 h39 => ?_)
          obtain ⟨rfl, hc39, hf39⟩ := h39
          refine TGo.iret dX0_put_42 rfl ?_
          first
          | (exfalso; omega)
          | (refine hR.leaf W (FrX.rf.tr hf39) hc39 ((zTell_2 rfl).trans rfl) ((zTell_2 rfl).trans rfl) (StA.rf.tell) ?_
             unfold zp_put
             (repeat (first | rw [if_pos (by first | rfl | assumption | omega)] | rw [if_neg (by first | decide | assumption | omega)]))
             (try first | rfl))
      · refine TGo.sip 300 dX0_put_23 (by decide) ?_
        refine TGo.goto 31 dX0_put_26 (by decide) ?_
        refine TGo.cF (csS3 (y2 := mX0_in) 1 rfl dX0_put_31 q598 q599 okX0_in npX0_in rfl rfl) (kX0_in (by omega) (by omega) (by omega)) ?_
        refine TGo.ifb_ne 43 dX0_put_34 (by decide) (fun h34 => ?_) (fun h34 => ?_)
        · refine TGo.al0 dX0_put_43 rfl ?_
          refine TGo.il1 dX0_put_44 rfl ?_
          refine TGo.cF (csV1 (y2 := mX0_isPerson) (t := 8) 2 rfl (hB 0 (by decide)) rfl rfl dX0_put_45 q815 q817 qs7 okX0_isPerson npX0_isPerson rfl rfl) (kX0_isPerson hR W (by omega)) ?_
          refine TGo.ifb_ne 58 dX0_put_48 (by decide) (fun h48 => ?_) (fun h48 => ?_)
          · refine TGo.known (fun kn => ?_)
            have hpe := hPe (by assumption)
            have hpb := hPb (by assumption)
            refine TGo.al0 dX0_put_58 rfl ?_
            refine TGo.getS (t := 8) 2 2 (B + 2) (hB 0 (by decide)) rfl fgX0_16_0 dX0_put_59 rfl rfl rfl ?_
            refine TGo.getS (t := 9) 5 5 (B + 26) (hB 2 (by decide)) rfl fgX0_126_1 dX0_put_62 rfl rfl rfl ?_
            refine TGo.il1 dX0_put_65 rfl ?_
            refine TGo.toz ((p.toNat : Nat) : Int) (Int.toNat_of_nonneg (by omega)).symm ?_
            refine TGo.cF (csV1 (y2 := mJ2_get) (t := 20) 3 rfl (hB 26 (by decide)) rfl rfl dX0_put_66 q760 q761 q762 okJ2_get npJ2_get rfl rfl) (kJ2_get hp1.1 (k := p.toNat) (by omega)) ?_
            refine TGo.castO (t := 19) dX0_put_69 q779 (hPe (by assumption)).2.1 rfl rfl (Or.inl rfl) ?_
            refine TGo.as dX0_put_72 rfl rfl ?_
            refine TGo.il2 dX0_put_74 rfl ?_
            refine TGo.if_ne 93 dX0_put_75 (by decide) (by omega) (fun h75 => ?_) (fun h75 => ?_)
            · refine TGo.al0 dX0_put_93 rfl ?_
              refine TGo.getS (t := 8) 2 2 (B + 2) (hB 0 (by decide)) rfl fgX0_16_0 dX0_put_94 rfl rfl rfl ?_
              refine TGo.getS (t := 9) 5 5 (B + 26) (hB 2 (by decide)) rfl fgX0_126_1 dX0_put_97 rfl rfl rfl ?_
              refine TGo.il1 dX0_put_100 rfl ?_
              refine TGo.toz ((p.toNat : Nat) : Int) (Int.toNat_of_nonneg (by omega)).symm ?_
              refine TGo.il2 dX0_put_101 rfl ?_
              refine TGo.if_ne 126 dX0_put_102 (by decide) (by omega) (fun h102 => ?_) (fun h102 => ?_)
              · refine TGo.new (ci := 11) (N := 3) nwX0_148 dX0_put_126 rfl rfl (fun z126 e126 => ?_)
                have hraw : va_up sh nn.1 (111, 0) nn.1 = (111, 0) := va_up_self _ _ _
                have hw1 : w = 1 := by omega
                have hPr : va_up sh nn.1 (111, 0) (gp p.toNat) = (19, 0) := (va_up_ne _ _ (by have := kn (gp p.toNat) (by rw [hpe.2.1]; show (19 : Nat) ≠ 0; decide); omega)).trans hpe.2.1
                refine TGo.dup dX0_put_129 rfl ?_
                refine TGo.al dX0_put_130 rfl ?_
                refine TGo.getI (t := 19) 0 0 hPr rfl fgX0_216_11 dX0_put_132 rfl rfl rfl ?_
                refine TGo.toz _ (hpe.2.2.1) ?_
                refine TGo.al dX0_put_135 rfl ?_
                refine TGo.getI (t := 19) 1 1 hPr rfl fgX0_222_11 dX0_put_137 rfl rfl rfl ?_
                refine TGo.toz _ (hpe.2.2.2.1) ?_
                refine TGo.il3 dX0_put_140 rfl ?_
                refine TGo.callG (csI3 (y2 := mX11_init) 2 rfl dX0_put_141 q781 q782 rfl rfl okX11_init npX11_init rfl rfl) (kX11_init hraw) (fun o141 sh141 nn141 V141 e141 h141 => ?_)
                obtain ⟨rfl, rfl, rfl, rfl⟩ := h141
                have hB26 : B + 26 < nn.1 := kn _ (by rw [hB 26 (by decide)]; decide)
                have hap : ap < nn.1 := kn ap (by rw [hp1.1.2.2.2.1]; show (5 : Nat) ≠ 0; decide)
                have hpn : gp p.toNat < nn.1 := kn _ (by rw [hpe.2.1]; show (19 : Nat) ≠ 0; decide)
                have hlt : ∀ a, a < nn.1 → (va_up (va_up sh nn.1 (111, 0)) nn.1 (19, 0)) a = sh a := fun a ha => (va_up_ne _ _ (by omega)).trans (va_up_ne _ _ (by omega))
                have hxP : (va_up (va_up sh nn.1 (111, 0)) nn.1 (19, 0)) nn.1 = (19, 0) := va_up_self _ _ _
                have hPx : (va_up (va_up sh nn.1 (111, 0)) nn.1 (19, 0)) (gp p.toNat) = (19, 0) := (hlt _ hpn).trans hpe.2.1
                have hB1 : XSh B (va_up (va_up sh nn.1 (111, 0)) nn.1 (19, 0)) := fun i hi => (hlt _ (kn _ (by rw [hB i hi]; exact (xNz hi).2.1))).trans (hB i hi)
                have hVP : ∀ a, a ≠ nn.1 → (vI (vI (vI V nn.1 0 (z.2 3 (238 + 3 * p))) nn.1 1 (z.2 3 (238 + 3 * p + 1))) nn.1 2 (v)).1 a = V.1 a := fun a ha => (u2_a ha).trans ((u2_a ha).trans (u2_a ha))
                have hL1 : LiR (va_up (va_up sh nn.1 (111, 0)) nn.1 (19, 0)) (vI (vI (vI V nn.1 0 (z.2 3 (238 + 3 * p))) nn.1 1 (z.2 3 (238 + 3 * p + 1))) nn.1 2 (v)) (B + 26) ap cp (z.2 3 1).toNat gp := hp1.1.keep (fun a ha => hlt a (kn a ha)) (congrFun (hVP _ (by omega)) 2) rfl rfl
                show TGo _ _ _ _ _ _ _ _ _ _
                refine TGo.cW (csV2 (y2 := mJ2_set) (t := 20) 3 rfl (hB1 26 (by decide)) rfl rfl dX0_put_144 q819 q820 q821 okJ2_set npJ2_set rfl rfl) (kJ2_set hL1 (by omega) hxP rfl) ?_
                have ew : (za z 3 (238 + 3 * p + 1 + w) v).2 3 (238 + 3 * p + 2) = v := by
                  have q := @zf3s z (238 + 3 * p + 1 + w) v
                  have e : 238 + 3 * p + 1 + w = 238 + 3 * p + 2 := by omega
                  rw [e] at q ⊢
                  exact q
                have q1 := hL1.setp (k := p.toNat) (by omega) hxP rfl
                have hVs : ∀ a, a < nn.1 → a ≠ B + 26 → a ≠ ap → (vR (vI (vI (vI V nn.1 0 (z.2 3 (238 + 3 * p))) nn.1 1 (z.2 3 (238 + 3 * p + 1))) nn.1 2 (v)) ap ((p.toNat : Nat) : Int) (some nn.1)).1 a = V.1 a ∧ (vR (vI (vI (vI V nn.1 0 (z.2 3 (238 + 3 * p))) nn.1 1 (z.2 3 (238 + 3 * p + 1))) nn.1 2 (v)) ap ((p.toNat : Nat) : Int) (some nn.1)).2.1 a = V.2.1 a ∧ (vR (vI (vI (vI V nn.1 0 (z.2 3 (238 + 3 * p))) nn.1 1 (z.2 3 (238 + 3 * p + 1))) nn.1 2 (v)) ap ((p.toNat : Nat) : Int) (some nn.1)).2.2 a = V.2.2 a := fun a ha h1 h2 => ⟨hVP a (by omega), rfl, u2_a h2⟩
                have hEs : ∀ i : Int, 0 ≤ i → i < (cp : Int) → ∀ y, (vR (vI (vI (vI V nn.1 0 (z.2 3 (238 + 3 * p))) nn.1 1 (z.2 3 (238 + 3 * p + 1))) nn.1 2 (v)) ap ((p.toNat : Nat) : Int) (some nn.1)).2.2 ap i = some y → y = nn.1 ∨ ∃ j : Int, (0 ≤ j ∧ j < (cp : Int)) ∧ V.2.2 ap j = some y := fun i i0 i1 y hy => by
                  have hy : u2 V.2.2 ap ((p.toNat : Nat) : Int) (some nn.1) ap i = some y := hy
                  by_cases e : i = ((p.toNat : Nat) : Int)
                  · subst e; rw [u2_s] at hy; exact Or.inl (Option.some.inj hy).symm
                  · rw [u2_n (Or.inr e)] at hy; exact Or.inr ⟨i, ⟨i0, i1⟩, hy⟩
                have hx0 : (vR (vI (vI (vI V nn.1 0 (z.2 3 (238 + 3 * p))) nn.1 1 (z.2 3 (238 + 3 * p + 1))) nn.1 2 (v)) ap ((p.toNat : Nat) : Int) (some nn.1)).1 nn.1 0 = (za z 3 (238 + 3 * p + 1 + w) v).2 3 (238 + 3 * p) ∧ (vR (vI (vI (vI V nn.1 0 (z.2 3 (238 + 3 * p))) nn.1 1 (z.2 3 (238 + 3 * p + 1))) nn.1 2 (v)) ap ((p.toNat : Nat) : Int) (some nn.1)).1 nn.1 1 = (za z 3 (238 + 3 * p + 1 + w) v).2 3 (238 + 3 * p + 1) ∧ (vR (vI (vI (vI V nn.1 0 (z.2 3 (238 + 3 * p))) nn.1 1 (z.2 3 (238 + 3 * p + 1))) nn.1 2 (v)) ap ((p.toNat : Nat) : Int) (some nn.1)).1 nn.1 2 = (za z 3 (238 + 3 * p + 1 + w) v).2 3 (238 + 3 * p + 2) :=
                  ⟨((u2_n (Or.inr (by decide))).trans ((u2_n (Or.inr (by decide))).trans u2_s)).trans (zf3 (by omega)).symm, ((u2_n (Or.inr (by decide))).trans u2_s).trans (zf3 (by omega)).symm, u2_s.trans ew.symm⟩
                have hRs := hR.setP (nn' := (nn.1 + 1, nn.2 + 3)) (A1 := ap) (c1 := cp) (p := p) (w := w) (v := v) (by assumption) (by omega) W hp1 hp2 ⟨av, al, cv, cl, gv, gl, hne, ⟨hv1, hv2⟩, hl1, hl2⟩ hlt q1 (Or.inl rfl) hVs hEs hxP hx0 (by show nn.1 < nn.1 + 1; omega)
                obtain ⟨hB3, -, hcs, -⟩ := id hRs
                have g1 : (vR (vI (vI (vI V nn.1 0 (z.2 3 (238 + 3 * p))) nn.1 1 (z.2 3 (238 + 3 * p + 1))) nn.1 2 (v)) ap ((p.toNat : Nat) : Int) (some nn.1)).1 (gp p.toNat) 1 = z.2 3 (238 + 3 * p + 1) := (congrFun (hVP _ (by omega)) 1).trans hpe.2.2.2.1
                have g2 : (vR (vI (vI (vI V nn.1 0 (z.2 3 (238 + 3 * p))) nn.1 1 (z.2 3 (238 + 3 * p + 1))) nn.1 2 (v)) ap ((p.toNat : Nat) : Int) (some nn.1)).1 (gp p.toNat) 2 = z.2 3 (238 + 3 * p + 2) := (congrFun (hVP _ (by omega)) 2).trans hpe.2.2.2.2
                refine TGo.pop dX0_put_147 rfl ?_
                refine TGo.al0 dX0_put_148 rfl ?_
                refine TGo.il2 dX0_put_149 rfl ?_
                refine TGo.if_ne 161 dX0_put_150 (by decide) (by omega) (fun h150 => ?_) (fun h150 => ?_)
                · refine TGo.al dX0_put_161 rfl ?_
                  refine TGo.getI (t := 19) 2 2 hPx rfl fgX0_219_11 dX0_put_163 rfl rfl rfl ?_
                  refine TGo.toz _ (g2) ?_
                  refine TGo.cS (csV1 (y2 := mX0_done) (t := 8) 1 rfl (hB1 0 (by decide)) rfl rfl dX0_put_166 q695 q697 qs3 okX0_done npX0_done rfl rfl) (kX0_done hB3 hcs) (fun v166 V166 h166 => ?_)
                  obtain ⟨rfl, hcd, hfd⟩ := h166
                  refine TGo.iret dX0_put_169 rfl ?_
                  first
                  | (exfalso; omega)
                  | (have e : zp_put z p w v = (z.2 3 (238 + 3 * p + 1 + w), zi (za z 3 (238 + 3 * p + 1 + w) v) 1 0) := by
                       unfold zp_put
                       rw [if_neg (by omega), if_neg (fun q => q (by assumption)), if_neg (by omega)]
                     rw [e]
                     refine ⟨?_, ⟨_, hRs.wr0 hfd hcd rfl rfl rfl⟩, ⟨by show nn.1 ≤ nn.1 + 1; omega, by show nn.1 + 1 ≤ nn.1 + 4000; omega⟩, by show nn.2 ≤ nn.2 + 3; omega, by show nn.2 + 3 ≤ nn.2 + 40000; omega⟩
                     first
                     | (rw [show 238 + 3 * p + 1 + w = 238 + 3 * p + 1 by omega])
                     | (rw [show 238 + 3 * p + 1 + w = 238 + 3 * p + 2 by omega]))
                · refine TGo.al dX0_put_153 rfl ?_
                  refine TGo.getI (t := 19) 1 1 hPx rfl fgX0_222_11 dX0_put_155 rfl rfl rfl ?_
                  refine TGo.toz _ (g1) ?_
                  refine TGo.goto 166 dX0_put_158 (by decide) ?_
                  refine TGo.cS (csV1 (y2 := mX0_done) (t := 8) 1 rfl (hB1 0 (by decide)) rfl rfl dX0_put_166 q695 q697 qs3 okX0_done npX0_done rfl rfl) (kX0_done hB3 hcs) (fun v166 V166 h166 => ?_)
                  obtain ⟨rfl, hcd, hfd⟩ := h166
                  refine TGo.iret dX0_put_169 rfl ?_
                  first
                  | (exfalso; omega)
                  | (have e : zp_put z p w v = (z.2 3 (238 + 3 * p + 1 + w), zi (za z 3 (238 + 3 * p + 1 + w) v) 1 0) := by
                       unfold zp_put
                       rw [if_neg (by omega), if_neg (fun q => q (by assumption)), if_neg (by omega)]
                     rw [e]
                     refine ⟨?_, ⟨_, hRs.wr0 hfd hcd rfl rfl rfl⟩, ⟨by show nn.1 ≤ nn.1 + 1; omega, by show nn.1 + 1 ≤ nn.1 + 4000; omega⟩, by show nn.2 ≤ nn.2 + 3; omega, by show nn.2 + 3 ≤ nn.2 + 40000; omega⟩
                     first
                     | (rw [show 238 + 3 * p + 1 + w = 238 + 3 * p + 1 by omega])
                     | (rw [show 238 + 3 * p + 1 + w = 238 + 3 * p + 2 by omega]))
              · refine TGo.new (ci := 11) (N := 3) nwX0_148 dX0_put_105 rfl rfl (fun z105 e105 => ?_)
                have hraw : va_up sh nn.1 (111, 0) nn.1 = (111, 0) := va_up_self _ _ _
                have hw0 : w = 0 := by omega
                have hPr : va_up sh nn.1 (111, 0) (gp p.toNat) = (19, 0) := (va_up_ne _ _ (by have := kn (gp p.toNat) (by rw [hpe.2.1]; show (19 : Nat) ≠ 0; decide); omega)).trans hpe.2.1
                refine TGo.dup dX0_put_108 rfl ?_
                refine TGo.al dX0_put_109 rfl ?_
                refine TGo.getI (t := 19) 0 0 hPr rfl fgX0_216_11 dX0_put_111 rfl rfl rfl ?_
                refine TGo.toz _ (hpe.2.2.1) ?_
                refine TGo.il3 dX0_put_114 rfl ?_
                refine TGo.al dX0_put_115 rfl ?_
                refine TGo.getI (t := 19) 2 2 hPr rfl fgX0_219_11 dX0_put_117 rfl rfl rfl ?_
                refine TGo.toz _ (hpe.2.2.2.2) ?_
                refine TGo.callG (csI3 (y2 := mX11_init) 2 rfl dX0_put_120 q781 q782 rfl rfl okX11_init npX11_init rfl rfl) (kX11_init hraw) (fun o120 sh120 nn120 V120 e120 h120 => ?_)
                obtain ⟨rfl, rfl, rfl, rfl⟩ := h120
                have hB26 : B + 26 < nn.1 := kn _ (by rw [hB 26 (by decide)]; decide)
                have hap : ap < nn.1 := kn ap (by rw [hp1.1.2.2.2.1]; show (5 : Nat) ≠ 0; decide)
                have hpn : gp p.toNat < nn.1 := kn _ (by rw [hpe.2.1]; show (19 : Nat) ≠ 0; decide)
                have hlt : ∀ a, a < nn.1 → (va_up (va_up sh nn.1 (111, 0)) nn.1 (19, 0)) a = sh a := fun a ha => (va_up_ne _ _ (by omega)).trans (va_up_ne _ _ (by omega))
                have hxP : (va_up (va_up sh nn.1 (111, 0)) nn.1 (19, 0)) nn.1 = (19, 0) := va_up_self _ _ _
                have hPx : (va_up (va_up sh nn.1 (111, 0)) nn.1 (19, 0)) (gp p.toNat) = (19, 0) := (hlt _ hpn).trans hpe.2.1
                have hB1 : XSh B (va_up (va_up sh nn.1 (111, 0)) nn.1 (19, 0)) := fun i hi => (hlt _ (kn _ (by rw [hB i hi]; exact (xNz hi).2.1))).trans (hB i hi)
                have hVP : ∀ a, a ≠ nn.1 → (vI (vI (vI V nn.1 0 (z.2 3 (238 + 3 * p))) nn.1 1 (v)) nn.1 2 (z.2 3 (238 + 3 * p + 2))).1 a = V.1 a := fun a ha => (u2_a ha).trans ((u2_a ha).trans (u2_a ha))
                have hL1 : LiR (va_up (va_up sh nn.1 (111, 0)) nn.1 (19, 0)) (vI (vI (vI V nn.1 0 (z.2 3 (238 + 3 * p))) nn.1 1 (v)) nn.1 2 (z.2 3 (238 + 3 * p + 2))) (B + 26) ap cp (z.2 3 1).toNat gp := hp1.1.keep (fun a ha => hlt a (kn a ha)) (congrFun (hVP _ (by omega)) 2) rfl rfl
                show TGo _ _ _ _ _ _ _ _ _ _
                refine TGo.goto 144 dX0_put_123 (by decide) ?_
                refine TGo.cW (csV2 (y2 := mJ2_set) (t := 20) 3 rfl (hB1 26 (by decide)) rfl rfl dX0_put_144 q819 q820 q821 okJ2_set npJ2_set rfl rfl) (kJ2_set hL1 (by omega) hxP rfl) ?_
                have ew : (za z 3 (238 + 3 * p + 1 + w) v).2 3 (238 + 3 * p + 1) = v := by
                  have q := @zf3s z (238 + 3 * p + 1 + w) v
                  have e : 238 + 3 * p + 1 + w = 238 + 3 * p + 1 := by omega
                  rw [e] at q ⊢
                  exact q
                have q1 := hL1.setp (k := p.toNat) (by omega) hxP rfl
                have hVs : ∀ a, a < nn.1 → a ≠ B + 26 → a ≠ ap → (vR (vI (vI (vI V nn.1 0 (z.2 3 (238 + 3 * p))) nn.1 1 (v)) nn.1 2 (z.2 3 (238 + 3 * p + 2))) ap ((p.toNat : Nat) : Int) (some nn.1)).1 a = V.1 a ∧ (vR (vI (vI (vI V nn.1 0 (z.2 3 (238 + 3 * p))) nn.1 1 (v)) nn.1 2 (z.2 3 (238 + 3 * p + 2))) ap ((p.toNat : Nat) : Int) (some nn.1)).2.1 a = V.2.1 a ∧ (vR (vI (vI (vI V nn.1 0 (z.2 3 (238 + 3 * p))) nn.1 1 (v)) nn.1 2 (z.2 3 (238 + 3 * p + 2))) ap ((p.toNat : Nat) : Int) (some nn.1)).2.2 a = V.2.2 a := fun a ha h1 h2 => ⟨hVP a (by omega), rfl, u2_a h2⟩
                have hEs : ∀ i : Int, 0 ≤ i → i < (cp : Int) → ∀ y, (vR (vI (vI (vI V nn.1 0 (z.2 3 (238 + 3 * p))) nn.1 1 (v)) nn.1 2 (z.2 3 (238 + 3 * p + 2))) ap ((p.toNat : Nat) : Int) (some nn.1)).2.2 ap i = some y → y = nn.1 ∨ ∃ j : Int, (0 ≤ j ∧ j < (cp : Int)) ∧ V.2.2 ap j = some y := fun i i0 i1 y hy => by
                  have hy : u2 V.2.2 ap ((p.toNat : Nat) : Int) (some nn.1) ap i = some y := hy
                  by_cases e : i = ((p.toNat : Nat) : Int)
                  · subst e; rw [u2_s] at hy; exact Or.inl (Option.some.inj hy).symm
                  · rw [u2_n (Or.inr e)] at hy; exact Or.inr ⟨i, ⟨i0, i1⟩, hy⟩
                have hx0 : (vR (vI (vI (vI V nn.1 0 (z.2 3 (238 + 3 * p))) nn.1 1 (v)) nn.1 2 (z.2 3 (238 + 3 * p + 2))) ap ((p.toNat : Nat) : Int) (some nn.1)).1 nn.1 0 = (za z 3 (238 + 3 * p + 1 + w) v).2 3 (238 + 3 * p) ∧ (vR (vI (vI (vI V nn.1 0 (z.2 3 (238 + 3 * p))) nn.1 1 (v)) nn.1 2 (z.2 3 (238 + 3 * p + 2))) ap ((p.toNat : Nat) : Int) (some nn.1)).1 nn.1 1 = (za z 3 (238 + 3 * p + 1 + w) v).2 3 (238 + 3 * p + 1) ∧ (vR (vI (vI (vI V nn.1 0 (z.2 3 (238 + 3 * p))) nn.1 1 (v)) nn.1 2 (z.2 3 (238 + 3 * p + 2))) ap ((p.toNat : Nat) : Int) (some nn.1)).1 nn.1 2 = (za z 3 (238 + 3 * p + 1 + w) v).2 3 (238 + 3 * p + 2) :=
                  ⟨((u2_n (Or.inr (by decide))).trans ((u2_n (Or.inr (by decide))).trans u2_s)).trans (zf3 (by omega)).symm, ((u2_n (Or.inr (by decide))).trans u2_s).trans ew.symm, u2_s.trans (zf3 (by omega)).symm⟩
                have hRs := hR.setP (nn' := (nn.1 + 1, nn.2 + 3)) (A1 := ap) (c1 := cp) (p := p) (w := w) (v := v) (by assumption) (by omega) W hp1 hp2 ⟨av, al, cv, cl, gv, gl, hne, ⟨hv1, hv2⟩, hl1, hl2⟩ hlt q1 (Or.inl rfl) hVs hEs hxP hx0 (by show nn.1 < nn.1 + 1; omega)
                obtain ⟨hB3, -, hcs, -⟩ := id hRs
                have g1 : (vR (vI (vI (vI V nn.1 0 (z.2 3 (238 + 3 * p))) nn.1 1 (v)) nn.1 2 (z.2 3 (238 + 3 * p + 2))) ap ((p.toNat : Nat) : Int) (some nn.1)).1 (gp p.toNat) 1 = z.2 3 (238 + 3 * p + 1) := (congrFun (hVP _ (by omega)) 1).trans hpe.2.2.2.1
                have g2 : (vR (vI (vI (vI V nn.1 0 (z.2 3 (238 + 3 * p))) nn.1 1 (v)) nn.1 2 (z.2 3 (238 + 3 * p + 2))) ap ((p.toNat : Nat) : Int) (some nn.1)).1 (gp p.toNat) 2 = z.2 3 (238 + 3 * p + 2) := (congrFun (hVP _ (by omega)) 2).trans hpe.2.2.2.2
                refine TGo.pop dX0_put_147 rfl ?_
                refine TGo.al0 dX0_put_148 rfl ?_
                refine TGo.il2 dX0_put_149 rfl ?_
                refine TGo.if_ne 161 dX0_put_150 (by decide) (by omega) (fun h150 => ?_) (fun h150 => ?_)
                · refine TGo.al dX0_put_161 rfl ?_
                  refine TGo.getI (t := 19) 2 2 hPx rfl fgX0_219_11 dX0_put_163 rfl rfl rfl ?_
                  refine TGo.toz _ (g2) ?_
                  refine TGo.cS (csV1 (y2 := mX0_done) (t := 8) 1 rfl (hB1 0 (by decide)) rfl rfl dX0_put_166 q695 q697 qs3 okX0_done npX0_done rfl rfl) (kX0_done hB3 hcs) (fun v166 V166 h166 => ?_)
                  obtain ⟨rfl, hcd, hfd⟩ := h166
                  refine TGo.iret dX0_put_169 rfl ?_
                  first
                  | (exfalso; omega)
                  | (have e : zp_put z p w v = (z.2 3 (238 + 3 * p + 1 + w), zi (za z 3 (238 + 3 * p + 1 + w) v) 1 0) := by
                       unfold zp_put
                       rw [if_neg (by omega), if_neg (fun q => q (by assumption)), if_neg (by omega)]
                     rw [e]
                     refine ⟨?_, ⟨_, hRs.wr0 hfd hcd rfl rfl rfl⟩, ⟨by show nn.1 ≤ nn.1 + 1; omega, by show nn.1 + 1 ≤ nn.1 + 4000; omega⟩, by show nn.2 ≤ nn.2 + 3; omega, by show nn.2 + 3 ≤ nn.2 + 40000; omega⟩
                     first
                     | (rw [show 238 + 3 * p + 1 + w = 238 + 3 * p + 1 by omega])
                     | (rw [show 238 + 3 * p + 1 + w = 238 + 3 * p + 2 by omega]))
                · refine TGo.al dX0_put_153 rfl ?_
                  refine TGo.getI (t := 19) 1 1 hPx rfl fgX0_222_11 dX0_put_155 rfl rfl rfl ?_
                  refine TGo.toz _ (g1) ?_
                  refine TGo.goto 166 dX0_put_158 (by decide) ?_
                  refine TGo.cS (csV1 (y2 := mX0_done) (t := 8) 1 rfl (hB1 0 (by decide)) rfl rfl dX0_put_166 q695 q697 qs3 okX0_done npX0_done rfl rfl) (kX0_done hB3 hcs) (fun v166 V166 h166 => ?_)
                  obtain ⟨rfl, hcd, hfd⟩ := h166
                  refine TGo.iret dX0_put_169 rfl ?_
                  first
                  | (exfalso; omega)
                  | (have e : zp_put z p w v = (z.2 3 (238 + 3 * p + 1 + w), zi (za z 3 (238 + 3 * p + 1 + w) v) 1 0) := by
                       unfold zp_put
                       rw [if_neg (by omega), if_neg (fun q => q (by assumption)), if_neg (by omega)]
                     rw [e]
                     refine ⟨?_, ⟨_, hRs.wr0 hfd hcd rfl rfl rfl⟩, ⟨by show nn.1 ≤ nn.1 + 1; omega, by show nn.1 + 1 ≤ nn.1 + 4000; omega⟩, by show nn.2 ≤ nn.2 + 3; omega, by show nn.2 + 3 ≤ nn.2 + 40000; omega⟩
                     first
                     | (rw [show 238 + 3 * p + 1 + w = 238 + 3 * p + 1 by omega])
                     | (rw [show 238 + 3 * p + 1 + w = 238 + 3 * p + 2 by omega]))
            · refine TGo.il3 dX0_put_78 rfl ?_
              refine TGo.al dX0_put_79 rfl ?_
              refine TGo.getI (t := 19) 0 0 (hPe (by assumption)).2.1 rfl fgX0_216_11 dX0_put_81 rfl rfl rfl ?_
              refine TGo.toz _ (hpe.2.2.1) ?_
              refine TGo.icmp_gt 93 dX0_put_84 (by decide) (by omega) (fun h84 => ?_) (fun h84 => ?_)
              · refine TGo.al0 dX0_put_93 rfl ?_
                refine TGo.getS (t := 8) 2 2 (B + 2) (hB 0 (by decide)) rfl fgX0_16_0 dX0_put_94 rfl rfl rfl ?_
                refine TGo.getS (t := 9) 5 5 (B + 26) (hB 2 (by decide)) rfl fgX0_126_1 dX0_put_97 rfl rfl rfl ?_
                refine TGo.il1 dX0_put_100 rfl ?_
                refine TGo.toz ((p.toNat : Nat) : Int) (Int.toNat_of_nonneg (by omega)).symm ?_
                refine TGo.il2 dX0_put_101 rfl ?_
                refine TGo.if_ne 126 dX0_put_102 (by decide) (by omega) (fun h102 => ?_) (fun h102 => ?_)
                · refine TGo.new (ci := 11) (N := 3) nwX0_148 dX0_put_126 rfl rfl (fun z126 e126 => ?_)
                  have hraw : va_up sh nn.1 (111, 0) nn.1 = (111, 0) := va_up_self _ _ _
                  have hw1 : w = 1 := by omega
                  have hPr : va_up sh nn.1 (111, 0) (gp p.toNat) = (19, 0) := (va_up_ne _ _ (by have := kn (gp p.toNat) (by rw [hpe.2.1]; show (19 : Nat) ≠ 0; decide); omega)).trans hpe.2.1
                  refine TGo.dup dX0_put_129 rfl ?_
                  refine TGo.al dX0_put_130 rfl ?_
                  refine TGo.getI (t := 19) 0 0 hPr rfl fgX0_216_11 dX0_put_132 rfl rfl rfl ?_
                  refine TGo.toz _ (hpe.2.2.1) ?_
                  refine TGo.al dX0_put_135 rfl ?_
                  refine TGo.getI (t := 19) 1 1 hPr rfl fgX0_222_11 dX0_put_137 rfl rfl rfl ?_
                  refine TGo.toz _ (hpe.2.2.2.1) ?_
                  refine TGo.il3 dX0_put_140 rfl ?_
                  refine TGo.callG (csI3 (y2 := mX11_init) 2 rfl dX0_put_141 q781 q782 rfl rfl okX11_init npX11_init rfl rfl) (kX11_init hraw) (fun o141 sh141 nn141 V141 e141 h141 => ?_)
                  obtain ⟨rfl, rfl, rfl, rfl⟩ := h141
                  have hB26 : B + 26 < nn.1 := kn _ (by rw [hB 26 (by decide)]; decide)
                  have hap : ap < nn.1 := kn ap (by rw [hp1.1.2.2.2.1]; show (5 : Nat) ≠ 0; decide)
                  have hpn : gp p.toNat < nn.1 := kn _ (by rw [hpe.2.1]; show (19 : Nat) ≠ 0; decide)
                  have hlt : ∀ a, a < nn.1 → (va_up (va_up sh nn.1 (111, 0)) nn.1 (19, 0)) a = sh a := fun a ha => (va_up_ne _ _ (by omega)).trans (va_up_ne _ _ (by omega))
                  have hxP : (va_up (va_up sh nn.1 (111, 0)) nn.1 (19, 0)) nn.1 = (19, 0) := va_up_self _ _ _
                  have hPx : (va_up (va_up sh nn.1 (111, 0)) nn.1 (19, 0)) (gp p.toNat) = (19, 0) := (hlt _ hpn).trans hpe.2.1
                  have hB1 : XSh B (va_up (va_up sh nn.1 (111, 0)) nn.1 (19, 0)) := fun i hi => (hlt _ (kn _ (by rw [hB i hi]; exact (xNz hi).2.1))).trans (hB i hi)
                  have hVP : ∀ a, a ≠ nn.1 → (vI (vI (vI V nn.1 0 (z.2 3 (238 + 3 * p))) nn.1 1 (z.2 3 (238 + 3 * p + 1))) nn.1 2 (v)).1 a = V.1 a := fun a ha => (u2_a ha).trans ((u2_a ha).trans (u2_a ha))
                  have hL1 : LiR (va_up (va_up sh nn.1 (111, 0)) nn.1 (19, 0)) (vI (vI (vI V nn.1 0 (z.2 3 (238 + 3 * p))) nn.1 1 (z.2 3 (238 + 3 * p + 1))) nn.1 2 (v)) (B + 26) ap cp (z.2 3 1).toNat gp := hp1.1.keep (fun a ha => hlt a (kn a ha)) (congrFun (hVP _ (by omega)) 2) rfl rfl
                  show TGo _ _ _ _ _ _ _ _ _ _
                  refine TGo.cW (csV2 (y2 := mJ2_set) (t := 20) 3 rfl (hB1 26 (by decide)) rfl rfl dX0_put_144 q819 q820 q821 okJ2_set npJ2_set rfl rfl) (kJ2_set hL1 (by omega) hxP rfl) ?_
                  have ew : (za z 3 (238 + 3 * p + 1 + w) v).2 3 (238 + 3 * p + 2) = v := by
                    have q := @zf3s z (238 + 3 * p + 1 + w) v
                    have e : 238 + 3 * p + 1 + w = 238 + 3 * p + 2 := by omega
                    rw [e] at q ⊢
                    exact q
                  have q1 := hL1.setp (k := p.toNat) (by omega) hxP rfl
                  have hVs : ∀ a, a < nn.1 → a ≠ B + 26 → a ≠ ap → (vR (vI (vI (vI V nn.1 0 (z.2 3 (238 + 3 * p))) nn.1 1 (z.2 3 (238 + 3 * p + 1))) nn.1 2 (v)) ap ((p.toNat : Nat) : Int) (some nn.1)).1 a = V.1 a ∧ (vR (vI (vI (vI V nn.1 0 (z.2 3 (238 + 3 * p))) nn.1 1 (z.2 3 (238 + 3 * p + 1))) nn.1 2 (v)) ap ((p.toNat : Nat) : Int) (some nn.1)).2.1 a = V.2.1 a ∧ (vR (vI (vI (vI V nn.1 0 (z.2 3 (238 + 3 * p))) nn.1 1 (z.2 3 (238 + 3 * p + 1))) nn.1 2 (v)) ap ((p.toNat : Nat) : Int) (some nn.1)).2.2 a = V.2.2 a := fun a ha h1 h2 => ⟨hVP a (by omega), rfl, u2_a h2⟩
                  have hEs : ∀ i : Int, 0 ≤ i → i < (cp : Int) → ∀ y, (vR (vI (vI (vI V nn.1 0 (z.2 3 (238 + 3 * p))) nn.1 1 (z.2 3 (238 + 3 * p + 1))) nn.1 2 (v)) ap ((p.toNat : Nat) : Int) (some nn.1)).2.2 ap i = some y → y = nn.1 ∨ ∃ j : Int, (0 ≤ j ∧ j < (cp : Int)) ∧ V.2.2 ap j = some y := fun i i0 i1 y hy => by
                    have hy : u2 V.2.2 ap ((p.toNat : Nat) : Int) (some nn.1) ap i = some y := hy
                    by_cases e : i = ((p.toNat : Nat) : Int)
                    · subst e; rw [u2_s] at hy; exact Or.inl (Option.some.inj hy).symm
                    · rw [u2_n (Or.inr e)] at hy; exact Or.inr ⟨i, ⟨i0, i1⟩, hy⟩
                  have hx0 : (vR (vI (vI (vI V nn.1 0 (z.2 3 (238 + 3 * p))) nn.1 1 (z.2 3 (238 + 3 * p + 1))) nn.1 2 (v)) ap ((p.toNat : Nat) : Int) (some nn.1)).1 nn.1 0 = (za z 3 (238 + 3 * p + 1 + w) v).2 3 (238 + 3 * p) ∧ (vR (vI (vI (vI V nn.1 0 (z.2 3 (238 + 3 * p))) nn.1 1 (z.2 3 (238 + 3 * p + 1))) nn.1 2 (v)) ap ((p.toNat : Nat) : Int) (some nn.1)).1 nn.1 1 = (za z 3 (238 + 3 * p + 1 + w) v).2 3 (238 + 3 * p + 1) ∧ (vR (vI (vI (vI V nn.1 0 (z.2 3 (238 + 3 * p))) nn.1 1 (z.2 3 (238 + 3 * p + 1))) nn.1 2 (v)) ap ((p.toNat : Nat) : Int) (some nn.1)).1 nn.1 2 = (za z 3 (238 + 3 * p + 1 + w) v).2 3 (238 + 3 * p + 2) :=
                    ⟨((u2_n (Or.inr (by decide))).trans ((u2_n (Or.inr (by decide))).trans u2_s)).trans (zf3 (by omega)).symm, ((u2_n (Or.inr (by decide))).trans u2_s).trans (zf3 (by omega)).symm, u2_s.trans ew.symm⟩
                  have hRs := hR.setP (nn' := (nn.1 + 1, nn.2 + 3)) (A1 := ap) (c1 := cp) (p := p) (w := w) (v := v) (by assumption) (by omega) W hp1 hp2 ⟨av, al, cv, cl, gv, gl, hne, ⟨hv1, hv2⟩, hl1, hl2⟩ hlt q1 (Or.inl rfl) hVs hEs hxP hx0 (by show nn.1 < nn.1 + 1; omega)
                  obtain ⟨hB3, -, hcs, -⟩ := id hRs
                  have g1 : (vR (vI (vI (vI V nn.1 0 (z.2 3 (238 + 3 * p))) nn.1 1 (z.2 3 (238 + 3 * p + 1))) nn.1 2 (v)) ap ((p.toNat : Nat) : Int) (some nn.1)).1 (gp p.toNat) 1 = z.2 3 (238 + 3 * p + 1) := (congrFun (hVP _ (by omega)) 1).trans hpe.2.2.2.1
                  have g2 : (vR (vI (vI (vI V nn.1 0 (z.2 3 (238 + 3 * p))) nn.1 1 (z.2 3 (238 + 3 * p + 1))) nn.1 2 (v)) ap ((p.toNat : Nat) : Int) (some nn.1)).1 (gp p.toNat) 2 = z.2 3 (238 + 3 * p + 2) := (congrFun (hVP _ (by omega)) 2).trans hpe.2.2.2.2
                  refine TGo.pop dX0_put_147 rfl ?_
                  refine TGo.al0 dX0_put_148 rfl ?_
                  refine TGo.il2 dX0_put_149 rfl ?_
                  refine TGo.if_ne 161 dX0_put_150 (by decide) (by omega) (fun h150 => ?_) (fun h150 => ?_)
                  · refine TGo.al dX0_put_161 rfl ?_
                    refine TGo.getI (t := 19) 2 2 hPx rfl fgX0_219_11 dX0_put_163 rfl rfl rfl ?_
                    refine TGo.toz _ (g2) ?_
                    refine TGo.cS (csV1 (y2 := mX0_done) (t := 8) 1 rfl (hB1 0 (by decide)) rfl rfl dX0_put_166 q695 q697 qs3 okX0_done npX0_done rfl rfl) (kX0_done hB3 hcs) (fun v166 V166 h166 => ?_)
                    obtain ⟨rfl, hcd, hfd⟩ := h166
                    refine TGo.iret dX0_put_169 rfl ?_
                    first
                    | (exfalso; omega)
                    | (have e : zp_put z p w v = (z.2 3 (238 + 3 * p + 1 + w), zi (za z 3 (238 + 3 * p + 1 + w) v) 1 0) := by
                         unfold zp_put
                         rw [if_neg (by omega), if_neg (fun q => q (by assumption)), if_neg (by omega)]
                       rw [e]
                       refine ⟨?_, ⟨_, hRs.wr0 hfd hcd rfl rfl rfl⟩, ⟨by show nn.1 ≤ nn.1 + 1; omega, by show nn.1 + 1 ≤ nn.1 + 4000; omega⟩, by show nn.2 ≤ nn.2 + 3; omega, by show nn.2 + 3 ≤ nn.2 + 40000; omega⟩
                       first
                       | (rw [show 238 + 3 * p + 1 + w = 238 + 3 * p + 1 by omega])
                       | (rw [show 238 + 3 * p + 1 + w = 238 + 3 * p + 2 by omega]))
                  · refine TGo.al dX0_put_153 rfl ?_
                    refine TGo.getI (t := 19) 1 1 hPx rfl fgX0_222_11 dX0_put_155 rfl rfl rfl ?_
                    refine TGo.toz _ (g1) ?_
                    refine TGo.goto 166 dX0_put_158 (by decide) ?_
                    refine TGo.cS (csV1 (y2 := mX0_done) (t := 8) 1 rfl (hB1 0 (by decide)) rfl rfl dX0_put_166 q695 q697 qs3 okX0_done npX0_done rfl rfl) (kX0_done hB3 hcs) (fun v166 V166 h166 => ?_)
                    obtain ⟨rfl, hcd, hfd⟩ := h166
                    refine TGo.iret dX0_put_169 rfl ?_
                    first
                    | (exfalso; omega)
                    | (have e : zp_put z p w v = (z.2 3 (238 + 3 * p + 1 + w), zi (za z 3 (238 + 3 * p + 1 + w) v) 1 0) := by
                         unfold zp_put
                         rw [if_neg (by omega), if_neg (fun q => q (by assumption)), if_neg (by omega)]
                       rw [e]
                       refine ⟨?_, ⟨_, hRs.wr0 hfd hcd rfl rfl rfl⟩, ⟨by show nn.1 ≤ nn.1 + 1; omega, by show nn.1 + 1 ≤ nn.1 + 4000; omega⟩, by show nn.2 ≤ nn.2 + 3; omega, by show nn.2 + 3 ≤ nn.2 + 40000; omega⟩
                       first
                       | (rw [show 238 + 3 * p + 1 + w = 238 + 3 * p + 1 by omega])
                       | (rw [show 238 + 3 * p + 1 + w = 238 + 3 * p + 2 by omega]))
                · refine TGo.new (ci := 11) (N := 3) nwX0_148 dX0_put_105 rfl rfl (fun z105 e105 => ?_)
                  have hraw : va_up sh nn.1 (111, 0) nn.1 = (111, 0) := va_up_self _ _ _
                  have hw0 : w = 0 := by omega
                  have hPr : va_up sh nn.1 (111, 0) (gp p.toNat) = (19, 0) := (va_up_ne _ _ (by have := kn (gp p.toNat) (by rw [hpe.2.1]; show (19 : Nat) ≠ 0; decide); omega)).trans hpe.2.1
                  refine TGo.dup dX0_put_108 rfl ?_
                  refine TGo.al dX0_put_109 rfl ?_
                  refine TGo.getI (t := 19) 0 0 hPr rfl fgX0_216_11 dX0_put_111 rfl rfl rfl ?_
                  refine TGo.toz _ (hpe.2.2.1) ?_
                  refine TGo.il3 dX0_put_114 rfl ?_
                  refine TGo.al dX0_put_115 rfl ?_
                  refine TGo.getI (t := 19) 2 2 hPr rfl fgX0_219_11 dX0_put_117 rfl rfl rfl ?_
                  refine TGo.toz _ (hpe.2.2.2.2) ?_
                  refine TGo.callG (csI3 (y2 := mX11_init) 2 rfl dX0_put_120 q781 q782 rfl rfl okX11_init npX11_init rfl rfl) (kX11_init hraw) (fun o120 sh120 nn120 V120 e120 h120 => ?_)
                  obtain ⟨rfl, rfl, rfl, rfl⟩ := h120
                  have hB26 : B + 26 < nn.1 := kn _ (by rw [hB 26 (by decide)]; decide)
                  have hap : ap < nn.1 := kn ap (by rw [hp1.1.2.2.2.1]; show (5 : Nat) ≠ 0; decide)
                  have hpn : gp p.toNat < nn.1 := kn _ (by rw [hpe.2.1]; show (19 : Nat) ≠ 0; decide)
                  have hlt : ∀ a, a < nn.1 → (va_up (va_up sh nn.1 (111, 0)) nn.1 (19, 0)) a = sh a := fun a ha => (va_up_ne _ _ (by omega)).trans (va_up_ne _ _ (by omega))
                  have hxP : (va_up (va_up sh nn.1 (111, 0)) nn.1 (19, 0)) nn.1 = (19, 0) := va_up_self _ _ _
                  have hPx : (va_up (va_up sh nn.1 (111, 0)) nn.1 (19, 0)) (gp p.toNat) = (19, 0) := (hlt _ hpn).trans hpe.2.1
                  have hB1 : XSh B (va_up (va_up sh nn.1 (111, 0)) nn.1 (19, 0)) := fun i hi => (hlt _ (kn _ (by rw [hB i hi]; exact (xNz hi).2.1))).trans (hB i hi)
                  have hVP : ∀ a, a ≠ nn.1 → (vI (vI (vI V nn.1 0 (z.2 3 (238 + 3 * p))) nn.1 1 (v)) nn.1 2 (z.2 3 (238 + 3 * p + 2))).1 a = V.1 a := fun a ha => (u2_a ha).trans ((u2_a ha).trans (u2_a ha))
                  have hL1 : LiR (va_up (va_up sh nn.1 (111, 0)) nn.1 (19, 0)) (vI (vI (vI V nn.1 0 (z.2 3 (238 + 3 * p))) nn.1 1 (v)) nn.1 2 (z.2 3 (238 + 3 * p + 2))) (B + 26) ap cp (z.2 3 1).toNat gp := hp1.1.keep (fun a ha => hlt a (kn a ha)) (congrFun (hVP _ (by omega)) 2) rfl rfl
                  show TGo _ _ _ _ _ _ _ _ _ _
                  refine TGo.goto 144 dX0_put_123 (by decide) ?_
                  refine TGo.cW (csV2 (y2 := mJ2_set) (t := 20) 3 rfl (hB1 26 (by decide)) rfl rfl dX0_put_144 q819 q820 q821 okJ2_set npJ2_set rfl rfl) (kJ2_set hL1 (by omega) hxP rfl) ?_
                  have ew : (za z 3 (238 + 3 * p + 1 + w) v).2 3 (238 + 3 * p + 1) = v := by
                    have q := @zf3s z (238 + 3 * p + 1 + w) v
                    have e : 238 + 3 * p + 1 + w = 238 + 3 * p + 1 := by omega
                    rw [e] at q ⊢
                    exact q
                  have q1 := hL1.setp (k := p.toNat) (by omega) hxP rfl
                  have hVs : ∀ a, a < nn.1 → a ≠ B + 26 → a ≠ ap → (vR (vI (vI (vI V nn.1 0 (z.2 3 (238 + 3 * p))) nn.1 1 (v)) nn.1 2 (z.2 3 (238 + 3 * p + 2))) ap ((p.toNat : Nat) : Int) (some nn.1)).1 a = V.1 a ∧ (vR (vI (vI (vI V nn.1 0 (z.2 3 (238 + 3 * p))) nn.1 1 (v)) nn.1 2 (z.2 3 (238 + 3 * p + 2))) ap ((p.toNat : Nat) : Int) (some nn.1)).2.1 a = V.2.1 a ∧ (vR (vI (vI (vI V nn.1 0 (z.2 3 (238 + 3 * p))) nn.1 1 (v)) nn.1 2 (z.2 3 (238 + 3 * p + 2))) ap ((p.toNat : Nat) : Int) (some nn.1)).2.2 a = V.2.2 a := fun a ha h1 h2 => ⟨hVP a (by omega), rfl, u2_a h2⟩
                  have hEs : ∀ i : Int, 0 ≤ i → i < (cp : Int) → ∀ y, (vR (vI (vI (vI V nn.1 0 (z.2 3 (238 + 3 * p))) nn.1 1 (v)) nn.1 2 (z.2 3 (238 + 3 * p + 2))) ap ((p.toNat : Nat) : Int) (some nn.1)).2.2 ap i = some y → y = nn.1 ∨ ∃ j : Int, (0 ≤ j ∧ j < (cp : Int)) ∧ V.2.2 ap j = some y := fun i i0 i1 y hy => by
                    have hy : u2 V.2.2 ap ((p.toNat : Nat) : Int) (some nn.1) ap i = some y := hy
                    by_cases e : i = ((p.toNat : Nat) : Int)
                    · subst e; rw [u2_s] at hy; exact Or.inl (Option.some.inj hy).symm
                    · rw [u2_n (Or.inr e)] at hy; exact Or.inr ⟨i, ⟨i0, i1⟩, hy⟩
                  have hx0 : (vR (vI (vI (vI V nn.1 0 (z.2 3 (238 + 3 * p))) nn.1 1 (v)) nn.1 2 (z.2 3 (238 + 3 * p + 2))) ap ((p.toNat : Nat) : Int) (some nn.1)).1 nn.1 0 = (za z 3 (238 + 3 * p + 1 + w) v).2 3 (238 + 3 * p) ∧ (vR (vI (vI (vI V nn.1 0 (z.2 3 (238 + 3 * p))) nn.1 1 (v)) nn.1 2 (z.2 3 (238 + 3 * p + 2))) ap ((p.toNat : Nat) : Int) (some nn.1)).1 nn.1 1 = (za z 3 (238 + 3 * p + 1 + w) v).2 3 (238 + 3 * p + 1) ∧ (vR (vI (vI (vI V nn.1 0 (z.2 3 (238 + 3 * p))) nn.1 1 (v)) nn.1 2 (z.2 3 (238 + 3 * p + 2))) ap ((p.toNat : Nat) : Int) (some nn.1)).1 nn.1 2 = (za z 3 (238 + 3 * p + 1 + w) v).2 3 (238 + 3 * p + 2) :=
                    ⟨((u2_n (Or.inr (by decide))).trans ((u2_n (Or.inr (by decide))).trans u2_s)).trans (zf3 (by omega)).symm, ((u2_n (Or.inr (by decide))).trans u2_s).trans ew.symm, u2_s.trans (zf3 (by omega)).symm⟩
                  have hRs := hR.setP (nn' := (nn.1 + 1, nn.2 + 3)) (A1 := ap) (c1 := cp) (p := p) (w := w) (v := v) (by assumption) (by omega) W hp1 hp2 ⟨av, al, cv, cl, gv, gl, hne, ⟨hv1, hv2⟩, hl1, hl2⟩ hlt q1 (Or.inl rfl) hVs hEs hxP hx0 (by show nn.1 < nn.1 + 1; omega)
                  obtain ⟨hB3, -, hcs, -⟩ := id hRs
                  have g1 : (vR (vI (vI (vI V nn.1 0 (z.2 3 (238 + 3 * p))) nn.1 1 (v)) nn.1 2 (z.2 3 (238 + 3 * p + 2))) ap ((p.toNat : Nat) : Int) (some nn.1)).1 (gp p.toNat) 1 = z.2 3 (238 + 3 * p + 1) := (congrFun (hVP _ (by omega)) 1).trans hpe.2.2.2.1
                  have g2 : (vR (vI (vI (vI V nn.1 0 (z.2 3 (238 + 3 * p))) nn.1 1 (v)) nn.1 2 (z.2 3 (238 + 3 * p + 2))) ap ((p.toNat : Nat) : Int) (some nn.1)).1 (gp p.toNat) 2 = z.2 3 (238 + 3 * p + 2) := (congrFun (hVP _ (by omega)) 2).trans hpe.2.2.2.2
                  refine TGo.pop dX0_put_147 rfl ?_
                  refine TGo.al0 dX0_put_148 rfl ?_
                  refine TGo.il2 dX0_put_149 rfl ?_
                  refine TGo.if_ne 161 dX0_put_150 (by decide) (by omega) (fun h150 => ?_) (fun h150 => ?_)
                  · refine TGo.al dX0_put_161 rfl ?_
                    refine TGo.getI (t := 19) 2 2 hPx rfl fgX0_219_11 dX0_put_163 rfl rfl rfl ?_
                    refine TGo.toz _ (g2) ?_
                    refine TGo.cS (csV1 (y2 := mX0_done) (t := 8) 1 rfl (hB1 0 (by decide)) rfl rfl dX0_put_166 q695 q697 qs3 okX0_done npX0_done rfl rfl) (kX0_done hB3 hcs) (fun v166 V166 h166 => ?_)
                    obtain ⟨rfl, hcd, hfd⟩ := h166
                    refine TGo.iret dX0_put_169 rfl ?_
                    first
                    | (exfalso; omega)
                    | (have e : zp_put z p w v = (z.2 3 (238 + 3 * p + 1 + w), zi (za z 3 (238 + 3 * p + 1 + w) v) 1 0) := by
                         unfold zp_put
                         rw [if_neg (by omega), if_neg (fun q => q (by assumption)), if_neg (by omega)]
                       rw [e]
                       refine ⟨?_, ⟨_, hRs.wr0 hfd hcd rfl rfl rfl⟩, ⟨by show nn.1 ≤ nn.1 + 1; omega, by show nn.1 + 1 ≤ nn.1 + 4000; omega⟩, by show nn.2 ≤ nn.2 + 3; omega, by show nn.2 + 3 ≤ nn.2 + 40000; omega⟩
                       first
                       | (rw [show 238 + 3 * p + 1 + w = 238 + 3 * p + 1 by omega])
                       | (rw [show 238 + 3 * p + 1 + w = 238 + 3 * p + 2 by omega]))
                  · refine TGo.al dX0_put_153 rfl ?_
                    refine TGo.getI (t := 19) 1 1 hPx rfl fgX0_222_11 dX0_put_155 rfl rfl rfl ?_
                    refine TGo.toz _ (g1) ?_
                    refine TGo.goto 166 dX0_put_158 (by decide) ?_
                    refine TGo.cS (csV1 (y2 := mX0_done) (t := 8) 1 rfl (hB1 0 (by decide)) rfl rfl dX0_put_166 q695 q697 qs3 okX0_done npX0_done rfl rfl) (kX0_done hB3 hcs) (fun v166 V166 h166 => ?_)
                    obtain ⟨rfl, hcd, hfd⟩ := h166
                    refine TGo.iret dX0_put_169 rfl ?_
                    first
                    | (exfalso; omega)
                    | (have e : zp_put z p w v = (z.2 3 (238 + 3 * p + 1 + w), zi (za z 3 (238 + 3 * p + 1 + w) v) 1 0) := by
                         unfold zp_put
                         rw [if_neg (by omega), if_neg (fun q => q (by assumption)), if_neg (by omega)]
                       rw [e]
                       refine ⟨?_, ⟨_, hRs.wr0 hfd hcd rfl rfl rfl⟩, ⟨by show nn.1 ≤ nn.1 + 1; omega, by show nn.1 + 1 ≤ nn.1 + 4000; omega⟩, by show nn.2 ≤ nn.2 + 3; omega, by show nn.2 + 3 ≤ nn.2 + 40000; omega⟩
                       first
                       | (rw [show 238 + 3 * p + 1 + w = 238 + 3 * p + 1 by omega])
                       | (rw [show 238 + 3 * p + 1 + w = 238 + 3 * p + 2 by omega]))
              · refine TGo.al0 dX0_put_87 rfl ?_
                refine TGo.icm1 dX0_put_88 ?_
                refine TGo.cS (csV1 (y2 := mX0_refuse) (t := 8) 1 rfl (hB 0 (by decide)) rfl rfl dX0_put_89 q601 q603 qs1 okX0_refuse npX0_refuse rfl rfl) (kX0_refuse hB hc (by omega)) (fun v89 V89 h89 => ?_)
                obtain ⟨rfl, hc89, hf89⟩ := h89
                refine TGo.iret dX0_put_92 rfl ?_
                first
                | (exfalso; omega)
                | (refine hR.leaf W (FrX.rf.tr hf89) hc89 ((zTell_2 rfl).trans rfl) ((zTell_2 rfl).trans rfl) (StA.rf.tell) ?_
                   unfold zp_put
                   (repeat (first | rw [if_pos (by first | rfl | assumption | omega)] | rw [if_neg (by first | decide | assumption | omega)]))
                   (try first | rfl))
          · refine TGo.al0 dX0_put_51 rfl ?_
            refine TGo.bip (-2) dX0_put_52 (by decide) ?_
            refine TGo.cS (csV1 (y2 := mX0_refuse) (t := 8) 1 rfl (hB 0 (by decide)) rfl rfl dX0_put_54 q601 q603 qs1 okX0_refuse npX0_refuse rfl rfl) (kX0_refuse hB hc (by omega)) (fun v54 V54 h54 => ?_)
            obtain ⟨rfl, hc54, hf54⟩ := h54
            refine TGo.iret dX0_put_57 rfl ?_
            first
            | (exfalso; omega)
            | (refine hR.leaf W (FrX.rf.tr hf54) hc54 ((zTell_2 rfl).trans rfl) ((zTell_2 rfl).trans rfl) (StA.rf.tell) ?_
               unfold zp_put
               (repeat (first | rw [if_pos (by first | rfl | assumption | omega)] | rw [if_neg (by first | decide | assumption | omega)]))
               (try first | rfl))
        · refine TGo.al0 dX0_put_37 rfl ?_
          refine TGo.icm1 dX0_put_38 ?_
          refine TGo.cS (csV1 (y2 := mX0_refuse) (t := 8) 1 rfl (hB 0 (by decide)) rfl rfl dX0_put_39 q601 q603 qs1 okX0_refuse npX0_refuse rfl rfl) (kX0_refuse hB hc (by omega)) (fun v39 V39 h39 => ?_)
          obtain ⟨rfl, hc39, hf39⟩ := h39
          refine TGo.iret dX0_put_42 rfl ?_
          first
          | (exfalso; omega)
          | (refine hR.leaf W (FrX.rf.tr hf39) hc39 ((zTell_2 rfl).trans rfl) ((zTell_2 rfl).trans rfl) (StA.rf.tell) ?_
             unfold zp_put
             (repeat (first | rw [if_pos (by first | rfl | assumption | omega)] | rw [if_neg (by first | decide | assumption | omega)]))
             (try first | rfl))
    · refine TGo.ic0 dX0_put_14 ?_
      refine TGo.goto 19 dX0_put_15 (by decide) ?_
      refine TGo.il2 dX0_put_19 rfl ?_
      refine TGo.if_ne 29 dX0_put_20 (by decide) (by omega) (fun h20 => ?_) (fun h20 => ?_)
      · refine TGo.bip 9 dX0_put_29 (by decide) ?_
        refine TGo.cF (csS3 (y2 := mX0_in) 1 rfl dX0_put_31 q598 q599 okX0_in npX0_in rfl rfl) (kX0_in (by omega) (by omega) (by omega)) ?_
        refine TGo.ifb_ne 43 dX0_put_34 (by decide) (fun h34 => ?_) (fun h34 => ?_)
        · refine TGo.al0 dX0_put_43 rfl ?_
          refine TGo.il1 dX0_put_44 rfl ?_
          refine TGo.cF (csV1 (y2 := mX0_isPerson) (t := 8) 2 rfl (hB 0 (by decide)) rfl rfl dX0_put_45 q815 q817 qs7 okX0_isPerson npX0_isPerson rfl rfl) (kX0_isPerson hR W (by omega)) ?_
          refine TGo.ifb_ne 58 dX0_put_48 (by decide) (fun h48 => ?_) (fun h48 => ?_)
          · refine TGo.known (fun kn => ?_)
            have hpe := hPe (by assumption)
            have hpb := hPb (by assumption)
            refine TGo.al0 dX0_put_58 rfl ?_
            refine TGo.getS (t := 8) 2 2 (B + 2) (hB 0 (by decide)) rfl fgX0_16_0 dX0_put_59 rfl rfl rfl ?_
            refine TGo.getS (t := 9) 5 5 (B + 26) (hB 2 (by decide)) rfl fgX0_126_1 dX0_put_62 rfl rfl rfl ?_
            refine TGo.il1 dX0_put_65 rfl ?_
            refine TGo.toz ((p.toNat : Nat) : Int) (Int.toNat_of_nonneg (by omega)).symm ?_
            refine TGo.cF (csV1 (y2 := mJ2_get) (t := 20) 3 rfl (hB 26 (by decide)) rfl rfl dX0_put_66 q760 q761 q762 okJ2_get npJ2_get rfl rfl) (kJ2_get hp1.1 (k := p.toNat) (by omega)) ?_
            refine TGo.castO (t := 19) dX0_put_69 q779 (hPe (by assumption)).2.1 rfl rfl (Or.inl rfl) ?_
            refine TGo.as dX0_put_72 rfl rfl ?_
            refine TGo.il2 dX0_put_74 rfl ?_
            refine TGo.if_ne 93 dX0_put_75 (by decide) (by omega) (fun h75 => ?_) (fun h75 => ?_)
            · refine TGo.al0 dX0_put_93 rfl ?_
              refine TGo.getS (t := 8) 2 2 (B + 2) (hB 0 (by decide)) rfl fgX0_16_0 dX0_put_94 rfl rfl rfl ?_
              refine TGo.getS (t := 9) 5 5 (B + 26) (hB 2 (by decide)) rfl fgX0_126_1 dX0_put_97 rfl rfl rfl ?_
              refine TGo.il1 dX0_put_100 rfl ?_
              refine TGo.toz ((p.toNat : Nat) : Int) (Int.toNat_of_nonneg (by omega)).symm ?_
              refine TGo.il2 dX0_put_101 rfl ?_
              refine TGo.if_ne 126 dX0_put_102 (by decide) (by omega) (fun h102 => ?_) (fun h102 => ?_)
              · refine TGo.new (ci := 11) (N := 3) nwX0_148 dX0_put_126 rfl rfl (fun z126 e126 => ?_)
                have hraw : va_up sh nn.1 (111, 0) nn.1 = (111, 0) := va_up_self _ _ _
                have hw1 : w = 1 := by omega
                have hPr : va_up sh nn.1 (111, 0) (gp p.toNat) = (19, 0) := (va_up_ne _ _ (by have := kn (gp p.toNat) (by rw [hpe.2.1]; show (19 : Nat) ≠ 0; decide); omega)).trans hpe.2.1
                refine TGo.dup dX0_put_129 rfl ?_
                refine TGo.al dX0_put_130 rfl ?_
                refine TGo.getI (t := 19) 0 0 hPr rfl fgX0_216_11 dX0_put_132 rfl rfl rfl ?_
                refine TGo.toz _ (hpe.2.2.1) ?_
                refine TGo.al dX0_put_135 rfl ?_
                refine TGo.getI (t := 19) 1 1 hPr rfl fgX0_222_11 dX0_put_137 rfl rfl rfl ?_
                refine TGo.toz _ (hpe.2.2.2.1) ?_
                refine TGo.il3 dX0_put_140 rfl ?_
                refine TGo.callG (csI3 (y2 := mX11_init) 2 rfl dX0_put_141 q781 q782 rfl rfl okX11_init npX11_init rfl rfl) (kX11_init hraw) (fun o141 sh141 nn141 V141 e141 h141 => ?_)
                obtain ⟨rfl, rfl, rfl, rfl⟩ := h141
                have hB26 : B + 26 < nn.1 := kn _ (by rw [hB 26 (by decide)]; decide)
                have hap : ap < nn.1 := kn ap (by rw [hp1.1.2.2.2.1]; show (5 : Nat) ≠ 0; decide)
                have hpn : gp p.toNat < nn.1 := kn _ (by rw [hpe.2.1]; show (19 : Nat) ≠ 0; decide)
                have hlt : ∀ a, a < nn.1 → (va_up (va_up sh nn.1 (111, 0)) nn.1 (19, 0)) a = sh a := fun a ha => (va_up_ne _ _ (by omega)).trans (va_up_ne _ _ (by omega))
                have hxP : (va_up (va_up sh nn.1 (111, 0)) nn.1 (19, 0)) nn.1 = (19, 0) := va_up_self _ _ _
                have hPx : (va_up (va_up sh nn.1 (111, 0)) nn.1 (19, 0)) (gp p.toNat) = (19, 0) := (hlt _ hpn).trans hpe.2.1
                have hB1 : XSh B (va_up (va_up sh nn.1 (111, 0)) nn.1 (19, 0)) := fun i hi => (hlt _ (kn _ (by rw [hB i hi]; exact (xNz hi).2.1))).trans (hB i hi)
                have hVP : ∀ a, a ≠ nn.1 → (vI (vI (vI V nn.1 0 (z.2 3 (238 + 3 * p))) nn.1 1 (z.2 3 (238 + 3 * p + 1))) nn.1 2 (v)).1 a = V.1 a := fun a ha => (u2_a ha).trans ((u2_a ha).trans (u2_a ha))
                have hL1 : LiR (va_up (va_up sh nn.1 (111, 0)) nn.1 (19, 0)) (vI (vI (vI V nn.1 0 (z.2 3 (238 + 3 * p))) nn.1 1 (z.2 3 (238 + 3 * p + 1))) nn.1 2 (v)) (B + 26) ap cp (z.2 3 1).toNat gp := hp1.1.keep (fun a ha => hlt a (kn a ha)) (congrFun (hVP _ (by omega)) 2) rfl rfl
                show TGo _ _ _ _ _ _ _ _ _ _
                refine TGo.cW (csV2 (y2 := mJ2_set) (t := 20) 3 rfl (hB1 26 (by decide)) rfl rfl dX0_put_144 q819 q820 q821 okJ2_set npJ2_set rfl rfl) (kJ2_set hL1 (by omega) hxP rfl) ?_
                have ew : (za z 3 (238 + 3 * p + 1 + w) v).2 3 (238 + 3 * p + 2) = v := by
                  have q := @zf3s z (238 + 3 * p + 1 + w) v
                  have e : 238 + 3 * p + 1 + w = 238 + 3 * p + 2 := by omega
                  rw [e] at q ⊢
                  exact q
                have q1 := hL1.setp (k := p.toNat) (by omega) hxP rfl
                have hVs : ∀ a, a < nn.1 → a ≠ B + 26 → a ≠ ap → (vR (vI (vI (vI V nn.1 0 (z.2 3 (238 + 3 * p))) nn.1 1 (z.2 3 (238 + 3 * p + 1))) nn.1 2 (v)) ap ((p.toNat : Nat) : Int) (some nn.1)).1 a = V.1 a ∧ (vR (vI (vI (vI V nn.1 0 (z.2 3 (238 + 3 * p))) nn.1 1 (z.2 3 (238 + 3 * p + 1))) nn.1 2 (v)) ap ((p.toNat : Nat) : Int) (some nn.1)).2.1 a = V.2.1 a ∧ (vR (vI (vI (vI V nn.1 0 (z.2 3 (238 + 3 * p))) nn.1 1 (z.2 3 (238 + 3 * p + 1))) nn.1 2 (v)) ap ((p.toNat : Nat) : Int) (some nn.1)).2.2 a = V.2.2 a := fun a ha h1 h2 => ⟨hVP a (by omega), rfl, u2_a h2⟩
                have hEs : ∀ i : Int, 0 ≤ i → i < (cp : Int) → ∀ y, (vR (vI (vI (vI V nn.1 0 (z.2 3 (238 + 3 * p))) nn.1 1 (z.2 3 (238 + 3 * p + 1))) nn.1 2 (v)) ap ((p.toNat : Nat) : Int) (some nn.1)).2.2 ap i = some y → y = nn.1 ∨ ∃ j : Int, (0 ≤ j ∧ j < (cp : Int)) ∧ V.2.2 ap j = some y := fun i i0 i1 y hy => by
                  have hy : u2 V.2.2 ap ((p.toNat : Nat) : Int) (some nn.1) ap i = some y := hy
                  by_cases e : i = ((p.toNat : Nat) : Int)
                  · subst e; rw [u2_s] at hy; exact Or.inl (Option.some.inj hy).symm
                  · rw [u2_n (Or.inr e)] at hy; exact Or.inr ⟨i, ⟨i0, i1⟩, hy⟩
                have hx0 : (vR (vI (vI (vI V nn.1 0 (z.2 3 (238 + 3 * p))) nn.1 1 (z.2 3 (238 + 3 * p + 1))) nn.1 2 (v)) ap ((p.toNat : Nat) : Int) (some nn.1)).1 nn.1 0 = (za z 3 (238 + 3 * p + 1 + w) v).2 3 (238 + 3 * p) ∧ (vR (vI (vI (vI V nn.1 0 (z.2 3 (238 + 3 * p))) nn.1 1 (z.2 3 (238 + 3 * p + 1))) nn.1 2 (v)) ap ((p.toNat : Nat) : Int) (some nn.1)).1 nn.1 1 = (za z 3 (238 + 3 * p + 1 + w) v).2 3 (238 + 3 * p + 1) ∧ (vR (vI (vI (vI V nn.1 0 (z.2 3 (238 + 3 * p))) nn.1 1 (z.2 3 (238 + 3 * p + 1))) nn.1 2 (v)) ap ((p.toNat : Nat) : Int) (some nn.1)).1 nn.1 2 = (za z 3 (238 + 3 * p + 1 + w) v).2 3 (238 + 3 * p + 2) :=
                  ⟨((u2_n (Or.inr (by decide))).trans ((u2_n (Or.inr (by decide))).trans u2_s)).trans (zf3 (by omega)).symm, ((u2_n (Or.inr (by decide))).trans u2_s).trans (zf3 (by omega)).symm, u2_s.trans ew.symm⟩
                have hRs := hR.setP (nn' := (nn.1 + 1, nn.2 + 3)) (A1 := ap) (c1 := cp) (p := p) (w := w) (v := v) (by assumption) (by omega) W hp1 hp2 ⟨av, al, cv, cl, gv, gl, hne, ⟨hv1, hv2⟩, hl1, hl2⟩ hlt q1 (Or.inl rfl) hVs hEs hxP hx0 (by show nn.1 < nn.1 + 1; omega)
                obtain ⟨hB3, -, hcs, -⟩ := id hRs
                have g1 : (vR (vI (vI (vI V nn.1 0 (z.2 3 (238 + 3 * p))) nn.1 1 (z.2 3 (238 + 3 * p + 1))) nn.1 2 (v)) ap ((p.toNat : Nat) : Int) (some nn.1)).1 (gp p.toNat) 1 = z.2 3 (238 + 3 * p + 1) := (congrFun (hVP _ (by omega)) 1).trans hpe.2.2.2.1
                have g2 : (vR (vI (vI (vI V nn.1 0 (z.2 3 (238 + 3 * p))) nn.1 1 (z.2 3 (238 + 3 * p + 1))) nn.1 2 (v)) ap ((p.toNat : Nat) : Int) (some nn.1)).1 (gp p.toNat) 2 = z.2 3 (238 + 3 * p + 2) := (congrFun (hVP _ (by omega)) 2).trans hpe.2.2.2.2
                refine TGo.pop dX0_put_147 rfl ?_
                refine TGo.al0 dX0_put_148 rfl ?_
                refine TGo.il2 dX0_put_149 rfl ?_
                refine TGo.if_ne 161 dX0_put_150 (by decide) (by omega) (fun h150 => ?_) (fun h150 => ?_)
                · refine TGo.al dX0_put_161 rfl ?_
                  refine TGo.getI (t := 19) 2 2 hPx rfl fgX0_219_11 dX0_put_163 rfl rfl rfl ?_
                  refine TGo.toz _ (g2) ?_
                  refine TGo.cS (csV1 (y2 := mX0_done) (t := 8) 1 rfl (hB1 0 (by decide)) rfl rfl dX0_put_166 q695 q697 qs3 okX0_done npX0_done rfl rfl) (kX0_done hB3 hcs) (fun v166 V166 h166 => ?_)
                  obtain ⟨rfl, hcd, hfd⟩ := h166
                  refine TGo.iret dX0_put_169 rfl ?_
                  first
                  | (exfalso; omega)
                  | (have e : zp_put z p w v = (z.2 3 (238 + 3 * p + 1 + w), zi (za z 3 (238 + 3 * p + 1 + w) v) 1 0) := by
                       unfold zp_put
                       rw [if_neg (by omega), if_neg (fun q => q (by assumption)), if_neg (by omega)]
                     rw [e]
                     refine ⟨?_, ⟨_, hRs.wr0 hfd hcd rfl rfl rfl⟩, ⟨by show nn.1 ≤ nn.1 + 1; omega, by show nn.1 + 1 ≤ nn.1 + 4000; omega⟩, by show nn.2 ≤ nn.2 + 3; omega, by show nn.2 + 3 ≤ nn.2 + 40000; omega⟩
                     first
                     | (rw [show 238 + 3 * p + 1 + w = 238 + 3 * p + 1 by omega])
                     | (rw [show 238 + 3 * p + 1 + w = 238 + 3 * p + 2 by omega]))
                · refine TGo.al dX0_put_153 rfl ?_
                  refine TGo.getI (t := 19) 1 1 hPx rfl fgX0_222_11 dX0_put_155 rfl rfl rfl ?_
                  refine TGo.toz _ (g1) ?_
                  refine TGo.goto 166 dX0_put_158 (by decide) ?_
                  refine TGo.cS (csV1 (y2 := mX0_done) (t := 8) 1 rfl (hB1 0 (by decide)) rfl rfl dX0_put_166 q695 q697 qs3 okX0_done npX0_done rfl rfl) (kX0_done hB3 hcs) (fun v166 V166 h166 => ?_)
                  obtain ⟨rfl, hcd, hfd⟩ := h166
                  refine TGo.iret dX0_put_169 rfl ?_
                  first
                  | (exfalso; omega)
                  | (have e : zp_put z p w v = (z.2 3 (238 + 3 * p + 1 + w), zi (za z 3 (238 + 3 * p + 1 + w) v) 1 0) := by
                       unfold zp_put
                       rw [if_neg (by omega), if_neg (fun q => q (by assumption)), if_neg (by omega)]
                     rw [e]
                     refine ⟨?_, ⟨_, hRs.wr0 hfd hcd rfl rfl rfl⟩, ⟨by show nn.1 ≤ nn.1 + 1; omega, by show nn.1 + 1 ≤ nn.1 + 4000; omega⟩, by show nn.2 ≤ nn.2 + 3; omega, by show nn.2 + 3 ≤ nn.2 + 40000; omega⟩
                     first
                     | (rw [show 238 + 3 * p + 1 + w = 238 + 3 * p + 1 by omega])
                     | (rw [show 238 + 3 * p + 1 + w = 238 + 3 * p + 2 by omega]))
              · refine TGo.new (ci := 11) (N := 3) nwX0_148 dX0_put_105 rfl rfl (fun z105 e105 => ?_)
                have hraw : va_up sh nn.1 (111, 0) nn.1 = (111, 0) := va_up_self _ _ _
                have hw0 : w = 0 := by omega
                have hPr : va_up sh nn.1 (111, 0) (gp p.toNat) = (19, 0) := (va_up_ne _ _ (by have := kn (gp p.toNat) (by rw [hpe.2.1]; show (19 : Nat) ≠ 0; decide); omega)).trans hpe.2.1
                refine TGo.dup dX0_put_108 rfl ?_
                refine TGo.al dX0_put_109 rfl ?_
                refine TGo.getI (t := 19) 0 0 hPr rfl fgX0_216_11 dX0_put_111 rfl rfl rfl ?_
                refine TGo.toz _ (hpe.2.2.1) ?_
                refine TGo.il3 dX0_put_114 rfl ?_
                refine TGo.al dX0_put_115 rfl ?_
                refine TGo.getI (t := 19) 2 2 hPr rfl fgX0_219_11 dX0_put_117 rfl rfl rfl ?_
                refine TGo.toz _ (hpe.2.2.2.2) ?_
                refine TGo.callG (csI3 (y2 := mX11_init) 2 rfl dX0_put_120 q781 q782 rfl rfl okX11_init npX11_init rfl rfl) (kX11_init hraw) (fun o120 sh120 nn120 V120 e120 h120 => ?_)
                obtain ⟨rfl, rfl, rfl, rfl⟩ := h120
                have hB26 : B + 26 < nn.1 := kn _ (by rw [hB 26 (by decide)]; decide)
                have hap : ap < nn.1 := kn ap (by rw [hp1.1.2.2.2.1]; show (5 : Nat) ≠ 0; decide)
                have hpn : gp p.toNat < nn.1 := kn _ (by rw [hpe.2.1]; show (19 : Nat) ≠ 0; decide)
                have hlt : ∀ a, a < nn.1 → (va_up (va_up sh nn.1 (111, 0)) nn.1 (19, 0)) a = sh a := fun a ha => (va_up_ne _ _ (by omega)).trans (va_up_ne _ _ (by omega))
                have hxP : (va_up (va_up sh nn.1 (111, 0)) nn.1 (19, 0)) nn.1 = (19, 0) := va_up_self _ _ _
                have hPx : (va_up (va_up sh nn.1 (111, 0)) nn.1 (19, 0)) (gp p.toNat) = (19, 0) := (hlt _ hpn).trans hpe.2.1
                have hB1 : XSh B (va_up (va_up sh nn.1 (111, 0)) nn.1 (19, 0)) := fun i hi => (hlt _ (kn _ (by rw [hB i hi]; exact (xNz hi).2.1))).trans (hB i hi)
                have hVP : ∀ a, a ≠ nn.1 → (vI (vI (vI V nn.1 0 (z.2 3 (238 + 3 * p))) nn.1 1 (v)) nn.1 2 (z.2 3 (238 + 3 * p + 2))).1 a = V.1 a := fun a ha => (u2_a ha).trans ((u2_a ha).trans (u2_a ha))
                have hL1 : LiR (va_up (va_up sh nn.1 (111, 0)) nn.1 (19, 0)) (vI (vI (vI V nn.1 0 (z.2 3 (238 + 3 * p))) nn.1 1 (v)) nn.1 2 (z.2 3 (238 + 3 * p + 2))) (B + 26) ap cp (z.2 3 1).toNat gp := hp1.1.keep (fun a ha => hlt a (kn a ha)) (congrFun (hVP _ (by omega)) 2) rfl rfl
                show TGo _ _ _ _ _ _ _ _ _ _
                refine TGo.goto 144 dX0_put_123 (by decide) ?_
                refine TGo.cW (csV2 (y2 := mJ2_set) (t := 20) 3 rfl (hB1 26 (by decide)) rfl rfl dX0_put_144 q819 q820 q821 okJ2_set npJ2_set rfl rfl) (kJ2_set hL1 (by omega) hxP rfl) ?_
                have ew : (za z 3 (238 + 3 * p + 1 + w) v).2 3 (238 + 3 * p + 1) = v := by
                  have q := @zf3s z (238 + 3 * p + 1 + w) v
                  have e : 238 + 3 * p + 1 + w = 238 + 3 * p + 1 := by omega
                  rw [e] at q ⊢
                  exact q
                have q1 := hL1.setp (k := p.toNat) (by omega) hxP rfl
                have hVs : ∀ a, a < nn.1 → a ≠ B + 26 → a ≠ ap → (vR (vI (vI (vI V nn.1 0 (z.2 3 (238 + 3 * p))) nn.1 1 (v)) nn.1 2 (z.2 3 (238 + 3 * p + 2))) ap ((p.toNat : Nat) : Int) (some nn.1)).1 a = V.1 a ∧ (vR (vI (vI (vI V nn.1 0 (z.2 3 (238 + 3 * p))) nn.1 1 (v)) nn.1 2 (z.2 3 (238 + 3 * p + 2))) ap ((p.toNat : Nat) : Int) (some nn.1)).2.1 a = V.2.1 a ∧ (vR (vI (vI (vI V nn.1 0 (z.2 3 (238 + 3 * p))) nn.1 1 (v)) nn.1 2 (z.2 3 (238 + 3 * p + 2))) ap ((p.toNat : Nat) : Int) (some nn.1)).2.2 a = V.2.2 a := fun a ha h1 h2 => ⟨hVP a (by omega), rfl, u2_a h2⟩
                have hEs : ∀ i : Int, 0 ≤ i → i < (cp : Int) → ∀ y, (vR (vI (vI (vI V nn.1 0 (z.2 3 (238 + 3 * p))) nn.1 1 (v)) nn.1 2 (z.2 3 (238 + 3 * p + 2))) ap ((p.toNat : Nat) : Int) (some nn.1)).2.2 ap i = some y → y = nn.1 ∨ ∃ j : Int, (0 ≤ j ∧ j < (cp : Int)) ∧ V.2.2 ap j = some y := fun i i0 i1 y hy => by
                  have hy : u2 V.2.2 ap ((p.toNat : Nat) : Int) (some nn.1) ap i = some y := hy
                  by_cases e : i = ((p.toNat : Nat) : Int)
                  · subst e; rw [u2_s] at hy; exact Or.inl (Option.some.inj hy).symm
                  · rw [u2_n (Or.inr e)] at hy; exact Or.inr ⟨i, ⟨i0, i1⟩, hy⟩
                have hx0 : (vR (vI (vI (vI V nn.1 0 (z.2 3 (238 + 3 * p))) nn.1 1 (v)) nn.1 2 (z.2 3 (238 + 3 * p + 2))) ap ((p.toNat : Nat) : Int) (some nn.1)).1 nn.1 0 = (za z 3 (238 + 3 * p + 1 + w) v).2 3 (238 + 3 * p) ∧ (vR (vI (vI (vI V nn.1 0 (z.2 3 (238 + 3 * p))) nn.1 1 (v)) nn.1 2 (z.2 3 (238 + 3 * p + 2))) ap ((p.toNat : Nat) : Int) (some nn.1)).1 nn.1 1 = (za z 3 (238 + 3 * p + 1 + w) v).2 3 (238 + 3 * p + 1) ∧ (vR (vI (vI (vI V nn.1 0 (z.2 3 (238 + 3 * p))) nn.1 1 (v)) nn.1 2 (z.2 3 (238 + 3 * p + 2))) ap ((p.toNat : Nat) : Int) (some nn.1)).1 nn.1 2 = (za z 3 (238 + 3 * p + 1 + w) v).2 3 (238 + 3 * p + 2) :=
                  ⟨((u2_n (Or.inr (by decide))).trans ((u2_n (Or.inr (by decide))).trans u2_s)).trans (zf3 (by omega)).symm, ((u2_n (Or.inr (by decide))).trans u2_s).trans ew.symm, u2_s.trans (zf3 (by omega)).symm⟩
                have hRs := hR.setP (nn' := (nn.1 + 1, nn.2 + 3)) (A1 := ap) (c1 := cp) (p := p) (w := w) (v := v) (by assumption) (by omega) W hp1 hp2 ⟨av, al, cv, cl, gv, gl, hne, ⟨hv1, hv2⟩, hl1, hl2⟩ hlt q1 (Or.inl rfl) hVs hEs hxP hx0 (by show nn.1 < nn.1 + 1; omega)
                obtain ⟨hB3, -, hcs, -⟩ := id hRs
                have g1 : (vR (vI (vI (vI V nn.1 0 (z.2 3 (238 + 3 * p))) nn.1 1 (v)) nn.1 2 (z.2 3 (238 + 3 * p + 2))) ap ((p.toNat : Nat) : Int) (some nn.1)).1 (gp p.toNat) 1 = z.2 3 (238 + 3 * p + 1) := (congrFun (hVP _ (by omega)) 1).trans hpe.2.2.2.1
                have g2 : (vR (vI (vI (vI V nn.1 0 (z.2 3 (238 + 3 * p))) nn.1 1 (v)) nn.1 2 (z.2 3 (238 + 3 * p + 2))) ap ((p.toNat : Nat) : Int) (some nn.1)).1 (gp p.toNat) 2 = z.2 3 (238 + 3 * p + 2) := (congrFun (hVP _ (by omega)) 2).trans hpe.2.2.2.2
                refine TGo.pop dX0_put_147 rfl ?_
                refine TGo.al0 dX0_put_148 rfl ?_
                refine TGo.il2 dX0_put_149 rfl ?_
                refine TGo.if_ne 161 dX0_put_150 (by decide) (by omega) (fun h150 => ?_) (fun h150 => ?_)
                · refine TGo.al dX0_put_161 rfl ?_
                  refine TGo.getI (t := 19) 2 2 hPx rfl fgX0_219_11 dX0_put_163 rfl rfl rfl ?_
                  refine TGo.toz _ (g2) ?_
                  refine TGo.cS (csV1 (y2 := mX0_done) (t := 8) 1 rfl (hB1 0 (by decide)) rfl rfl dX0_put_166 q695 q697 qs3 okX0_done npX0_done rfl rfl) (kX0_done hB3 hcs) (fun v166 V166 h166 => ?_)
                  obtain ⟨rfl, hcd, hfd⟩ := h166
                  refine TGo.iret dX0_put_169 rfl ?_
                  first
                  | (exfalso; omega)
                  | (have e : zp_put z p w v = (z.2 3 (238 + 3 * p + 1 + w), zi (za z 3 (238 + 3 * p + 1 + w) v) 1 0) := by
                       unfold zp_put
                       rw [if_neg (by omega), if_neg (fun q => q (by assumption)), if_neg (by omega)]
                     rw [e]
                     refine ⟨?_, ⟨_, hRs.wr0 hfd hcd rfl rfl rfl⟩, ⟨by show nn.1 ≤ nn.1 + 1; omega, by show nn.1 + 1 ≤ nn.1 + 4000; omega⟩, by show nn.2 ≤ nn.2 + 3; omega, by show nn.2 + 3 ≤ nn.2 + 40000; omega⟩
                     first
                     | (rw [show 238 + 3 * p + 1 + w = 238 + 3 * p + 1 by omega])
                     | (rw [show 238 + 3 * p + 1 + w = 238 + 3 * p + 2 by omega]))
                · refine TGo.al dX0_put_153 rfl ?_
                  refine TGo.getI (t := 19) 1 1 hPx rfl fgX0_222_11 dX0_put_155 rfl rfl rfl ?_
                  refine TGo.toz _ (g1) ?_
                  refine TGo.goto 166 dX0_put_158 (by decide) ?_
                  refine TGo.cS (csV1 (y2 := mX0_done) (t := 8) 1 rfl (hB1 0 (by decide)) rfl rfl dX0_put_166 q695 q697 qs3 okX0_done npX0_done rfl rfl) (kX0_done hB3 hcs) (fun v166 V166 h166 => ?_)
                  obtain ⟨rfl, hcd, hfd⟩ := h166
                  refine TGo.iret dX0_put_169 rfl ?_
                  first
                  | (exfalso; omega)
                  | (have e : zp_put z p w v = (z.2 3 (238 + 3 * p + 1 + w), zi (za z 3 (238 + 3 * p + 1 + w) v) 1 0) := by
                       unfold zp_put
                       rw [if_neg (by omega), if_neg (fun q => q (by assumption)), if_neg (by omega)]
                     rw [e]
                     refine ⟨?_, ⟨_, hRs.wr0 hfd hcd rfl rfl rfl⟩, ⟨by show nn.1 ≤ nn.1 + 1; omega, by show nn.1 + 1 ≤ nn.1 + 4000; omega⟩, by show nn.2 ≤ nn.2 + 3; omega, by show nn.2 + 3 ≤ nn.2 + 40000; omega⟩
                     first
                     | (rw [show 238 + 3 * p + 1 + w = 238 + 3 * p + 1 by omega])
                     | (rw [show 238 + 3 * p + 1 + w = 238 + 3 * p + 2 by omega]))
            · refine TGo.il3 dX0_put_78 rfl ?_
              refine TGo.al dX0_put_79 rfl ?_
              refine TGo.getI (t := 19) 0 0 (hPe (by assumption)).2.1 rfl fgX0_216_11 dX0_put_81 rfl rfl rfl ?_
              refine TGo.toz _ (hpe.2.2.1) ?_
              refine TGo.icmp_gt 93 dX0_put_84 (by decide) (by omega) (fun h84 => ?_) (fun h84 => ?_)
              · refine TGo.al0 dX0_put_93 rfl ?_
                refine TGo.getS (t := 8) 2 2 (B + 2) (hB 0 (by decide)) rfl fgX0_16_0 dX0_put_94 rfl rfl rfl ?_
                refine TGo.getS (t := 9) 5 5 (B + 26) (hB 2 (by decide)) rfl fgX0_126_1 dX0_put_97 rfl rfl rfl ?_
                refine TGo.il1 dX0_put_100 rfl ?_
                refine TGo.toz ((p.toNat : Nat) : Int) (Int.toNat_of_nonneg (by omega)).symm ?_
                refine TGo.il2 dX0_put_101 rfl ?_
                refine TGo.if_ne 126 dX0_put_102 (by decide) (by omega) (fun h102 => ?_) (fun h102 => ?_)
                · refine TGo.new (ci := 11) (N := 3) nwX0_148 dX0_put_126 rfl rfl (fun z126 e126 => ?_)
                  have hraw : va_up sh nn.1 (111, 0) nn.1 = (111, 0) := va_up_self _ _ _
                  have hw1 : w = 1 := by omega
                  have hPr : va_up sh nn.1 (111, 0) (gp p.toNat) = (19, 0) := (va_up_ne _ _ (by have := kn (gp p.toNat) (by rw [hpe.2.1]; show (19 : Nat) ≠ 0; decide); omega)).trans hpe.2.1
                  refine TGo.dup dX0_put_129 rfl ?_
                  refine TGo.al dX0_put_130 rfl ?_
                  refine TGo.getI (t := 19) 0 0 hPr rfl fgX0_216_11 dX0_put_132 rfl rfl rfl ?_
                  refine TGo.toz _ (hpe.2.2.1) ?_
                  refine TGo.al dX0_put_135 rfl ?_
                  refine TGo.getI (t := 19) 1 1 hPr rfl fgX0_222_11 dX0_put_137 rfl rfl rfl ?_
                  refine TGo.toz _ (hpe.2.2.2.1) ?_
                  refine TGo.il3 dX0_put_140 rfl ?_
                  refine TGo.callG (csI3 (y2 := mX11_init) 2 rfl dX0_put_141 q781 q782 rfl rfl okX11_init npX11_init rfl rfl) (kX11_init hraw) (fun o141 sh141 nn141 V141 e141 h141 => ?_)
                  obtain ⟨rfl, rfl, rfl, rfl⟩ := h141
                  have hB26 : B + 26 < nn.1 := kn _ (by rw [hB 26 (by decide)]; decide)
                  have hap : ap < nn.1 := kn ap (by rw [hp1.1.2.2.2.1]; show (5 : Nat) ≠ 0; decide)
                  have hpn : gp p.toNat < nn.1 := kn _ (by rw [hpe.2.1]; show (19 : Nat) ≠ 0; decide)
                  have hlt : ∀ a, a < nn.1 → (va_up (va_up sh nn.1 (111, 0)) nn.1 (19, 0)) a = sh a := fun a ha => (va_up_ne _ _ (by omega)).trans (va_up_ne _ _ (by omega))
                  have hxP : (va_up (va_up sh nn.1 (111, 0)) nn.1 (19, 0)) nn.1 = (19, 0) := va_up_self _ _ _
                  have hPx : (va_up (va_up sh nn.1 (111, 0)) nn.1 (19, 0)) (gp p.toNat) = (19, 0) := (hlt _ hpn).trans hpe.2.1
                  have hB1 : XSh B (va_up (va_up sh nn.1 (111, 0)) nn.1 (19, 0)) := fun i hi => (hlt _ (kn _ (by rw [hB i hi]; exact (xNz hi).2.1))).trans (hB i hi)
                  have hVP : ∀ a, a ≠ nn.1 → (vI (vI (vI V nn.1 0 (z.2 3 (238 + 3 * p))) nn.1 1 (z.2 3 (238 + 3 * p + 1))) nn.1 2 (v)).1 a = V.1 a := fun a ha => (u2_a ha).trans ((u2_a ha).trans (u2_a ha))
                  have hL1 : LiR (va_up (va_up sh nn.1 (111, 0)) nn.1 (19, 0)) (vI (vI (vI V nn.1 0 (z.2 3 (238 + 3 * p))) nn.1 1 (z.2 3 (238 + 3 * p + 1))) nn.1 2 (v)) (B + 26) ap cp (z.2 3 1).toNat gp := hp1.1.keep (fun a ha => hlt a (kn a ha)) (congrFun (hVP _ (by omega)) 2) rfl rfl
                  show TGo _ _ _ _ _ _ _ _ _ _
                  refine TGo.cW (csV2 (y2 := mJ2_set) (t := 20) 3 rfl (hB1 26 (by decide)) rfl rfl dX0_put_144 q819 q820 q821 okJ2_set npJ2_set rfl rfl) (kJ2_set hL1 (by omega) hxP rfl) ?_
                  have ew : (za z 3 (238 + 3 * p + 1 + w) v).2 3 (238 + 3 * p + 2) = v := by
                    have q := @zf3s z (238 + 3 * p + 1 + w) v
                    have e : 238 + 3 * p + 1 + w = 238 + 3 * p + 2 := by omega
                    rw [e] at q ⊢
                    exact q
                  have q1 := hL1.setp (k := p.toNat) (by omega) hxP rfl
                  have hVs : ∀ a, a < nn.1 → a ≠ B + 26 → a ≠ ap → (vR (vI (vI (vI V nn.1 0 (z.2 3 (238 + 3 * p))) nn.1 1 (z.2 3 (238 + 3 * p + 1))) nn.1 2 (v)) ap ((p.toNat : Nat) : Int) (some nn.1)).1 a = V.1 a ∧ (vR (vI (vI (vI V nn.1 0 (z.2 3 (238 + 3 * p))) nn.1 1 (z.2 3 (238 + 3 * p + 1))) nn.1 2 (v)) ap ((p.toNat : Nat) : Int) (some nn.1)).2.1 a = V.2.1 a ∧ (vR (vI (vI (vI V nn.1 0 (z.2 3 (238 + 3 * p))) nn.1 1 (z.2 3 (238 + 3 * p + 1))) nn.1 2 (v)) ap ((p.toNat : Nat) : Int) (some nn.1)).2.2 a = V.2.2 a := fun a ha h1 h2 => ⟨hVP a (by omega), rfl, u2_a h2⟩
                  have hEs : ∀ i : Int, 0 ≤ i → i < (cp : Int) → ∀ y, (vR (vI (vI (vI V nn.1 0 (z.2 3 (238 + 3 * p))) nn.1 1 (z.2 3 (238 + 3 * p + 1))) nn.1 2 (v)) ap ((p.toNat : Nat) : Int) (some nn.1)).2.2 ap i = some y → y = nn.1 ∨ ∃ j : Int, (0 ≤ j ∧ j < (cp : Int)) ∧ V.2.2 ap j = some y := fun i i0 i1 y hy => by
                    have hy : u2 V.2.2 ap ((p.toNat : Nat) : Int) (some nn.1) ap i = some y := hy
                    by_cases e : i = ((p.toNat : Nat) : Int)
                    · subst e; rw [u2_s] at hy; exact Or.inl (Option.some.inj hy).symm
                    · rw [u2_n (Or.inr e)] at hy; exact Or.inr ⟨i, ⟨i0, i1⟩, hy⟩
                  have hx0 : (vR (vI (vI (vI V nn.1 0 (z.2 3 (238 + 3 * p))) nn.1 1 (z.2 3 (238 + 3 * p + 1))) nn.1 2 (v)) ap ((p.toNat : Nat) : Int) (some nn.1)).1 nn.1 0 = (za z 3 (238 + 3 * p + 1 + w) v).2 3 (238 + 3 * p) ∧ (vR (vI (vI (vI V nn.1 0 (z.2 3 (238 + 3 * p))) nn.1 1 (z.2 3 (238 + 3 * p + 1))) nn.1 2 (v)) ap ((p.toNat : Nat) : Int) (some nn.1)).1 nn.1 1 = (za z 3 (238 + 3 * p + 1 + w) v).2 3 (238 + 3 * p + 1) ∧ (vR (vI (vI (vI V nn.1 0 (z.2 3 (238 + 3 * p))) nn.1 1 (z.2 3 (238 + 3 * p + 1))) nn.1 2 (v)) ap ((p.toNat : Nat) : Int) (some nn.1)).1 nn.1 2 = (za z 3 (238 + 3 * p + 1 + w) v).2 3 (238 + 3 * p + 2) :=
                    ⟨((u2_n (Or.inr (by decide))).trans ((u2_n (Or.inr (by decide))).trans u2_s)).trans (zf3 (by omega)).symm, ((u2_n (Or.inr (by decide))).trans u2_s).trans (zf3 (by omega)).symm, u2_s.trans ew.symm⟩
                  have hRs := hR.setP (nn' := (nn.1 + 1, nn.2 + 3)) (A1 := ap) (c1 := cp) (p := p) (w := w) (v := v) (by assumption) (by omega) W hp1 hp2 ⟨av, al, cv, cl, gv, gl, hne, ⟨hv1, hv2⟩, hl1, hl2⟩ hlt q1 (Or.inl rfl) hVs hEs hxP hx0 (by show nn.1 < nn.1 + 1; omega)
                  obtain ⟨hB3, -, hcs, -⟩ := id hRs
                  have g1 : (vR (vI (vI (vI V nn.1 0 (z.2 3 (238 + 3 * p))) nn.1 1 (z.2 3 (238 + 3 * p + 1))) nn.1 2 (v)) ap ((p.toNat : Nat) : Int) (some nn.1)).1 (gp p.toNat) 1 = z.2 3 (238 + 3 * p + 1) := (congrFun (hVP _ (by omega)) 1).trans hpe.2.2.2.1
                  have g2 : (vR (vI (vI (vI V nn.1 0 (z.2 3 (238 + 3 * p))) nn.1 1 (z.2 3 (238 + 3 * p + 1))) nn.1 2 (v)) ap ((p.toNat : Nat) : Int) (some nn.1)).1 (gp p.toNat) 2 = z.2 3 (238 + 3 * p + 2) := (congrFun (hVP _ (by omega)) 2).trans hpe.2.2.2.2
                  refine TGo.pop dX0_put_147 rfl ?_
                  refine TGo.al0 dX0_put_148 rfl ?_
                  refine TGo.il2 dX0_put_149 rfl ?_
                  refine TGo.if_ne 161 dX0_put_150 (by decide) (by omega) (fun h150 => ?_) (fun h150 => ?_)
                  · refine TGo.al dX0_put_161 rfl ?_
                    refine TGo.getI (t := 19) 2 2 hPx rfl fgX0_219_11 dX0_put_163 rfl rfl rfl ?_
                    refine TGo.toz _ (g2) ?_
                    refine TGo.cS (csV1 (y2 := mX0_done) (t := 8) 1 rfl (hB1 0 (by decide)) rfl rfl dX0_put_166 q695 q697 qs3 okX0_done npX0_done rfl rfl) (kX0_done hB3 hcs) (fun v166 V166 h166 => ?_)
                    obtain ⟨rfl, hcd, hfd⟩ := h166
                    refine TGo.iret dX0_put_169 rfl ?_
                    first
                    | (exfalso; omega)
                    | (have e : zp_put z p w v = (z.2 3 (238 + 3 * p + 1 + w), zi (za z 3 (238 + 3 * p + 1 + w) v) 1 0) := by
                         unfold zp_put
                         rw [if_neg (by omega), if_neg (fun q => q (by assumption)), if_neg (by omega)]
                       rw [e]
                       refine ⟨?_, ⟨_, hRs.wr0 hfd hcd rfl rfl rfl⟩, ⟨by show nn.1 ≤ nn.1 + 1; omega, by show nn.1 + 1 ≤ nn.1 + 4000; omega⟩, by show nn.2 ≤ nn.2 + 3; omega, by show nn.2 + 3 ≤ nn.2 + 40000; omega⟩
                       first
                       | (rw [show 238 + 3 * p + 1 + w = 238 + 3 * p + 1 by omega])
                       | (rw [show 238 + 3 * p + 1 + w = 238 + 3 * p + 2 by omega]))
                  · refine TGo.al dX0_put_153 rfl ?_
                    refine TGo.getI (t := 19) 1 1 hPx rfl fgX0_222_11 dX0_put_155 rfl rfl rfl ?_
                    refine TGo.toz _ (g1) ?_
                    refine TGo.goto 166 dX0_put_158 (by decide) ?_
                    refine TGo.cS (csV1 (y2 := mX0_done) (t := 8) 1 rfl (hB1 0 (by decide)) rfl rfl dX0_put_166 q695 q697 qs3 okX0_done npX0_done rfl rfl) (kX0_done hB3 hcs) (fun v166 V166 h166 => ?_)
                    obtain ⟨rfl, hcd, hfd⟩ := h166
                    refine TGo.iret dX0_put_169 rfl ?_
                    first
                    | (exfalso; omega)
                    | (have e : zp_put z p w v = (z.2 3 (238 + 3 * p + 1 + w), zi (za z 3 (238 + 3 * p + 1 + w) v) 1 0) := by
                         unfold zp_put
                         rw [if_neg (by omega), if_neg (fun q => q (by assumption)), if_neg (by omega)]
                       rw [e]
                       refine ⟨?_, ⟨_, hRs.wr0 hfd hcd rfl rfl rfl⟩, ⟨by show nn.1 ≤ nn.1 + 1; omega, by show nn.1 + 1 ≤ nn.1 + 4000; omega⟩, by show nn.2 ≤ nn.2 + 3; omega, by show nn.2 + 3 ≤ nn.2 + 40000; omega⟩
                       first
                       | (rw [show 238 + 3 * p + 1 + w = 238 + 3 * p + 1 by omega])
                       | (rw [show 238 + 3 * p + 1 + w = 238 + 3 * p + 2 by omega]))
                · refine TGo.new (ci := 11) (N := 3) nwX0_148 dX0_put_105 rfl rfl (fun z105 e105 => ?_)
                  have hraw : va_up sh nn.1 (111, 0) nn.1 = (111, 0) := va_up_self _ _ _
                  have hw0 : w = 0 := by omega
                  have hPr : va_up sh nn.1 (111, 0) (gp p.toNat) = (19, 0) := (va_up_ne _ _ (by have := kn (gp p.toNat) (by rw [hpe.2.1]; show (19 : Nat) ≠ 0; decide); omega)).trans hpe.2.1
                  refine TGo.dup dX0_put_108 rfl ?_
                  refine TGo.al dX0_put_109 rfl ?_
                  refine TGo.getI (t := 19) 0 0 hPr rfl fgX0_216_11 dX0_put_111 rfl rfl rfl ?_
                  refine TGo.toz _ (hpe.2.2.1) ?_
                  refine TGo.il3 dX0_put_114 rfl ?_
                  refine TGo.al dX0_put_115 rfl ?_
                  refine TGo.getI (t := 19) 2 2 hPr rfl fgX0_219_11 dX0_put_117 rfl rfl rfl ?_
                  refine TGo.toz _ (hpe.2.2.2.2) ?_
                  refine TGo.callG (csI3 (y2 := mX11_init) 2 rfl dX0_put_120 q781 q782 rfl rfl okX11_init npX11_init rfl rfl) (kX11_init hraw) (fun o120 sh120 nn120 V120 e120 h120 => ?_)
                  obtain ⟨rfl, rfl, rfl, rfl⟩ := h120
                  have hB26 : B + 26 < nn.1 := kn _ (by rw [hB 26 (by decide)]; decide)
                  have hap : ap < nn.1 := kn ap (by rw [hp1.1.2.2.2.1]; show (5 : Nat) ≠ 0; decide)
                  have hpn : gp p.toNat < nn.1 := kn _ (by rw [hpe.2.1]; show (19 : Nat) ≠ 0; decide)
                  have hlt : ∀ a, a < nn.1 → (va_up (va_up sh nn.1 (111, 0)) nn.1 (19, 0)) a = sh a := fun a ha => (va_up_ne _ _ (by omega)).trans (va_up_ne _ _ (by omega))
                  have hxP : (va_up (va_up sh nn.1 (111, 0)) nn.1 (19, 0)) nn.1 = (19, 0) := va_up_self _ _ _
                  have hPx : (va_up (va_up sh nn.1 (111, 0)) nn.1 (19, 0)) (gp p.toNat) = (19, 0) := (hlt _ hpn).trans hpe.2.1
                  have hB1 : XSh B (va_up (va_up sh nn.1 (111, 0)) nn.1 (19, 0)) := fun i hi => (hlt _ (kn _ (by rw [hB i hi]; exact (xNz hi).2.1))).trans (hB i hi)
                  have hVP : ∀ a, a ≠ nn.1 → (vI (vI (vI V nn.1 0 (z.2 3 (238 + 3 * p))) nn.1 1 (v)) nn.1 2 (z.2 3 (238 + 3 * p + 2))).1 a = V.1 a := fun a ha => (u2_a ha).trans ((u2_a ha).trans (u2_a ha))
                  have hL1 : LiR (va_up (va_up sh nn.1 (111, 0)) nn.1 (19, 0)) (vI (vI (vI V nn.1 0 (z.2 3 (238 + 3 * p))) nn.1 1 (v)) nn.1 2 (z.2 3 (238 + 3 * p + 2))) (B + 26) ap cp (z.2 3 1).toNat gp := hp1.1.keep (fun a ha => hlt a (kn a ha)) (congrFun (hVP _ (by omega)) 2) rfl rfl
                  show TGo _ _ _ _ _ _ _ _ _ _
                  refine TGo.goto 144 dX0_put_123 (by decide) ?_
                  refine TGo.cW (csV2 (y2 := mJ2_set) (t := 20) 3 rfl (hB1 26 (by decide)) rfl rfl dX0_put_144 q819 q820 q821 okJ2_set npJ2_set rfl rfl) (kJ2_set hL1 (by omega) hxP rfl) ?_
                  have ew : (za z 3 (238 + 3 * p + 1 + w) v).2 3 (238 + 3 * p + 1) = v := by
                    have q := @zf3s z (238 + 3 * p + 1 + w) v
                    have e : 238 + 3 * p + 1 + w = 238 + 3 * p + 1 := by omega
                    rw [e] at q ⊢
                    exact q
                  have q1 := hL1.setp (k := p.toNat) (by omega) hxP rfl
                  have hVs : ∀ a, a < nn.1 → a ≠ B + 26 → a ≠ ap → (vR (vI (vI (vI V nn.1 0 (z.2 3 (238 + 3 * p))) nn.1 1 (v)) nn.1 2 (z.2 3 (238 + 3 * p + 2))) ap ((p.toNat : Nat) : Int) (some nn.1)).1 a = V.1 a ∧ (vR (vI (vI (vI V nn.1 0 (z.2 3 (238 + 3 * p))) nn.1 1 (v)) nn.1 2 (z.2 3 (238 + 3 * p + 2))) ap ((p.toNat : Nat) : Int) (some nn.1)).2.1 a = V.2.1 a ∧ (vR (vI (vI (vI V nn.1 0 (z.2 3 (238 + 3 * p))) nn.1 1 (v)) nn.1 2 (z.2 3 (238 + 3 * p + 2))) ap ((p.toNat : Nat) : Int) (some nn.1)).2.2 a = V.2.2 a := fun a ha h1 h2 => ⟨hVP a (by omega), rfl, u2_a h2⟩
                  have hEs : ∀ i : Int, 0 ≤ i → i < (cp : Int) → ∀ y, (vR (vI (vI (vI V nn.1 0 (z.2 3 (238 + 3 * p))) nn.1 1 (v)) nn.1 2 (z.2 3 (238 + 3 * p + 2))) ap ((p.toNat : Nat) : Int) (some nn.1)).2.2 ap i = some y → y = nn.1 ∨ ∃ j : Int, (0 ≤ j ∧ j < (cp : Int)) ∧ V.2.2 ap j = some y := fun i i0 i1 y hy => by
                    have hy : u2 V.2.2 ap ((p.toNat : Nat) : Int) (some nn.1) ap i = some y := hy
                    by_cases e : i = ((p.toNat : Nat) : Int)
                    · subst e; rw [u2_s] at hy; exact Or.inl (Option.some.inj hy).symm
                    · rw [u2_n (Or.inr e)] at hy; exact Or.inr ⟨i, ⟨i0, i1⟩, hy⟩
                  have hx0 : (vR (vI (vI (vI V nn.1 0 (z.2 3 (238 + 3 * p))) nn.1 1 (v)) nn.1 2 (z.2 3 (238 + 3 * p + 2))) ap ((p.toNat : Nat) : Int) (some nn.1)).1 nn.1 0 = (za z 3 (238 + 3 * p + 1 + w) v).2 3 (238 + 3 * p) ∧ (vR (vI (vI (vI V nn.1 0 (z.2 3 (238 + 3 * p))) nn.1 1 (v)) nn.1 2 (z.2 3 (238 + 3 * p + 2))) ap ((p.toNat : Nat) : Int) (some nn.1)).1 nn.1 1 = (za z 3 (238 + 3 * p + 1 + w) v).2 3 (238 + 3 * p + 1) ∧ (vR (vI (vI (vI V nn.1 0 (z.2 3 (238 + 3 * p))) nn.1 1 (v)) nn.1 2 (z.2 3 (238 + 3 * p + 2))) ap ((p.toNat : Nat) : Int) (some nn.1)).1 nn.1 2 = (za z 3 (238 + 3 * p + 1 + w) v).2 3 (238 + 3 * p + 2) :=
                    ⟨((u2_n (Or.inr (by decide))).trans ((u2_n (Or.inr (by decide))).trans u2_s)).trans (zf3 (by omega)).symm, ((u2_n (Or.inr (by decide))).trans u2_s).trans ew.symm, u2_s.trans (zf3 (by omega)).symm⟩
                  have hRs := hR.setP (nn' := (nn.1 + 1, nn.2 + 3)) (A1 := ap) (c1 := cp) (p := p) (w := w) (v := v) (by assumption) (by omega) W hp1 hp2 ⟨av, al, cv, cl, gv, gl, hne, ⟨hv1, hv2⟩, hl1, hl2⟩ hlt q1 (Or.inl rfl) hVs hEs hxP hx0 (by show nn.1 < nn.1 + 1; omega)
                  obtain ⟨hB3, -, hcs, -⟩ := id hRs
                  have g1 : (vR (vI (vI (vI V nn.1 0 (z.2 3 (238 + 3 * p))) nn.1 1 (v)) nn.1 2 (z.2 3 (238 + 3 * p + 2))) ap ((p.toNat : Nat) : Int) (some nn.1)).1 (gp p.toNat) 1 = z.2 3 (238 + 3 * p + 1) := (congrFun (hVP _ (by omega)) 1).trans hpe.2.2.2.1
                  have g2 : (vR (vI (vI (vI V nn.1 0 (z.2 3 (238 + 3 * p))) nn.1 1 (v)) nn.1 2 (z.2 3 (238 + 3 * p + 2))) ap ((p.toNat : Nat) : Int) (some nn.1)).1 (gp p.toNat) 2 = z.2 3 (238 + 3 * p + 2) := (congrFun (hVP _ (by omega)) 2).trans hpe.2.2.2.2
                  refine TGo.pop dX0_put_147 rfl ?_
                  refine TGo.al0 dX0_put_148 rfl ?_
                  refine TGo.il2 dX0_put_149 rfl ?_
                  refine TGo.if_ne 161 dX0_put_150 (by decide) (by omega) (fun h150 => ?_) (fun h150 => ?_)
                  · refine TGo.al dX0_put_161 rfl ?_
                    refine TGo.getI (t := 19) 2 2 hPx rfl fgX0_219_11 dX0_put_163 rfl rfl rfl ?_
                    refine TGo.toz _ (g2) ?_
                    refine TGo.cS (csV1 (y2 := mX0_done) (t := 8) 1 rfl (hB1 0 (by decide)) rfl rfl dX0_put_166 q695 q697 qs3 okX0_done npX0_done rfl rfl) (kX0_done hB3 hcs) (fun v166 V166 h166 => ?_)
                    obtain ⟨rfl, hcd, hfd⟩ := h166
                    refine TGo.iret dX0_put_169 rfl ?_
                    first
                    | (exfalso; omega)
                    | (have e : zp_put z p w v = (z.2 3 (238 + 3 * p + 1 + w), zi (za z 3 (238 + 3 * p + 1 + w) v) 1 0) := by
                         unfold zp_put
                         rw [if_neg (by omega), if_neg (fun q => q (by assumption)), if_neg (by omega)]
                       rw [e]
                       refine ⟨?_, ⟨_, hRs.wr0 hfd hcd rfl rfl rfl⟩, ⟨by show nn.1 ≤ nn.1 + 1; omega, by show nn.1 + 1 ≤ nn.1 + 4000; omega⟩, by show nn.2 ≤ nn.2 + 3; omega, by show nn.2 + 3 ≤ nn.2 + 40000; omega⟩
                       first
                       | (rw [show 238 + 3 * p + 1 + w = 238 + 3 * p + 1 by omega])
                       | (rw [show 238 + 3 * p + 1 + w = 238 + 3 * p + 2 by omega]))
                  · refine TGo.al dX0_put_153 rfl ?_
                    refine TGo.getI (t := 19) 1 1 hPx rfl fgX0_222_11 dX0_put_155 rfl rfl rfl ?_
                    refine TGo.toz _ (g1) ?_
                    refine TGo.goto 166 dX0_put_158 (by decide) ?_
                    refine TGo.cS (csV1 (y2 := mX0_done) (t := 8) 1 rfl (hB1 0 (by decide)) rfl rfl dX0_put_166 q695 q697 qs3 okX0_done npX0_done rfl rfl) (kX0_done hB3 hcs) (fun v166 V166 h166 => ?_)
                    obtain ⟨rfl, hcd, hfd⟩ := h166
                    refine TGo.iret dX0_put_169 rfl ?_
                    first
                    | (exfalso; omega)
                    | (have e : zp_put z p w v = (z.2 3 (238 + 3 * p + 1 + w), zi (za z 3 (238 + 3 * p + 1 + w) v) 1 0) := by
                         unfold zp_put
                         rw [if_neg (by omega), if_neg (fun q => q (by assumption)), if_neg (by omega)]
                       rw [e]
                       refine ⟨?_, ⟨_, hRs.wr0 hfd hcd rfl rfl rfl⟩, ⟨by show nn.1 ≤ nn.1 + 1; omega, by show nn.1 + 1 ≤ nn.1 + 4000; omega⟩, by show nn.2 ≤ nn.2 + 3; omega, by show nn.2 + 3 ≤ nn.2 + 40000; omega⟩
                       first
                       | (rw [show 238 + 3 * p + 1 + w = 238 + 3 * p + 1 by omega])
                       | (rw [show 238 + 3 * p + 1 + w = 238 + 3 * p + 2 by omega]))
              · refine TGo.al0 dX0_put_87 rfl ?_
                refine TGo.icm1 dX0_put_88 ?_
                refine TGo.cS (csV1 (y2 := mX0_refuse) (t := 8) 1 rfl (hB 0 (by decide)) rfl rfl dX0_put_89 q601 q603 qs1 okX0_refuse npX0_refuse rfl rfl) (kX0_refuse hB hc (by omega)) (fun v89 V89 h89 => ?_)
                obtain ⟨rfl, hc89, hf89⟩ := h89
                refine TGo.iret dX0_put_92 rfl ?_
                first
                | (exfalso; omega)
                | (refine hR.leaf W (FrX.rf.tr hf89) hc89 ((zTell_2 rfl).trans rfl) ((zTell_2 rfl).trans rfl) (StA.rf.tell) ?_
                   unfold zp_put
                   (repeat (first | rw [if_pos (by first | rfl | assumption | omega)] | rw [if_neg (by first | decide | assumption | omega)]))
                   (try first | rfl))
          · refine TGo.al0 dX0_put_51 rfl ?_
            refine TGo.bip (-2) dX0_put_52 (by decide) ?_
            refine TGo.cS (csV1 (y2 := mX0_refuse) (t := 8) 1 rfl (hB 0 (by decide)) rfl rfl dX0_put_54 q601 q603 qs1 okX0_refuse npX0_refuse rfl rfl) (kX0_refuse hB hc (by omega)) (fun v54 V54 h54 => ?_)
            obtain ⟨rfl, hc54, hf54⟩ := h54
            refine TGo.iret dX0_put_57 rfl ?_
            first
            | (exfalso; omega)
            | (refine hR.leaf W (FrX.rf.tr hf54) hc54 ((zTell_2 rfl).trans rfl) ((zTell_2 rfl).trans rfl) (StA.rf.tell) ?_
               unfold zp_put
               (repeat (first | rw [if_pos (by first | rfl | assumption | omega)] | rw [if_neg (by first | decide | assumption | omega)]))
               (try first | rfl))
        · refine TGo.al0 dX0_put_37 rfl ?_
          refine TGo.icm1 dX0_put_38 ?_
          refine TGo.cS (csV1 (y2 := mX0_refuse) (t := 8) 1 rfl (hB 0 (by decide)) rfl rfl dX0_put_39 q601 q603 qs1 okX0_refuse npX0_refuse rfl rfl) (kX0_refuse hB hc (by omega)) (fun v39 V39 h39 => ?_)
          obtain ⟨rfl, hc39, hf39⟩ := h39
          refine TGo.iret dX0_put_42 rfl ?_
          first
          | (exfalso; omega)
          | (refine hR.leaf W (FrX.rf.tr hf39) hc39 ((zTell_2 rfl).trans rfl) ((zTell_2 rfl).trans rfl) (StA.rf.tell) ?_
             unfold zp_put
             (repeat (first | rw [if_pos (by first | rfl | assumption | omega)] | rw [if_neg (by first | decide | assumption | omega)]))
             (try first | rfl))
      · refine TGo.sip 300 dX0_put_23 (by decide) ?_
        refine TGo.goto 31 dX0_put_26 (by decide) ?_
        refine TGo.cF (csS3 (y2 := mX0_in) 1 rfl dX0_put_31 q598 q599 okX0_in npX0_in rfl rfl) (kX0_in (by omega) (by omega) (by omega)) ?_
        refine TGo.ifb_ne 43 dX0_put_34 (by decide) (fun h34 => ?_) (fun h34 => ?_)
        · refine TGo.al0 dX0_put_43 rfl ?_
          refine TGo.il1 dX0_put_44 rfl ?_
          refine TGo.cF (csV1 (y2 := mX0_isPerson) (t := 8) 2 rfl (hB 0 (by decide)) rfl rfl dX0_put_45 q815 q817 qs7 okX0_isPerson npX0_isPerson rfl rfl) (kX0_isPerson hR W (by omega)) ?_
          refine TGo.ifb_ne 58 dX0_put_48 (by decide) (fun h48 => ?_) (fun h48 => ?_)
          · refine TGo.known (fun kn => ?_)
            have hpe := hPe (by assumption)
            have hpb := hPb (by assumption)
            refine TGo.al0 dX0_put_58 rfl ?_
            refine TGo.getS (t := 8) 2 2 (B + 2) (hB 0 (by decide)) rfl fgX0_16_0 dX0_put_59 rfl rfl rfl ?_
            refine TGo.getS (t := 9) 5 5 (B + 26) (hB 2 (by decide)) rfl fgX0_126_1 dX0_put_62 rfl rfl rfl ?_
            refine TGo.il1 dX0_put_65 rfl ?_
            refine TGo.toz ((p.toNat : Nat) : Int) (Int.toNat_of_nonneg (by omega)).symm ?_
            refine TGo.cF (csV1 (y2 := mJ2_get) (t := 20) 3 rfl (hB 26 (by decide)) rfl rfl dX0_put_66 q760 q761 q762 okJ2_get npJ2_get rfl rfl) (kJ2_get hp1.1 (k := p.toNat) (by omega)) ?_
            refine TGo.castO (t := 19) dX0_put_69 q779 (hPe (by assumption)).2.1 rfl rfl (Or.inl rfl) ?_
            refine TGo.as dX0_put_72 rfl rfl ?_
            refine TGo.il2 dX0_put_74 rfl ?_
            refine TGo.if_ne 93 dX0_put_75 (by decide) (by omega) (fun h75 => ?_) (fun h75 => ?_)
            · refine TGo.al0 dX0_put_93 rfl ?_
              refine TGo.getS (t := 8) 2 2 (B + 2) (hB 0 (by decide)) rfl fgX0_16_0 dX0_put_94 rfl rfl rfl ?_
              refine TGo.getS (t := 9) 5 5 (B + 26) (hB 2 (by decide)) rfl fgX0_126_1 dX0_put_97 rfl rfl rfl ?_
              refine TGo.il1 dX0_put_100 rfl ?_
              refine TGo.toz ((p.toNat : Nat) : Int) (Int.toNat_of_nonneg (by omega)).symm ?_
              refine TGo.il2 dX0_put_101 rfl ?_
              refine TGo.if_ne 126 dX0_put_102 (by decide) (by omega) (fun h102 => ?_) (fun h102 => ?_)
              · refine TGo.new (ci := 11) (N := 3) nwX0_148 dX0_put_126 rfl rfl (fun z126 e126 => ?_)
                have hraw : va_up sh nn.1 (111, 0) nn.1 = (111, 0) := va_up_self _ _ _
                have hw1 : w = 1 := by omega
                have hPr : va_up sh nn.1 (111, 0) (gp p.toNat) = (19, 0) := (va_up_ne _ _ (by have := kn (gp p.toNat) (by rw [hpe.2.1]; show (19 : Nat) ≠ 0; decide); omega)).trans hpe.2.1
                refine TGo.dup dX0_put_129 rfl ?_
                refine TGo.al dX0_put_130 rfl ?_
                refine TGo.getI (t := 19) 0 0 hPr rfl fgX0_216_11 dX0_put_132 rfl rfl rfl ?_
                refine TGo.toz _ (hpe.2.2.1) ?_
                refine TGo.al dX0_put_135 rfl ?_
                refine TGo.getI (t := 19) 1 1 hPr rfl fgX0_222_11 dX0_put_137 rfl rfl rfl ?_
                refine TGo.toz _ (hpe.2.2.2.1) ?_
                refine TGo.il3 dX0_put_140 rfl ?_
                refine TGo.callG (csI3 (y2 := mX11_init) 2 rfl dX0_put_141 q781 q782 rfl rfl okX11_init npX11_init rfl rfl) (kX11_init hraw) (fun o141 sh141 nn141 V141 e141 h141 => ?_)
                obtain ⟨rfl, rfl, rfl, rfl⟩ := h141
                have hB26 : B + 26 < nn.1 := kn _ (by rw [hB 26 (by decide)]; decide)
                have hap : ap < nn.1 := kn ap (by rw [hp1.1.2.2.2.1]; show (5 : Nat) ≠ 0; decide)
                have hpn : gp p.toNat < nn.1 := kn _ (by rw [hpe.2.1]; show (19 : Nat) ≠ 0; decide)
                have hlt : ∀ a, a < nn.1 → (va_up (va_up sh nn.1 (111, 0)) nn.1 (19, 0)) a = sh a := fun a ha => (va_up_ne _ _ (by omega)).trans (va_up_ne _ _ (by omega))
                have hxP : (va_up (va_up sh nn.1 (111, 0)) nn.1 (19, 0)) nn.1 = (19, 0) := va_up_self _ _ _
                have hPx : (va_up (va_up sh nn.1 (111, 0)) nn.1 (19, 0)) (gp p.toNat) = (19, 0) := (hlt _ hpn).trans hpe.2.1
                have hB1 : XSh B (va_up (va_up sh nn.1 (111, 0)) nn.1 (19, 0)) := fun i hi => (hlt _ (kn _ (by rw [hB i hi]; exact (xNz hi).2.1))).trans (hB i hi)
                have hVP : ∀ a, a ≠ nn.1 → (vI (vI (vI V nn.1 0 (z.2 3 (238 + 3 * p))) nn.1 1 (z.2 3 (238 + 3 * p + 1))) nn.1 2 (v)).1 a = V.1 a := fun a ha => (u2_a ha).trans ((u2_a ha).trans (u2_a ha))
                have hL1 : LiR (va_up (va_up sh nn.1 (111, 0)) nn.1 (19, 0)) (vI (vI (vI V nn.1 0 (z.2 3 (238 + 3 * p))) nn.1 1 (z.2 3 (238 + 3 * p + 1))) nn.1 2 (v)) (B + 26) ap cp (z.2 3 1).toNat gp := hp1.1.keep (fun a ha => hlt a (kn a ha)) (congrFun (hVP _ (by omega)) 2) rfl rfl
                show TGo _ _ _ _ _ _ _ _ _ _
                refine TGo.cW (csV2 (y2 := mJ2_set) (t := 20) 3 rfl (hB1 26 (by decide)) rfl rfl dX0_put_144 q819 q820 q821 okJ2_set npJ2_set rfl rfl) (kJ2_set hL1 (by omega) hxP rfl) ?_
                have ew : (za z 3 (238 + 3 * p + 1 + w) v).2 3 (238 + 3 * p + 2) = v := by
                  have q := @zf3s z (238 + 3 * p + 1 + w) v
                  have e : 238 + 3 * p + 1 + w = 238 + 3 * p + 2 := by omega
                  rw [e] at q ⊢
                  exact q
                have q1 := hL1.setp (k := p.toNat) (by omega) hxP rfl
                have hVs : ∀ a, a < nn.1 → a ≠ B + 26 → a ≠ ap → (vR (vI (vI (vI V nn.1 0 (z.2 3 (238 + 3 * p))) nn.1 1 (z.2 3 (238 + 3 * p + 1))) nn.1 2 (v)) ap ((p.toNat : Nat) : Int) (some nn.1)).1 a = V.1 a ∧ (vR (vI (vI (vI V nn.1 0 (z.2 3 (238 + 3 * p))) nn.1 1 (z.2 3 (238 + 3 * p + 1))) nn.1 2 (v)) ap ((p.toNat : Nat) : Int) (some nn.1)).2.1 a = V.2.1 a ∧ (vR (vI (vI (vI V nn.1 0 (z.2 3 (238 + 3 * p))) nn.1 1 (z.2 3 (238 + 3 * p + 1))) nn.1 2 (v)) ap ((p.toNat : Nat) : Int) (some nn.1)).2.2 a = V.2.2 a := fun a ha h1 h2 => ⟨hVP a (by omega), rfl, u2_a h2⟩
                have hEs : ∀ i : Int, 0 ≤ i → i < (cp : Int) → ∀ y, (vR (vI (vI (vI V nn.1 0 (z.2 3 (238 + 3 * p))) nn.1 1 (z.2 3 (238 + 3 * p + 1))) nn.1 2 (v)) ap ((p.toNat : Nat) : Int) (some nn.1)).2.2 ap i = some y → y = nn.1 ∨ ∃ j : Int, (0 ≤ j ∧ j < (cp : Int)) ∧ V.2.2 ap j = some y := fun i i0 i1 y hy => by
                  have hy : u2 V.2.2 ap ((p.toNat : Nat) : Int) (some nn.1) ap i = some y := hy
                  by_cases e : i = ((p.toNat : Nat) : Int)
                  · subst e; rw [u2_s] at hy; exact Or.inl (Option.some.inj hy).symm
                  · rw [u2_n (Or.inr e)] at hy; exact Or.inr ⟨i, ⟨i0, i1⟩, hy⟩
                have hx0 : (vR (vI (vI (vI V nn.1 0 (z.2 3 (238 + 3 * p))) nn.1 1 (z.2 3 (238 + 3 * p + 1))) nn.1 2 (v)) ap ((p.toNat : Nat) : Int) (some nn.1)).1 nn.1 0 = (za z 3 (238 + 3 * p + 1 + w) v).2 3 (238 + 3 * p) ∧ (vR (vI (vI (vI V nn.1 0 (z.2 3 (238 + 3 * p))) nn.1 1 (z.2 3 (238 + 3 * p + 1))) nn.1 2 (v)) ap ((p.toNat : Nat) : Int) (some nn.1)).1 nn.1 1 = (za z 3 (238 + 3 * p + 1 + w) v).2 3 (238 + 3 * p + 1) ∧ (vR (vI (vI (vI V nn.1 0 (z.2 3 (238 + 3 * p))) nn.1 1 (z.2 3 (238 + 3 * p + 1))) nn.1 2 (v)) ap ((p.toNat : Nat) : Int) (some nn.1)).1 nn.1 2 = (za z 3 (238 + 3 * p + 1 + w) v).2 3 (238 + 3 * p + 2) :=
                  ⟨((u2_n (Or.inr (by decide))).trans ((u2_n (Or.inr (by decide))).trans u2_s)).trans (zf3 (by omega)).symm, ((u2_n (Or.inr (by decide))).trans u2_s).trans (zf3 (by omega)).symm, u2_s.trans ew.symm⟩
                have hRs := hR.setP (nn' := (nn.1 + 1, nn.2 + 3)) (A1 := ap) (c1 := cp) (p := p) (w := w) (v := v) (by assumption) (by omega) W hp1 hp2 ⟨av, al, cv, cl, gv, gl, hne, ⟨hv1, hv2⟩, hl1, hl2⟩ hlt q1 (Or.inl rfl) hVs hEs hxP hx0 (by show nn.1 < nn.1 + 1; omega)
                obtain ⟨hB3, -, hcs, -⟩ := id hRs
                have g1 : (vR (vI (vI (vI V nn.1 0 (z.2 3 (238 + 3 * p))) nn.1 1 (z.2 3 (238 + 3 * p + 1))) nn.1 2 (v)) ap ((p.toNat : Nat) : Int) (some nn.1)).1 (gp p.toNat) 1 = z.2 3 (238 + 3 * p + 1) := (congrFun (hVP _ (by omega)) 1).trans hpe.2.2.2.1
                have g2 : (vR (vI (vI (vI V nn.1 0 (z.2 3 (238 + 3 * p))) nn.1 1 (z.2 3 (238 + 3 * p + 1))) nn.1 2 (v)) ap ((p.toNat : Nat) : Int) (some nn.1)).1 (gp p.toNat) 2 = z.2 3 (238 + 3 * p + 2) := (congrFun (hVP _ (by omega)) 2).trans hpe.2.2.2.2
                refine TGo.pop dX0_put_147 rfl ?_
                refine TGo.al0 dX0_put_148 rfl ?_
                refine TGo.il2 dX0_put_149 rfl ?_
                refine TGo.if_ne 161 dX0_put_150 (by decide) (by omega) (fun h150 => ?_) (fun h150 => ?_)
                · refine TGo.al dX0_put_161 rfl ?_
                  refine TGo.getI (t := 19) 2 2 hPx rfl fgX0_219_11 dX0_put_163 rfl rfl rfl ?_
                  refine TGo.toz _ (g2) ?_
                  refine TGo.cS (csV1 (y2 := mX0_done) (t := 8) 1 rfl (hB1 0 (by decide)) rfl rfl dX0_put_166 q695 q697 qs3 okX0_done npX0_done rfl rfl) (kX0_done hB3 hcs) (fun v166 V166 h166 => ?_)
                  obtain ⟨rfl, hcd, hfd⟩ := h166
                  refine TGo.iret dX0_put_169 rfl ?_
                  first
                  | (exfalso; omega)
                  | (have e : zp_put z p w v = (z.2 3 (238 + 3 * p + 1 + w), zi (za z 3 (238 + 3 * p + 1 + w) v) 1 0) := by
                       unfold zp_put
                       rw [if_neg (by omega), if_neg (fun q => q (by assumption)), if_neg (by omega)]
                     rw [e]
                     refine ⟨?_, ⟨_, hRs.wr0 hfd hcd rfl rfl rfl⟩, ⟨by show nn.1 ≤ nn.1 + 1; omega, by show nn.1 + 1 ≤ nn.1 + 4000; omega⟩, by show nn.2 ≤ nn.2 + 3; omega, by show nn.2 + 3 ≤ nn.2 + 40000; omega⟩
                     first
                     | (rw [show 238 + 3 * p + 1 + w = 238 + 3 * p + 1 by omega])
                     | (rw [show 238 + 3 * p + 1 + w = 238 + 3 * p + 2 by omega]))
                · refine TGo.al dX0_put_153 rfl ?_
                  refine TGo.getI (t := 19) 1 1 hPx rfl fgX0_222_11 dX0_put_155 rfl rfl rfl ?_
                  refine TGo.toz _ (g1) ?_
                  refine TGo.goto 166 dX0_put_158 (by decide) ?_
                  refine TGo.cS (csV1 (y2 := mX0_done) (t := 8) 1 rfl (hB1 0 (by decide)) rfl rfl dX0_put_166 q695 q697 qs3 okX0_done npX0_done rfl rfl) (kX0_done hB3 hcs) (fun v166 V166 h166 => ?_)
                  obtain ⟨rfl, hcd, hfd⟩ := h166
                  refine TGo.iret dX0_put_169 rfl ?_
                  first
                  | (exfalso; omega)
                  | (have e : zp_put z p w v = (z.2 3 (238 + 3 * p + 1 + w), zi (za z 3 (238 + 3 * p + 1 + w) v) 1 0) := by
                       unfold zp_put
                       rw [if_neg (by omega), if_neg (fun q => q (by assumption)), if_neg (by omega)]
                     rw [e]
                     refine ⟨?_, ⟨_, hRs.wr0 hfd hcd rfl rfl rfl⟩, ⟨by show nn.1 ≤ nn.1 + 1; omega, by show nn.1 + 1 ≤ nn.1 + 4000; omega⟩, by show nn.2 ≤ nn.2 + 3; omega, by show nn.2 + 3 ≤ nn.2 + 40000; omega⟩
                     first
                     | (rw [show 238 + 3 * p + 1 + w = 238 + 3 * p + 1 by omega])
                     | (rw [show 238 + 3 * p + 1 + w = 238 + 3 * p + 2 by omega]))
              · refine TGo.new (ci := 11) (N := 3) nwX0_148 dX0_put_105 rfl rfl (fun z105 e105 => ?_)
                have hraw : va_up sh nn.1 (111, 0) nn.1 = (111, 0) := va_up_self _ _ _
                have hw0 : w = 0 := by omega
                have hPr : va_up sh nn.1 (111, 0) (gp p.toNat) = (19, 0) := (va_up_ne _ _ (by have := kn (gp p.toNat) (by rw [hpe.2.1]; show (19 : Nat) ≠ 0; decide); omega)).trans hpe.2.1
                refine TGo.dup dX0_put_108 rfl ?_
                refine TGo.al dX0_put_109 rfl ?_
                refine TGo.getI (t := 19) 0 0 hPr rfl fgX0_216_11 dX0_put_111 rfl rfl rfl ?_
                refine TGo.toz _ (hpe.2.2.1) ?_
                refine TGo.il3 dX0_put_114 rfl ?_
                refine TGo.al dX0_put_115 rfl ?_
                refine TGo.getI (t := 19) 2 2 hPr rfl fgX0_219_11 dX0_put_117 rfl rfl rfl ?_
                refine TGo.toz _ (hpe.2.2.2.2) ?_
                refine TGo.callG (csI3 (y2 := mX11_init) 2 rfl dX0_put_120 q781 q782 rfl rfl okX11_init npX11_init rfl rfl) (kX11_init hraw) (fun o120 sh120 nn120 V120 e120 h120 => ?_)
                obtain ⟨rfl, rfl, rfl, rfl⟩ := h120
                have hB26 : B + 26 < nn.1 := kn _ (by rw [hB 26 (by decide)]; decide)
                have hap : ap < nn.1 := kn ap (by rw [hp1.1.2.2.2.1]; show (5 : Nat) ≠ 0; decide)
                have hpn : gp p.toNat < nn.1 := kn _ (by rw [hpe.2.1]; show (19 : Nat) ≠ 0; decide)
                have hlt : ∀ a, a < nn.1 → (va_up (va_up sh nn.1 (111, 0)) nn.1 (19, 0)) a = sh a := fun a ha => (va_up_ne _ _ (by omega)).trans (va_up_ne _ _ (by omega))
                have hxP : (va_up (va_up sh nn.1 (111, 0)) nn.1 (19, 0)) nn.1 = (19, 0) := va_up_self _ _ _
                have hPx : (va_up (va_up sh nn.1 (111, 0)) nn.1 (19, 0)) (gp p.toNat) = (19, 0) := (hlt _ hpn).trans hpe.2.1
                have hB1 : XSh B (va_up (va_up sh nn.1 (111, 0)) nn.1 (19, 0)) := fun i hi => (hlt _ (kn _ (by rw [hB i hi]; exact (xNz hi).2.1))).trans (hB i hi)
                have hVP : ∀ a, a ≠ nn.1 → (vI (vI (vI V nn.1 0 (z.2 3 (238 + 3 * p))) nn.1 1 (v)) nn.1 2 (z.2 3 (238 + 3 * p + 2))).1 a = V.1 a := fun a ha => (u2_a ha).trans ((u2_a ha).trans (u2_a ha))
                have hL1 : LiR (va_up (va_up sh nn.1 (111, 0)) nn.1 (19, 0)) (vI (vI (vI V nn.1 0 (z.2 3 (238 + 3 * p))) nn.1 1 (v)) nn.1 2 (z.2 3 (238 + 3 * p + 2))) (B + 26) ap cp (z.2 3 1).toNat gp := hp1.1.keep (fun a ha => hlt a (kn a ha)) (congrFun (hVP _ (by omega)) 2) rfl rfl
                show TGo _ _ _ _ _ _ _ _ _ _
                refine TGo.goto 144 dX0_put_123 (by decide) ?_
                refine TGo.cW (csV2 (y2 := mJ2_set) (t := 20) 3 rfl (hB1 26 (by decide)) rfl rfl dX0_put_144 q819 q820 q821 okJ2_set npJ2_set rfl rfl) (kJ2_set hL1 (by omega) hxP rfl) ?_
                have ew : (za z 3 (238 + 3 * p + 1 + w) v).2 3 (238 + 3 * p + 1) = v := by
                  have q := @zf3s z (238 + 3 * p + 1 + w) v
                  have e : 238 + 3 * p + 1 + w = 238 + 3 * p + 1 := by omega
                  rw [e] at q ⊢
                  exact q
                have q1 := hL1.setp (k := p.toNat) (by omega) hxP rfl
                have hVs : ∀ a, a < nn.1 → a ≠ B + 26 → a ≠ ap → (vR (vI (vI (vI V nn.1 0 (z.2 3 (238 + 3 * p))) nn.1 1 (v)) nn.1 2 (z.2 3 (238 + 3 * p + 2))) ap ((p.toNat : Nat) : Int) (some nn.1)).1 a = V.1 a ∧ (vR (vI (vI (vI V nn.1 0 (z.2 3 (238 + 3 * p))) nn.1 1 (v)) nn.1 2 (z.2 3 (238 + 3 * p + 2))) ap ((p.toNat : Nat) : Int) (some nn.1)).2.1 a = V.2.1 a ∧ (vR (vI (vI (vI V nn.1 0 (z.2 3 (238 + 3 * p))) nn.1 1 (v)) nn.1 2 (z.2 3 (238 + 3 * p + 2))) ap ((p.toNat : Nat) : Int) (some nn.1)).2.2 a = V.2.2 a := fun a ha h1 h2 => ⟨hVP a (by omega), rfl, u2_a h2⟩
                have hEs : ∀ i : Int, 0 ≤ i → i < (cp : Int) → ∀ y, (vR (vI (vI (vI V nn.1 0 (z.2 3 (238 + 3 * p))) nn.1 1 (v)) nn.1 2 (z.2 3 (238 + 3 * p + 2))) ap ((p.toNat : Nat) : Int) (some nn.1)).2.2 ap i = some y → y = nn.1 ∨ ∃ j : Int, (0 ≤ j ∧ j < (cp : Int)) ∧ V.2.2 ap j = some y := fun i i0 i1 y hy => by
                  have hy : u2 V.2.2 ap ((p.toNat : Nat) : Int) (some nn.1) ap i = some y := hy
                  by_cases e : i = ((p.toNat : Nat) : Int)
                  · subst e; rw [u2_s] at hy; exact Or.inl (Option.some.inj hy).symm
                  · rw [u2_n (Or.inr e)] at hy; exact Or.inr ⟨i, ⟨i0, i1⟩, hy⟩
                have hx0 : (vR (vI (vI (vI V nn.1 0 (z.2 3 (238 + 3 * p))) nn.1 1 (v)) nn.1 2 (z.2 3 (238 + 3 * p + 2))) ap ((p.toNat : Nat) : Int) (some nn.1)).1 nn.1 0 = (za z 3 (238 + 3 * p + 1 + w) v).2 3 (238 + 3 * p) ∧ (vR (vI (vI (vI V nn.1 0 (z.2 3 (238 + 3 * p))) nn.1 1 (v)) nn.1 2 (z.2 3 (238 + 3 * p + 2))) ap ((p.toNat : Nat) : Int) (some nn.1)).1 nn.1 1 = (za z 3 (238 + 3 * p + 1 + w) v).2 3 (238 + 3 * p + 1) ∧ (vR (vI (vI (vI V nn.1 0 (z.2 3 (238 + 3 * p))) nn.1 1 (v)) nn.1 2 (z.2 3 (238 + 3 * p + 2))) ap ((p.toNat : Nat) : Int) (some nn.1)).1 nn.1 2 = (za z 3 (238 + 3 * p + 1 + w) v).2 3 (238 + 3 * p + 2) :=
                  ⟨((u2_n (Or.inr (by decide))).trans ((u2_n (Or.inr (by decide))).trans u2_s)).trans (zf3 (by omega)).symm, ((u2_n (Or.inr (by decide))).trans u2_s).trans ew.symm, u2_s.trans (zf3 (by omega)).symm⟩
                have hRs := hR.setP (nn' := (nn.1 + 1, nn.2 + 3)) (A1 := ap) (c1 := cp) (p := p) (w := w) (v := v) (by assumption) (by omega) W hp1 hp2 ⟨av, al, cv, cl, gv, gl, hne, ⟨hv1, hv2⟩, hl1, hl2⟩ hlt q1 (Or.inl rfl) hVs hEs hxP hx0 (by show nn.1 < nn.1 + 1; omega)
                obtain ⟨hB3, -, hcs, -⟩ := id hRs
                have g1 : (vR (vI (vI (vI V nn.1 0 (z.2 3 (238 + 3 * p))) nn.1 1 (v)) nn.1 2 (z.2 3 (238 + 3 * p + 2))) ap ((p.toNat : Nat) : Int) (some nn.1)).1 (gp p.toNat) 1 = z.2 3 (238 + 3 * p + 1) := (congrFun (hVP _ (by omega)) 1).trans hpe.2.2.2.1
                have g2 : (vR (vI (vI (vI V nn.1 0 (z.2 3 (238 + 3 * p))) nn.1 1 (v)) nn.1 2 (z.2 3 (238 + 3 * p + 2))) ap ((p.toNat : Nat) : Int) (some nn.1)).1 (gp p.toNat) 2 = z.2 3 (238 + 3 * p + 2) := (congrFun (hVP _ (by omega)) 2).trans hpe.2.2.2.2
                refine TGo.pop dX0_put_147 rfl ?_
                refine TGo.al0 dX0_put_148 rfl ?_
                refine TGo.il2 dX0_put_149 rfl ?_
                refine TGo.if_ne 161 dX0_put_150 (by decide) (by omega) (fun h150 => ?_) (fun h150 => ?_)
                · refine TGo.al dX0_put_161 rfl ?_
                  refine TGo.getI (t := 19) 2 2 hPx rfl fgX0_219_11 dX0_put_163 rfl rfl rfl ?_
                  refine TGo.toz _ (g2) ?_
                  refine TGo.cS (csV1 (y2 := mX0_done) (t := 8) 1 rfl (hB1 0 (by decide)) rfl rfl dX0_put_166 q695 q697 qs3 okX0_done npX0_done rfl rfl) (kX0_done hB3 hcs) (fun v166 V166 h166 => ?_)
                  obtain ⟨rfl, hcd, hfd⟩ := h166
                  refine TGo.iret dX0_put_169 rfl ?_
                  first
                  | (exfalso; omega)
                  | (have e : zp_put z p w v = (z.2 3 (238 + 3 * p + 1 + w), zi (za z 3 (238 + 3 * p + 1 + w) v) 1 0) := by
                       unfold zp_put
                       rw [if_neg (by omega), if_neg (fun q => q (by assumption)), if_neg (by omega)]
                     rw [e]
                     refine ⟨?_, ⟨_, hRs.wr0 hfd hcd rfl rfl rfl⟩, ⟨by show nn.1 ≤ nn.1 + 1; omega, by show nn.1 + 1 ≤ nn.1 + 4000; omega⟩, by show nn.2 ≤ nn.2 + 3; omega, by show nn.2 + 3 ≤ nn.2 + 40000; omega⟩
                     first
                     | (rw [show 238 + 3 * p + 1 + w = 238 + 3 * p + 1 by omega])
                     | (rw [show 238 + 3 * p + 1 + w = 238 + 3 * p + 2 by omega]))
                · refine TGo.al dX0_put_153 rfl ?_
                  refine TGo.getI (t := 19) 1 1 hPx rfl fgX0_222_11 dX0_put_155 rfl rfl rfl ?_
                  refine TGo.toz _ (g1) ?_
                  refine TGo.goto 166 dX0_put_158 (by decide) ?_
                  refine TGo.cS (csV1 (y2 := mX0_done) (t := 8) 1 rfl (hB1 0 (by decide)) rfl rfl dX0_put_166 q695 q697 qs3 okX0_done npX0_done rfl rfl) (kX0_done hB3 hcs) (fun v166 V166 h166 => ?_)
                  obtain ⟨rfl, hcd, hfd⟩ := h166
                  refine TGo.iret dX0_put_169 rfl ?_
                  first
                  | (exfalso; omega)
                  | (have e : zp_put z p w v = (z.2 3 (238 + 3 * p + 1 + w), zi (za z 3 (238 + 3 * p + 1 + w) v) 1 0) := by
                       unfold zp_put
                       rw [if_neg (by omega), if_neg (fun q => q (by assumption)), if_neg (by omega)]
                     rw [e]
                     refine ⟨?_, ⟨_, hRs.wr0 hfd hcd rfl rfl rfl⟩, ⟨by show nn.1 ≤ nn.1 + 1; omega, by show nn.1 + 1 ≤ nn.1 + 4000; omega⟩, by show nn.2 ≤ nn.2 + 3; omega, by show nn.2 + 3 ≤ nn.2 + 40000; omega⟩
                     first
                     | (rw [show 238 + 3 * p + 1 + w = 238 + 3 * p + 1 by omega])
                     | (rw [show 238 + 3 * p + 1 + w = 238 + 3 * p + 2 by omega]))
            · refine TGo.il3 dX0_put_78 rfl ?_
              refine TGo.al dX0_put_79 rfl ?_
              refine TGo.getI (t := 19) 0 0 (hPe (by assumption)).2.1 rfl fgX0_216_11 dX0_put_81 rfl rfl rfl ?_
              refine TGo.toz _ (hpe.2.2.1) ?_
              refine TGo.icmp_gt 93 dX0_put_84 (by decide) (by omega) (fun h84 => ?_) (fun h84 => ?_)
              · refine TGo.al0 dX0_put_93 rfl ?_
                refine TGo.getS (t := 8) 2 2 (B + 2) (hB 0 (by decide)) rfl fgX0_16_0 dX0_put_94 rfl rfl rfl ?_
                refine TGo.getS (t := 9) 5 5 (B + 26) (hB 2 (by decide)) rfl fgX0_126_1 dX0_put_97 rfl rfl rfl ?_
                refine TGo.il1 dX0_put_100 rfl ?_
                refine TGo.toz ((p.toNat : Nat) : Int) (Int.toNat_of_nonneg (by omega)).symm ?_
                refine TGo.il2 dX0_put_101 rfl ?_
                refine TGo.if_ne 126 dX0_put_102 (by decide) (by omega) (fun h102 => ?_) (fun h102 => ?_)
                · refine TGo.new (ci := 11) (N := 3) nwX0_148 dX0_put_126 rfl rfl (fun z126 e126 => ?_)
                  have hraw : va_up sh nn.1 (111, 0) nn.1 = (111, 0) := va_up_self _ _ _
                  have hw1 : w = 1 := by omega
                  have hPr : va_up sh nn.1 (111, 0) (gp p.toNat) = (19, 0) := (va_up_ne _ _ (by have := kn (gp p.toNat) (by rw [hpe.2.1]; show (19 : Nat) ≠ 0; decide); omega)).trans hpe.2.1
                  refine TGo.dup dX0_put_129 rfl ?_
                  refine TGo.al dX0_put_130 rfl ?_
                  refine TGo.getI (t := 19) 0 0 hPr rfl fgX0_216_11 dX0_put_132 rfl rfl rfl ?_
                  refine TGo.toz _ (hpe.2.2.1) ?_
                  refine TGo.al dX0_put_135 rfl ?_
                  refine TGo.getI (t := 19) 1 1 hPr rfl fgX0_222_11 dX0_put_137 rfl rfl rfl ?_
                  refine TGo.toz _ (hpe.2.2.2.1) ?_
                  refine TGo.il3 dX0_put_140 rfl ?_
                  refine TGo.callG (csI3 (y2 := mX11_init) 2 rfl dX0_put_141 q781 q782 rfl rfl okX11_init npX11_init rfl rfl) (kX11_init hraw) (fun o141 sh141 nn141 V141 e141 h141 => ?_)
                  obtain ⟨rfl, rfl, rfl, rfl⟩ := h141
                  have hB26 : B + 26 < nn.1 := kn _ (by rw [hB 26 (by decide)]; decide)
                  have hap : ap < nn.1 := kn ap (by rw [hp1.1.2.2.2.1]; show (5 : Nat) ≠ 0; decide)
                  have hpn : gp p.toNat < nn.1 := kn _ (by rw [hpe.2.1]; show (19 : Nat) ≠ 0; decide)
                  have hlt : ∀ a, a < nn.1 → (va_up (va_up sh nn.1 (111, 0)) nn.1 (19, 0)) a = sh a := fun a ha => (va_up_ne _ _ (by omega)).trans (va_up_ne _ _ (by omega))
                  have hxP : (va_up (va_up sh nn.1 (111, 0)) nn.1 (19, 0)) nn.1 = (19, 0) := va_up_self _ _ _
                  have hPx : (va_up (va_up sh nn.1 (111, 0)) nn.1 (19, 0)) (gp p.toNat) = (19, 0) := (hlt _ hpn).trans hpe.2.1
                  have hB1 : XSh B (va_up (va_up sh nn.1 (111, 0)) nn.1 (19, 0)) := fun i hi => (hlt _ (kn _ (by rw [hB i hi]; exact (xNz hi).2.1))).trans (hB i hi)
                  have hVP : ∀ a, a ≠ nn.1 → (vI (vI (vI V nn.1 0 (z.2 3 (238 + 3 * p))) nn.1 1 (z.2 3 (238 + 3 * p + 1))) nn.1 2 (v)).1 a = V.1 a := fun a ha => (u2_a ha).trans ((u2_a ha).trans (u2_a ha))
                  have hL1 : LiR (va_up (va_up sh nn.1 (111, 0)) nn.1 (19, 0)) (vI (vI (vI V nn.1 0 (z.2 3 (238 + 3 * p))) nn.1 1 (z.2 3 (238 + 3 * p + 1))) nn.1 2 (v)) (B + 26) ap cp (z.2 3 1).toNat gp := hp1.1.keep (fun a ha => hlt a (kn a ha)) (congrFun (hVP _ (by omega)) 2) rfl rfl
                  show TGo _ _ _ _ _ _ _ _ _ _
                  refine TGo.cW (csV2 (y2 := mJ2_set) (t := 20) 3 rfl (hB1 26 (by decide)) rfl rfl dX0_put_144 q819 q820 q821 okJ2_set npJ2_set rfl rfl) (kJ2_set hL1 (by omega) hxP rfl) ?_
                  have ew : (za z 3 (238 + 3 * p + 1 + w) v).2 3 (238 + 3 * p + 2) = v := by
                    have q := @zf3s z (238 + 3 * p + 1 + w) v
                    have e : 238 + 3 * p + 1 + w = 238 + 3 * p + 2 := by omega
                    rw [e] at q ⊢
                    exact q
                  have q1 := hL1.setp (k := p.toNat) (by omega) hxP rfl
                  have hVs : ∀ a, a < nn.1 → a ≠ B + 26 → a ≠ ap → (vR (vI (vI (vI V nn.1 0 (z.2 3 (238 + 3 * p))) nn.1 1 (z.2 3 (238 + 3 * p + 1))) nn.1 2 (v)) ap ((p.toNat : Nat) : Int) (some nn.1)).1 a = V.1 a ∧ (vR (vI (vI (vI V nn.1 0 (z.2 3 (238 + 3 * p))) nn.1 1 (z.2 3 (238 + 3 * p + 1))) nn.1 2 (v)) ap ((p.toNat : Nat) : Int) (some nn.1)).2.1 a = V.2.1 a ∧ (vR (vI (vI (vI V nn.1 0 (z.2 3 (238 + 3 * p))) nn.1 1 (z.2 3 (238 + 3 * p + 1))) nn.1 2 (v)) ap ((p.toNat : Nat) : Int) (some nn.1)).2.2 a = V.2.2 a := fun a ha h1 h2 => ⟨hVP a (by omega), rfl, u2_a h2⟩
                  have hEs : ∀ i : Int, 0 ≤ i → i < (cp : Int) → ∀ y, (vR (vI (vI (vI V nn.1 0 (z.2 3 (238 + 3 * p))) nn.1 1 (z.2 3 (238 + 3 * p + 1))) nn.1 2 (v)) ap ((p.toNat : Nat) : Int) (some nn.1)).2.2 ap i = some y → y = nn.1 ∨ ∃ j : Int, (0 ≤ j ∧ j < (cp : Int)) ∧ V.2.2 ap j = some y := fun i i0 i1 y hy => by
                    have hy : u2 V.2.2 ap ((p.toNat : Nat) : Int) (some nn.1) ap i = some y := hy
                    by_cases e : i = ((p.toNat : Nat) : Int)
                    · subst e; rw [u2_s] at hy; exact Or.inl (Option.some.inj hy).symm
                    · rw [u2_n (Or.inr e)] at hy; exact Or.inr ⟨i, ⟨i0, i1⟩, hy⟩
                  have hx0 : (vR (vI (vI (vI V nn.1 0 (z.2 3 (238 + 3 * p))) nn.1 1 (z.2 3 (238 + 3 * p + 1))) nn.1 2 (v)) ap ((p.toNat : Nat) : Int) (some nn.1)).1 nn.1 0 = (za z 3 (238 + 3 * p + 1 + w) v).2 3 (238 + 3 * p) ∧ (vR (vI (vI (vI V nn.1 0 (z.2 3 (238 + 3 * p))) nn.1 1 (z.2 3 (238 + 3 * p + 1))) nn.1 2 (v)) ap ((p.toNat : Nat) : Int) (some nn.1)).1 nn.1 1 = (za z 3 (238 + 3 * p + 1 + w) v).2 3 (238 + 3 * p + 1) ∧ (vR (vI (vI (vI V nn.1 0 (z.2 3 (238 + 3 * p))) nn.1 1 (z.2 3 (238 + 3 * p + 1))) nn.1 2 (v)) ap ((p.toNat : Nat) : Int) (some nn.1)).1 nn.1 2 = (za z 3 (238 + 3 * p + 1 + w) v).2 3 (238 + 3 * p + 2) :=
                    ⟨((u2_n (Or.inr (by decide))).trans ((u2_n (Or.inr (by decide))).trans u2_s)).trans (zf3 (by omega)).symm, ((u2_n (Or.inr (by decide))).trans u2_s).trans (zf3 (by omega)).symm, u2_s.trans ew.symm⟩
                  have hRs := hR.setP (nn' := (nn.1 + 1, nn.2 + 3)) (A1 := ap) (c1 := cp) (p := p) (w := w) (v := v) (by assumption) (by omega) W hp1 hp2 ⟨av, al, cv, cl, gv, gl, hne, ⟨hv1, hv2⟩, hl1, hl2⟩ hlt q1 (Or.inl rfl) hVs hEs hxP hx0 (by show nn.1 < nn.1 + 1; omega)
                  obtain ⟨hB3, -, hcs, -⟩ := id hRs
                  have g1 : (vR (vI (vI (vI V nn.1 0 (z.2 3 (238 + 3 * p))) nn.1 1 (z.2 3 (238 + 3 * p + 1))) nn.1 2 (v)) ap ((p.toNat : Nat) : Int) (some nn.1)).1 (gp p.toNat) 1 = z.2 3 (238 + 3 * p + 1) := (congrFun (hVP _ (by omega)) 1).trans hpe.2.2.2.1
                  have g2 : (vR (vI (vI (vI V nn.1 0 (z.2 3 (238 + 3 * p))) nn.1 1 (z.2 3 (238 + 3 * p + 1))) nn.1 2 (v)) ap ((p.toNat : Nat) : Int) (some nn.1)).1 (gp p.toNat) 2 = z.2 3 (238 + 3 * p + 2) := (congrFun (hVP _ (by omega)) 2).trans hpe.2.2.2.2
                  refine TGo.pop dX0_put_147 rfl ?_
                  refine TGo.al0 dX0_put_148 rfl ?_
                  refine TGo.il2 dX0_put_149 rfl ?_
                  refine TGo.if_ne 161 dX0_put_150 (by decide) (by omega) (fun h150 => ?_) (fun h150 => ?_)
                  · refine TGo.al dX0_put_161 rfl ?_
                    refine TGo.getI (t := 19) 2 2 hPx rfl fgX0_219_11 dX0_put_163 rfl rfl rfl ?_
                    refine TGo.toz _ (g2) ?_
                    refine TGo.cS (csV1 (y2 := mX0_done) (t := 8) 1 rfl (hB1 0 (by decide)) rfl rfl dX0_put_166 q695 q697 qs3 okX0_done npX0_done rfl rfl) (kX0_done hB3 hcs) (fun v166 V166 h166 => ?_)
                    obtain ⟨rfl, hcd, hfd⟩ := h166
                    refine TGo.iret dX0_put_169 rfl ?_
                    first
                    | (exfalso; omega)
                    | (have e : zp_put z p w v = (z.2 3 (238 + 3 * p + 1 + w), zi (za z 3 (238 + 3 * p + 1 + w) v) 1 0) := by
                         unfold zp_put
                         rw [if_neg (by omega), if_neg (fun q => q (by assumption)), if_neg (by omega)]
                       rw [e]
                       refine ⟨?_, ⟨_, hRs.wr0 hfd hcd rfl rfl rfl⟩, ⟨by show nn.1 ≤ nn.1 + 1; omega, by show nn.1 + 1 ≤ nn.1 + 4000; omega⟩, by show nn.2 ≤ nn.2 + 3; omega, by show nn.2 + 3 ≤ nn.2 + 40000; omega⟩
                       first
                       | (rw [show 238 + 3 * p + 1 + w = 238 + 3 * p + 1 by omega])
                       | (rw [show 238 + 3 * p + 1 + w = 238 + 3 * p + 2 by omega]))
                  · refine TGo.al dX0_put_153 rfl ?_
                    refine TGo.getI (t := 19) 1 1 hPx rfl fgX0_222_11 dX0_put_155 rfl rfl rfl ?_
                    refine TGo.toz _ (g1) ?_
                    refine TGo.goto 166 dX0_put_158 (by decide) ?_
                    refine TGo.cS (csV1 (y2 := mX0_done) (t := 8) 1 rfl (hB1 0 (by decide)) rfl rfl dX0_put_166 q695 q697 qs3 okX0_done npX0_done rfl rfl) (kX0_done hB3 hcs) (fun v166 V166 h166 => ?_)
                    obtain ⟨rfl, hcd, hfd⟩ := h166
                    refine TGo.iret dX0_put_169 rfl ?_
                    first
                    | (exfalso; omega)
                    | (have e : zp_put z p w v = (z.2 3 (238 + 3 * p + 1 + w), zi (za z 3 (238 + 3 * p + 1 + w) v) 1 0) := by
                         unfold zp_put
                         rw [if_neg (by omega), if_neg (fun q => q (by assumption)), if_neg (by omega)]
                       rw [e]
                       refine ⟨?_, ⟨_, hRs.wr0 hfd hcd rfl rfl rfl⟩, ⟨by show nn.1 ≤ nn.1 + 1; omega, by show nn.1 + 1 ≤ nn.1 + 4000; omega⟩, by show nn.2 ≤ nn.2 + 3; omega, by show nn.2 + 3 ≤ nn.2 + 40000; omega⟩
                       first
                       | (rw [show 238 + 3 * p + 1 + w = 238 + 3 * p + 1 by omega])
                       | (rw [show 238 + 3 * p + 1 + w = 238 + 3 * p + 2 by omega]))
                · refine TGo.new (ci := 11) (N := 3) nwX0_148 dX0_put_105 rfl rfl (fun z105 e105 => ?_)
                  have hraw : va_up sh nn.1 (111, 0) nn.1 = (111, 0) := va_up_self _ _ _
                  have hw0 : w = 0 := by omega
                  have hPr : va_up sh nn.1 (111, 0) (gp p.toNat) = (19, 0) := (va_up_ne _ _ (by have := kn (gp p.toNat) (by rw [hpe.2.1]; show (19 : Nat) ≠ 0; decide); omega)).trans hpe.2.1
                  refine TGo.dup dX0_put_108 rfl ?_
                  refine TGo.al dX0_put_109 rfl ?_
                  refine TGo.getI (t := 19) 0 0 hPr rfl fgX0_216_11 dX0_put_111 rfl rfl rfl ?_
                  refine TGo.toz _ (hpe.2.2.1) ?_
                  refine TGo.il3 dX0_put_114 rfl ?_
                  refine TGo.al dX0_put_115 rfl ?_
                  refine TGo.getI (t := 19) 2 2 hPr rfl fgX0_219_11 dX0_put_117 rfl rfl rfl ?_
                  refine TGo.toz _ (hpe.2.2.2.2) ?_
                  refine TGo.callG (csI3 (y2 := mX11_init) 2 rfl dX0_put_120 q781 q782 rfl rfl okX11_init npX11_init rfl rfl) (kX11_init hraw) (fun o120 sh120 nn120 V120 e120 h120 => ?_)
                  obtain ⟨rfl, rfl, rfl, rfl⟩ := h120
                  have hB26 : B + 26 < nn.1 := kn _ (by rw [hB 26 (by decide)]; decide)
                  have hap : ap < nn.1 := kn ap (by rw [hp1.1.2.2.2.1]; show (5 : Nat) ≠ 0; decide)
                  have hpn : gp p.toNat < nn.1 := kn _ (by rw [hpe.2.1]; show (19 : Nat) ≠ 0; decide)
                  have hlt : ∀ a, a < nn.1 → (va_up (va_up sh nn.1 (111, 0)) nn.1 (19, 0)) a = sh a := fun a ha => (va_up_ne _ _ (by omega)).trans (va_up_ne _ _ (by omega))
                  have hxP : (va_up (va_up sh nn.1 (111, 0)) nn.1 (19, 0)) nn.1 = (19, 0) := va_up_self _ _ _
                  have hPx : (va_up (va_up sh nn.1 (111, 0)) nn.1 (19, 0)) (gp p.toNat) = (19, 0) := (hlt _ hpn).trans hpe.2.1
                  have hB1 : XSh B (va_up (va_up sh nn.1 (111, 0)) nn.1 (19, 0)) := fun i hi => (hlt _ (kn _ (by rw [hB i hi]; exact (xNz hi).2.1))).trans (hB i hi)
                  have hVP : ∀ a, a ≠ nn.1 → (vI (vI (vI V nn.1 0 (z.2 3 (238 + 3 * p))) nn.1 1 (v)) nn.1 2 (z.2 3 (238 + 3 * p + 2))).1 a = V.1 a := fun a ha => (u2_a ha).trans ((u2_a ha).trans (u2_a ha))
                  have hL1 : LiR (va_up (va_up sh nn.1 (111, 0)) nn.1 (19, 0)) (vI (vI (vI V nn.1 0 (z.2 3 (238 + 3 * p))) nn.1 1 (v)) nn.1 2 (z.2 3 (238 + 3 * p + 2))) (B + 26) ap cp (z.2 3 1).toNat gp := hp1.1.keep (fun a ha => hlt a (kn a ha)) (congrFun (hVP _ (by omega)) 2) rfl rfl
                  show TGo _ _ _ _ _ _ _ _ _ _
                  refine TGo.goto 144 dX0_put_123 (by decide) ?_
                  refine TGo.cW (csV2 (y2 := mJ2_set) (t := 20) 3 rfl (hB1 26 (by decide)) rfl rfl dX0_put_144 q819 q820 q821 okJ2_set npJ2_set rfl rfl) (kJ2_set hL1 (by omega) hxP rfl) ?_
                  have ew : (za z 3 (238 + 3 * p + 1 + w) v).2 3 (238 + 3 * p + 1) = v := by
                    have q := @zf3s z (238 + 3 * p + 1 + w) v
                    have e : 238 + 3 * p + 1 + w = 238 + 3 * p + 1 := by omega
                    rw [e] at q ⊢
                    exact q
                  have q1 := hL1.setp (k := p.toNat) (by omega) hxP rfl
                  have hVs : ∀ a, a < nn.1 → a ≠ B + 26 → a ≠ ap → (vR (vI (vI (vI V nn.1 0 (z.2 3 (238 + 3 * p))) nn.1 1 (v)) nn.1 2 (z.2 3 (238 + 3 * p + 2))) ap ((p.toNat : Nat) : Int) (some nn.1)).1 a = V.1 a ∧ (vR (vI (vI (vI V nn.1 0 (z.2 3 (238 + 3 * p))) nn.1 1 (v)) nn.1 2 (z.2 3 (238 + 3 * p + 2))) ap ((p.toNat : Nat) : Int) (some nn.1)).2.1 a = V.2.1 a ∧ (vR (vI (vI (vI V nn.1 0 (z.2 3 (238 + 3 * p))) nn.1 1 (v)) nn.1 2 (z.2 3 (238 + 3 * p + 2))) ap ((p.toNat : Nat) : Int) (some nn.1)).2.2 a = V.2.2 a := fun a ha h1 h2 => ⟨hVP a (by omega), rfl, u2_a h2⟩
                  have hEs : ∀ i : Int, 0 ≤ i → i < (cp : Int) → ∀ y, (vR (vI (vI (vI V nn.1 0 (z.2 3 (238 + 3 * p))) nn.1 1 (v)) nn.1 2 (z.2 3 (238 + 3 * p + 2))) ap ((p.toNat : Nat) : Int) (some nn.1)).2.2 ap i = some y → y = nn.1 ∨ ∃ j : Int, (0 ≤ j ∧ j < (cp : Int)) ∧ V.2.2 ap j = some y := fun i i0 i1 y hy => by
                    have hy : u2 V.2.2 ap ((p.toNat : Nat) : Int) (some nn.1) ap i = some y := hy
                    by_cases e : i = ((p.toNat : Nat) : Int)
                    · subst e; rw [u2_s] at hy; exact Or.inl (Option.some.inj hy).symm
                    · rw [u2_n (Or.inr e)] at hy; exact Or.inr ⟨i, ⟨i0, i1⟩, hy⟩
                  have hx0 : (vR (vI (vI (vI V nn.1 0 (z.2 3 (238 + 3 * p))) nn.1 1 (v)) nn.1 2 (z.2 3 (238 + 3 * p + 2))) ap ((p.toNat : Nat) : Int) (some nn.1)).1 nn.1 0 = (za z 3 (238 + 3 * p + 1 + w) v).2 3 (238 + 3 * p) ∧ (vR (vI (vI (vI V nn.1 0 (z.2 3 (238 + 3 * p))) nn.1 1 (v)) nn.1 2 (z.2 3 (238 + 3 * p + 2))) ap ((p.toNat : Nat) : Int) (some nn.1)).1 nn.1 1 = (za z 3 (238 + 3 * p + 1 + w) v).2 3 (238 + 3 * p + 1) ∧ (vR (vI (vI (vI V nn.1 0 (z.2 3 (238 + 3 * p))) nn.1 1 (v)) nn.1 2 (z.2 3 (238 + 3 * p + 2))) ap ((p.toNat : Nat) : Int) (some nn.1)).1 nn.1 2 = (za z 3 (238 + 3 * p + 1 + w) v).2 3 (238 + 3 * p + 2) :=
                    ⟨((u2_n (Or.inr (by decide))).trans ((u2_n (Or.inr (by decide))).trans u2_s)).trans (zf3 (by omega)).symm, ((u2_n (Or.inr (by decide))).trans u2_s).trans ew.symm, u2_s.trans (zf3 (by omega)).symm⟩
                  have hRs := hR.setP (nn' := (nn.1 + 1, nn.2 + 3)) (A1 := ap) (c1 := cp) (p := p) (w := w) (v := v) (by assumption) (by omega) W hp1 hp2 ⟨av, al, cv, cl, gv, gl, hne, ⟨hv1, hv2⟩, hl1, hl2⟩ hlt q1 (Or.inl rfl) hVs hEs hxP hx0 (by show nn.1 < nn.1 + 1; omega)
                  obtain ⟨hB3, -, hcs, -⟩ := id hRs
                  have g1 : (vR (vI (vI (vI V nn.1 0 (z.2 3 (238 + 3 * p))) nn.1 1 (v)) nn.1 2 (z.2 3 (238 + 3 * p + 2))) ap ((p.toNat : Nat) : Int) (some nn.1)).1 (gp p.toNat) 1 = z.2 3 (238 + 3 * p + 1) := (congrFun (hVP _ (by omega)) 1).trans hpe.2.2.2.1
                  have g2 : (vR (vI (vI (vI V nn.1 0 (z.2 3 (238 + 3 * p))) nn.1 1 (v)) nn.1 2 (z.2 3 (238 + 3 * p + 2))) ap ((p.toNat : Nat) : Int) (some nn.1)).1 (gp p.toNat) 2 = z.2 3 (238 + 3 * p + 2) := (congrFun (hVP _ (by omega)) 2).trans hpe.2.2.2.2
                  refine TGo.pop dX0_put_147 rfl ?_
                  refine TGo.al0 dX0_put_148 rfl ?_
                  refine TGo.il2 dX0_put_149 rfl ?_
                  refine TGo.if_ne 161 dX0_put_150 (by decide) (by omega) (fun h150 => ?_) (fun h150 => ?_)
                  · refine TGo.al dX0_put_161 rfl ?_
                    refine TGo.getI (t := 19) 2 2 hPx rfl fgX0_219_11 dX0_put_163 rfl rfl rfl ?_
                    refine TGo.toz _ (g2) ?_
                    refine TGo.cS (csV1 (y2 := mX0_done) (t := 8) 1 rfl (hB1 0 (by decide)) rfl rfl dX0_put_166 q695 q697 qs3 okX0_done npX0_done rfl rfl) (kX0_done hB3 hcs) (fun v166 V166 h166 => ?_)
                    obtain ⟨rfl, hcd, hfd⟩ := h166
                    refine TGo.iret dX0_put_169 rfl ?_
                    first
                    | (exfalso; omega)
                    | (have e : zp_put z p w v = (z.2 3 (238 + 3 * p + 1 + w), zi (za z 3 (238 + 3 * p + 1 + w) v) 1 0) := by
                         unfold zp_put
                         rw [if_neg (by omega), if_neg (fun q => q (by assumption)), if_neg (by omega)]
                       rw [e]
                       refine ⟨?_, ⟨_, hRs.wr0 hfd hcd rfl rfl rfl⟩, ⟨by show nn.1 ≤ nn.1 + 1; omega, by show nn.1 + 1 ≤ nn.1 + 4000; omega⟩, by show nn.2 ≤ nn.2 + 3; omega, by show nn.2 + 3 ≤ nn.2 + 40000; omega⟩
                       first
                       | (rw [show 238 + 3 * p + 1 + w = 238 + 3 * p + 1 by omega])
                       | (rw [show 238 + 3 * p + 1 + w = 238 + 3 * p + 2 by omega]))
                  · refine TGo.al dX0_put_153 rfl ?_
                    refine TGo.getI (t := 19) 1 1 hPx rfl fgX0_222_11 dX0_put_155 rfl rfl rfl ?_
                    refine TGo.toz _ (g1) ?_
                    refine TGo.goto 166 dX0_put_158 (by decide) ?_
                    refine TGo.cS (csV1 (y2 := mX0_done) (t := 8) 1 rfl (hB1 0 (by decide)) rfl rfl dX0_put_166 q695 q697 qs3 okX0_done npX0_done rfl rfl) (kX0_done hB3 hcs) (fun v166 V166 h166 => ?_)
                    obtain ⟨rfl, hcd, hfd⟩ := h166
                    refine TGo.iret dX0_put_169 rfl ?_
                    first
                    | (exfalso; omega)
                    | (have e : zp_put z p w v = (z.2 3 (238 + 3 * p + 1 + w), zi (za z 3 (238 + 3 * p + 1 + w) v) 1 0) := by
                         unfold zp_put
                         rw [if_neg (by omega), if_neg (fun q => q (by assumption)), if_neg (by omega)]
                       rw [e]
                       refine ⟨?_, ⟨_, hRs.wr0 hfd hcd rfl rfl rfl⟩, ⟨by show nn.1 ≤ nn.1 + 1; omega, by show nn.1 + 1 ≤ nn.1 + 4000; omega⟩, by show nn.2 ≤ nn.2 + 3; omega, by show nn.2 + 3 ≤ nn.2 + 40000; omega⟩
                       first
                       | (rw [show 238 + 3 * p + 1 + w = 238 + 3 * p + 1 by omega])
                       | (rw [show 238 + 3 * p + 1 + w = 238 + 3 * p + 2 by omega]))
              · refine TGo.al0 dX0_put_87 rfl ?_
                refine TGo.icm1 dX0_put_88 ?_
                refine TGo.cS (csV1 (y2 := mX0_refuse) (t := 8) 1 rfl (hB 0 (by decide)) rfl rfl dX0_put_89 q601 q603 qs1 okX0_refuse npX0_refuse rfl rfl) (kX0_refuse hB hc (by omega)) (fun v89 V89 h89 => ?_)
                obtain ⟨rfl, hc89, hf89⟩ := h89
                refine TGo.iret dX0_put_92 rfl ?_
                first
                | (exfalso; omega)
                | (refine hR.leaf W (FrX.rf.tr hf89) hc89 ((zTell_2 rfl).trans rfl) ((zTell_2 rfl).trans rfl) (StA.rf.tell) ?_
                   unfold zp_put
                   (repeat (first | rw [if_pos (by first | rfl | assumption | omega)] | rw [if_neg (by first | decide | assumption | omega)]))
                   (try first | rfl))
          · refine TGo.al0 dX0_put_51 rfl ?_
            refine TGo.bip (-2) dX0_put_52 (by decide) ?_
            refine TGo.cS (csV1 (y2 := mX0_refuse) (t := 8) 1 rfl (hB 0 (by decide)) rfl rfl dX0_put_54 q601 q603 qs1 okX0_refuse npX0_refuse rfl rfl) (kX0_refuse hB hc (by omega)) (fun v54 V54 h54 => ?_)
            obtain ⟨rfl, hc54, hf54⟩ := h54
            refine TGo.iret dX0_put_57 rfl ?_
            first
            | (exfalso; omega)
            | (refine hR.leaf W (FrX.rf.tr hf54) hc54 ((zTell_2 rfl).trans rfl) ((zTell_2 rfl).trans rfl) (StA.rf.tell) ?_
               unfold zp_put
               (repeat (first | rw [if_pos (by first | rfl | assumption | omega)] | rw [if_neg (by first | decide | assumption | omega)]))
               (try first | rfl))
        · refine TGo.al0 dX0_put_37 rfl ?_
          refine TGo.icm1 dX0_put_38 ?_
          refine TGo.cS (csV1 (y2 := mX0_refuse) (t := 8) 1 rfl (hB 0 (by decide)) rfl rfl dX0_put_39 q601 q603 qs1 okX0_refuse npX0_refuse rfl rfl) (kX0_refuse hB hc (by omega)) (fun v39 V39 h39 => ?_)
          obtain ⟨rfl, hc39, hf39⟩ := h39
          refine TGo.iret dX0_put_42 rfl ?_
          first
          | (exfalso; omega)
          | (refine hR.leaf W (FrX.rf.tr hf39) hc39 ((zTell_2 rfl).trans rfl) ((zTell_2 rfl).trans rfl) (StA.rf.tell) ?_
             unfold zp_put
             (repeat (first | rw [if_pos (by first | rfl | assumption | omega)] | rw [if_neg (by first | decide | assumption | omega)]))
             (try first | rfl))
