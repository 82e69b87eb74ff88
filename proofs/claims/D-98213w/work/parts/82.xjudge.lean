/-! X: judge -/
set_option maxRecDepth 100000
theorem XC.sx {V : VT} {B i : Nat} {z : ZT} {k v : Int} (h : XC V B z) (hi : 34 ≤ i ∧ i ≠ 66 ∧ i ≠ 68) : XC (vI V (B + i) k v) B z := by
  obtain ⟨⟨n1, n2, n3, n4, n5, n6, n7⟩, s1, s2, s3, s4⟩ := h
  have q : ∀ a, a ≠ B + i → (vI V (B + i) k v).1 a = V.1 a := fun a ha => u2_a ha
  refine ⟨⟨n1, ?_, fun i i0 i1 => ?_, fun i i0 i1 => ?_, fun i i0 i1 => ?_, fun i i0 i1 => ?_, fun p hp6 hp r r0 r1 => ?_⟩, ?_, fun j j0 j1 => ?_, fun i i0 i1 => ?_, fun h => ?_⟩
  · rw [q _ (by omega)]; exact n2
  · rw [q _ (by omega)]; exact n3 i i0 i1
  · rw [q _ (by omega)]; exact n4 i i0 i1
  · rw [q _ (by omega)]; exact n5 i i0 i1
  · rw [q _ (by omega)]; exact n6 i i0 i1
  · have w := n7 p hp6 hp r r0 r1
    rw [q _ (by omega), q _ (by omega)]; exact w
  · rw [q _ (by omega)]; exact s1
  · rw [q _ (by omega)]; exact s2 j j0 j1
  · rw [q _ (by omega)]; exact s3 i i0 i1
  · rw [q _ (by omega), q _ (by omega)]; exact s4 h
set_option maxHeartbeats 4000000 in
theorem lX0_judge {E : ET} {sh : SHT} {nn : Nat × Nat} {V0 : VT} {B S m : Nat} {z : ZT} {kn dd : Int → Int} {v : Int} (hB : XSh B sh) (hS : ScS sh S) (hm : z.2 3 6 = (m : Int)) (hm2 : m ≤ 12) (hdd : ∀ i, z.2 3 (742 + i) = dd i) (hk : ∀ r, 0 ≤ r → r < 36 → cOK (kn r)) (hd : DdZ dd m) (K : ∀ V, FrX B V0 V → ScV V S kn) : ∀ (n j : Nat) (V : VT), m - j < n → j ≤ m → FrX B V0 V → XC V B z → (∀ r, 0 ≤ r → r < 4 → V.1 (B + 60) r = juS kn dd j r) → juF kn dd j = -1 → TGo E mX0_judge 5 38 [some (.ref B), some (.int (iI v)), some (.ref S), some (.int (iI (((j) : Nat) : Int))), none, none] [] sh nn V (fun o sh' nn' V' => o = .inl (some (.int (iI (juF kn dd m)))) ∧ sh' = sh ∧ nn' = nn ∧ FrX B V0 V' ∧ XC V' B z) := by
  intro n
  induction n with
  | zero => intro j V h; omega
  | succ n ih =>
    intro j V hn hj hf hc hx hF
    have hv := K V hf
    have hsr := juS_r hk hd j hj hF
    have hdj := fun (q : (j : Int) < m) => hd (j : Int) (by omega) q
    refine TGo.il3 dX0_judge_38 rfl ?_
    refine TGo.al0 dX0_judge_39 rfl ?_
    refine TGo.getS (t := 8) 2 2 (B + 2) (hB 0 (by decide)) rfl fgX0_16_0 dX0_judge_40 rfl rfl rfl ?_
    refine TGo.getI (t := 9) 10 10 (hB 2 (by decide)) rfl fgX0_482_1 dX0_judge_43 rfl rfl rfl ?_
    refine TGo.toz _ (hc.1.2.1.2.2.1.trans hm) ?_
    refine TGo.icmp_ge 155 dX0_judge_46 (by decide) (by omega) (fun h46 => ?_) (fun h46 => ?_)
    · refine TGo.icm1 dX0_judge_155 ?_
      refine TGo.iret dX0_judge_156 rfl ?_
      obtain rfl : j = m := by omega
      exact ⟨by rw [hF], rfl, rfl, hf, hc⟩
    · have hdj := hdj (by omega)
      have hst := hsr (dd (3 * (j : Int)))
      refine TGo.al0 dX0_judge_49 rfl ?_
      refine TGo.getS (t := 8) 2 2 (B + 2) (hB 0 (by decide)) rfl fgX0_16_0 dX0_judge_50 rfl rfl rfl ?_
      refine TGo.getS (t := 9) 3 3 (B + 24) (hB 2 (by decide)) rfl fgX0_485_1 dX0_judge_53 rfl rfl rfl ?_
      refine TGo.ic3 dX0_judge_56 ?_
      refine TGo.il3 dX0_judge_57 rfl ?_
      refine TGo.imul dX0_judge_58 ?_
      refine TGo.iald dX0_judge_59 (hB 24 (by decide)) (by omega) rfl ?_
      refine TGo.toz _ ((hc.1.2.2.2.2.1 _ (by omega) (by omega)).trans (hdd _)) ?_
      refine TGo.is dX0_judge_60 rfl rfl ?_
      refine TGo.al0 dX0_judge_62 rfl ?_
      refine TGo.getS (t := 8) 16 16 (B + 60) (hB 0 (by decide)) rfl fgX0_82_0 dX0_judge_63 rfl rfl rfl ?_
      refine TGo.il dX0_judge_66 rfl ?_
      refine TGo.iald dX0_judge_68 (hB 60 (by decide)) (by omega) rfl ?_
      refine TGo.toz _ (hx _ (by omega) (by omega)) ?_
      refine TGo.is dX0_judge_69 rfl rfl ?_
      refine TGo.il dX0_judge_71 rfl ?_
      refine TGo.icm1 dX0_judge_73 ?_
      refine TGo.icmp_eq 117 dX0_judge_74 (by decide) (by omega) (fun h74 => ?_) (fun h74 => ?_)
      · refine TGo.il3 dX0_judge_117 rfl ?_
        refine TGo.iret dX0_judge_118 rfl ?_
        have hno : ¬ juOK kn dd j := fun q => by first | exact absurd (by assumption) q.1 | exact absurd q.2 (by assumption)
        exact ⟨by rw [juF_stay (by rw [juF_no hF hno]; omega) m (by omega), juF_no hF hno], rfl, rfl, hf, hc⟩
      · have hco : -1 ≤ kn (6 * juS kn dd j (dd (3 * (j : Int))) + dd (3 * (j : Int) + 1)) ∧ kn (6 * juS kn dd j (dd (3 * (j : Int))) + dd (3 * (j : Int) + 1)) < 60 := hk _ (by omega) (by omega)
        have hwz : -1 ≤ wZ (kn (6 * juS kn dd j (dd (3 * (j : Int))) + dd (3 * (j : Int) + 1))) ∧ wZ (kn (6 * juS kn dd j (dd (3 * (j : Int))) + dd (3 * (j : Int) + 1))) ≤ 9 := by unfold wZ; split <;> omega
        refine TGo.al2 dX0_judge_77 rfl ?_
        refine TGo.getS (t := 10) 0 0 (S + 1) hS.1 rfl fgX0_187_2 dX0_judge_78 rfl rfl rfl ?_
        refine TGo.bip 6 dX0_judge_81 (by decide) ?_
        refine TGo.il dX0_judge_83 rfl ?_
        refine TGo.imul dX0_judge_85 ?_
        refine TGo.al0 dX0_judge_86 rfl ?_
        refine TGo.getS (t := 8) 2 2 (B + 2) (hB 0 (by decide)) rfl fgX0_16_0 dX0_judge_87 rfl rfl rfl ?_
        refine TGo.getS (t := 9) 3 3 (B + 24) (hB 2 (by decide)) rfl fgX0_485_1 dX0_judge_90 rfl rfl rfl ?_
        refine TGo.ic3 dX0_judge_93 ?_
        refine TGo.il3 dX0_judge_94 rfl ?_
        refine TGo.imul dX0_judge_95 ?_
        refine TGo.ic1 dX0_judge_96 ?_
        refine TGo.iadd dX0_judge_97 ?_
        refine TGo.iald dX0_judge_98 (hB 24 (by decide)) (by omega) rfl ?_
        refine TGo.toz _ ((hc.1.2.2.2.2.1 _ (by omega) (by omega)).trans (hdd _)) ?_
        refine TGo.iadd dX0_judge_99 ?_
        refine TGo.iald dX0_judge_100 hS.2.1 (by omega) rfl ?_
        refine TGo.toz _ ((hv _ (by omega) (by omega)).1) ?_
        refine TGo.al0 dX0_judge_101 rfl ?_
        refine TGo.getS (t := 8) 2 2 (B + 2) (hB 0 (by decide)) rfl fgX0_16_0 dX0_judge_102 rfl rfl rfl ?_
        refine TGo.getS (t := 9) 3 3 (B + 24) (hB 2 (by decide)) rfl fgX0_485_1 dX0_judge_105 rfl rfl rfl ?_
        refine TGo.ic3 dX0_judge_108 ?_
        refine TGo.il3 dX0_judge_109 rfl ?_
        refine TGo.imul dX0_judge_110 ?_
        refine TGo.ic2 dX0_judge_111 ?_
        refine TGo.iadd dX0_judge_112 ?_
        refine TGo.iald dX0_judge_113 (hB 24 (by decide)) (by omega) rfl ?_
        refine TGo.toz _ ((hc.1.2.2.2.2.1 _ (by omega) (by omega)).trans (hdd _)) ?_
        refine TGo.icmp_eq 119 dX0_judge_114 (by decide) (by omega) (fun h114 => ?_) (fun h114 => ?_)
        · refine TGo.al0 dX0_judge_119 rfl ?_
          refine TGo.getS (t := 8) 16 16 (B + 60) (hB 0 (by decide)) rfl fgX0_82_0 dX0_judge_120 rfl rfl rfl ?_
          refine TGo.il dX0_judge_123 rfl ?_
          refine TGo.al2 dX0_judge_125 rfl ?_
          refine TGo.bip 6 dX0_judge_126 (by decide) ?_
          refine TGo.il dX0_judge_128 rfl ?_
          refine TGo.imul dX0_judge_130 ?_
          refine TGo.al0 dX0_judge_131 rfl ?_
          refine TGo.getS (t := 8) 2 2 (B + 2) (hB 0 (by decide)) rfl fgX0_16_0 dX0_judge_132 rfl rfl rfl ?_
          refine TGo.getS (t := 9) 3 3 (B + 24) (hB 2 (by decide)) rfl fgX0_485_1 dX0_judge_135 rfl rfl rfl ?_
          refine TGo.ic3 dX0_judge_138 ?_
          refine TGo.il3 dX0_judge_139 rfl ?_
          refine TGo.imul dX0_judge_140 ?_
          refine TGo.ic1 dX0_judge_141 ?_
          refine TGo.iadd dX0_judge_142 ?_
          refine TGo.iald dX0_judge_143 (hB 24 (by decide)) (by omega) rfl ?_
          refine TGo.toz _ ((hc.1.2.2.2.2.1 _ (by omega) (by omega)).trans (hdd _)) ?_
          refine TGo.iadd dX0_judge_144 ?_
          refine TGo.cF (csV1 (y2 := mX2_next) (t := 10) 2 rfl hS.1 rfl rfl dX0_judge_145 q740 q741 q742 okX2_next npX2_next rfl rfl) (kX2_next hS hv (by omega) (hk _ (by omega) (by omega))) ?_
          refine TGo.iast dX0_judge_148 (hB 60 (by decide)) (by omega) rfl ?_
          refine TGo.iinc dX0_judge_149 rfl rfl rfl ?_
          refine TGo.goto 38 dX0_judge_152 (by decide) ?_
          have hok : juOK kn dd j := ⟨by assumption, by omega⟩
          refine TGo.forget 5 (TGo.forget 4 ?_)
          refine TGo.seq [some (.ref B), some (.int (iI v)), some (.ref S), some (.int (iI (((j + 1) : Nat) : Int))), none, none] [] _ rfl rfl rfl (ih (j + 1) _ (by omega) (by omega) (hf.i 60 rfl) (hc.sx (by omega)) (fun r r0 r1 => ?_) (juF_ok hF hok))
          show u2 V.1 (B + 60) _ _ (B + 60) r = zu (juS kn dd j) (dd (3 * (j : Int))) _ r
          by_cases e : r = dd (3 * (j : Int))
          · rw [e, u2_s, zu_s]
          · rw [u2_n (Or.inr e), zu_n e]; exact hx r r0 r1
        · refine TGo.il3 dX0_judge_117 rfl ?_
          refine TGo.iret dX0_judge_118 rfl ?_
          have hno : ¬ juOK kn dd j := fun q => by first | exact absurd (by assumption) q.1 | exact absurd q.2 (by assumption)
          exact ⟨by rw [juF_stay (by rw [juF_no hF hno]; omega) m (by omega), juF_no hF hno], rfl, rfl, hf, hc⟩
set_option maxHeartbeats 4000000 in
theorem zX0_judge {E : ET} {sh : SHT} {nn : Nat × Nat} {V0 : VT} {B S m : Nat} {z : ZT} {kn dd : Int → Int} {v : Int} (hB : XSh B sh) (hS : ScS sh S) (hm : z.2 3 6 = (m : Int)) (hm2 : m ≤ 12) (hdd : ∀ i, z.2 3 (742 + i) = dd i) (hk : ∀ r, 0 ≤ r → r < 36 → cOK (kn r)) (hd : DdZ dd m) (K : ∀ V, FrX B V0 V → ScV V S kn) : ∀ (n j : Nat) (V : VT), 4 - j < n → j ≤ 4 → FrX B V0 V → XC V B z → (∀ r, 0 ≤ r → r < (j : Int) → V.1 (B + 60) r = 0) → TGo E mX0_judge 5 18 [some (.ref B), some (.int (iI v)), some (.ref S), some (.int (iI (((j) : Nat) : Int))), none, none] [] sh nn V (fun o sh' nn' V' => o = .inl (some (.int (iI (juF kn dd m)))) ∧ sh' = sh ∧ nn' = nn ∧ FrX B V0 V' ∧ XC V' B z) := by
  intro n
  induction n with
  | zero => intro j V h; omega
  | succ n ih =>
    intro j V hn hj hf hc hx
    refine TGo.il3 dX0_judge_18 rfl ?_
    refine TGo.ic4 dX0_judge_19 ?_
    refine TGo.icmp_ge 36 dX0_judge_20 (by decide) (by omega) (fun h20 => ?_) (fun h20 => ?_)
    · refine TGo.ic0 dX0_judge_36 ?_
      refine TGo.is3 dX0_judge_37 rfl rfl ?_
      exact TGo.seq [some (.ref B), some (.int (iI v)), some (.ref S), some (.int (iI (((0) : Nat) : Int))), none, none] [] _ rfl rfl rfl (lX0_judge hB hS hm hm2 hdd hk hd K (m + 1) 0 _ (by omega) (by omega) hf hc (fun r r0 r1 => hx r r0 (by omega)) rfl)
    · refine TGo.al0 dX0_judge_23 rfl ?_
      refine TGo.getS (t := 8) 16 16 (B + 60) (hB 0 (by decide)) rfl fgX0_82_0 dX0_judge_24 rfl rfl rfl ?_
      refine TGo.il3 dX0_judge_27 rfl ?_
      refine TGo.ic0 dX0_judge_28 ?_
      refine TGo.iast dX0_judge_29 (hB 60 (by decide)) (by omega) rfl ?_
      refine TGo.iinc dX0_judge_30 rfl rfl rfl ?_
      refine TGo.goto 18 dX0_judge_33 (by decide) ?_
      refine TGo.seq [some (.ref B), some (.int (iI v)), some (.ref S), some (.int (iI (((j + 1) : Nat) : Int))), none, none] [] _ rfl rfl rfl (ih (j + 1) _ (by omega) (by omega) (hf.i 60 rfl) (hc.sx (by omega)) (fun r r0 r1 => ?_))
      show u2 V.1 (B + 60) (j : Int) 0 (B + 60) r = 0
      by_cases e : r = (j : Int)
      · rw [e, u2_s]
      · rw [u2_n (Or.inr e)]; exact hx r r0 (by omega)
set_option maxHeartbeats 4000000 in
theorem kX0_judge {E : ET} {sh : SHT} {nn : Nat × Nat} {V : VT} {B : Nat} {ow : Nat → Nat} {z : ZT} {v : Int} (hR : XR ow sh nn V B z) (W : RWZ (z.2 3)) (rv : R32 v) : TC E mX0_judge 5 [.ref B, .int (iI v)] sh nn V (XP B nn (zp_judge z v)) := by
  obtain ⟨hB, how, hc, -⟩ := id hR
  have w2 := W.1.2.2.1
  have w6 := W.1.2.2.2.2.2.2.1
  refine TC.intro [some (.ref B), some (.int (iI v)), none, none, none, none] rfl ?_
  refine TGo.al0 dX0_judge_0 rfl ?_
  refine TGo.il1 dX0_judge_1 rfl ?_
  refine TGo.cF (csV1 (y2 := mX0_isVersion) (t := 8) 2 rfl (hB 0 (by decide)) rfl rfl dX0_judge_2 q1496 q1498 qs19 okX0_isVersion npX0_isVersion rfl rfl) (kX0_isVersion hR W (by omega)) ?_
  refine TGo.ifb_ne 10 dX0_judge_5 (by decide) (fun h5 => ?_) (fun h5 => ?_)
  · refine TGo.al0 dX0_judge_10 rfl ?_
    refine TGo.il1 dX0_judge_11 rfl ?_
    refine TGo.callG (csV1 (y2 := mX0_scriptOf) (t := 8) 4 rfl (hB 0 (by decide)) rfl rfl dX0_judge_12 q1548 q1550 qs23 okX0_scriptOf npX0_scriptOf rfl rfl) (kX0_scriptOf hR W (v := v) (by assumption)) (fun o12 sh12 nn12 V12 e12 h12 => ?_)
    obtain ⟨⟨S, rfl, ⟨vS, vV⟩, vo⟩, rfl, rfl, rfl⟩ := h12
    show TGo _ _ _ _ _ _ _ _ _ _
    refine TGo.as2 dX0_judge_15 rfl rfl ?_
    refine TGo.ic0 dX0_judge_16 ?_
    refine TGo.is3 dX0_judge_17 rfl rfl ?_
    have hK : ∀ V1, FrX B V12 V1 → ScV V1 S (fun r => z.2 3 (298 + 36 * v + r)) := fun V1 hf r r0 r1 => by
      rw [(hf (S + 1) (fun i hi => xWo how hi (by rw [vo.2.1]; decide))).1, (hf (S + 2) (fun i hi => xWo how hi (by rw [vo.2.2]; decide))).1]
      exact vV r r0 r1
    refine (zX0_judge (kn := fun r => z.2 3 (298 + 36 * v + r)) (dd := fun i => z.2 3 (742 + i)) (m := (z.2 3 6).toNat) hB vS (Int.toNat_of_nonneg (by omega)).symm (by omega) (fun _ => rfl) (fun r h0 h1 => W.2.2.2.2.2.1 v r (by omega) (by omega) h0 h1) (WDd W) hK 5 0 _ (by omega) (by omega) FrX.rf hc (fun r h0 h1 => absurd h1 (by omega))).mono ?_
    rintro o sh' nn' V' ⟨rfl, rfl, rfl, hf, hc'⟩
    refine ⟨?_, ⟨ow, ?_⟩, ⟨Nat.le_refl _, by omega⟩, Nat.le_refl _, by omega⟩
    · unfold zp_judge
      rw [if_neg (fun q => q (by assumption))]
    · unfold zp_judge
      rw [if_neg (fun q => q (by assumption))]
      exact hR.wr0 hf hc' rfl rfl rfl
  · refine TGo.icm1 dX0_judge_8 ?_
    refine TGo.iret dX0_judge_9 rfl ?_
    refine hR.same ?_
    unfold zp_judge
    rw [if_pos (by assumption)]
