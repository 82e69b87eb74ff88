/-! X: asks -/
set_option maxRecDepth 100000
/-- only what is looked at may differ -/
def F36 (B : Nat) (V V' : VT) : Prop := V'.1 = V.1 ∧ (∀ a, a ≠ B + 36 → V'.2.1 a = V.2.1 a) ∧ V'.2.2 = V.2.2
theorem F36.rf {B : Nat} {V : VT} : F36 B V V := ⟨rfl, fun _ _ => rfl, rfl⟩
theorem F36.tr {B : Nat} {V V1 V2 : VT} (h : F36 B V V1) (h2 : F36 B V1 V2) : F36 B V V2 := ⟨h2.1.trans h.1, fun a ha => (h2.2.1 a ha).trans (h.2.1 a ha), h2.2.2.trans h.2.2⟩
theorem F36.s {B : Nat} {V V' : VT} (h : F36 B V V') : FrS B V V' := fun a ha => ⟨by rw [h.1], h.2.1 a (ha 36 (by omega)), by rw [h.2.2]⟩
theorem F36.x {B : Nat} {V V' : VT} (h : F36 B V V') : FrX B V V' := h.s.x
theorem F36.l {B : Nat} {V V' : VT} {k v : Int} (h : F36 B V V') : F36 B V (vL V' (B + 36) k v) := ⟨h.1, fun a ha => (u2_a ha).trans (h.2.1 a ha), h.2.2⟩
theorem set8 {B : Nat} {V : VT} {f : Int → Int} {p a t y : Int} : SetV B (vL (vL (vL (vL (vL (vL (vL (vL V (B + 36) 0 p) (B + 36) 1 (f (238 + 3 * p + 2))) (B + 36) 2 (f (238 + 3 * p))) (B + 36) 3 (f (238 + 3 * p + 1))) (B + 36) 4 a) (B + 36) 5 t) (B + 36) 6 y) (B + 36) 7 (f 8)) (valZ f p a t y) := fun k k0 k1 => by
  rcases (show k = 0 ∨ k = 1 ∨ k = 2 ∨ k = 3 ∨ k = 4 ∨ k = 5 ∨ k = 6 ∨ k = 7 by omega) with e | e | e | e | e | e | e | e <;> subst e
  · exact (u2_n (Or.inr (by decide))).trans ((u2_n (Or.inr (by decide))).trans ((u2_n (Or.inr (by decide))).trans ((u2_n (Or.inr (by decide))).trans ((u2_n (Or.inr (by decide))).trans ((u2_n (Or.inr (by decide))).trans ((u2_n (Or.inr (by decide))).trans (u2_s)))))))
  · exact (u2_n (Or.inr (by decide))).trans ((u2_n (Or.inr (by decide))).trans ((u2_n (Or.inr (by decide))).trans ((u2_n (Or.inr (by decide))).trans ((u2_n (Or.inr (by decide))).trans ((u2_n (Or.inr (by decide))).trans (u2_s))))))
  · exact (u2_n (Or.inr (by decide))).trans ((u2_n (Or.inr (by decide))).trans ((u2_n (Or.inr (by decide))).trans ((u2_n (Or.inr (by decide))).trans ((u2_n (Or.inr (by decide))).trans (u2_s)))))
  · exact (u2_n (Or.inr (by decide))).trans ((u2_n (Or.inr (by decide))).trans ((u2_n (Or.inr (by decide))).trans ((u2_n (Or.inr (by decide))).trans (u2_s))))
  · exact (u2_n (Or.inr (by decide))).trans ((u2_n (Or.inr (by decide))).trans ((u2_n (Or.inr (by decide))).trans (u2_s)))
  · exact (u2_n (Or.inr (by decide))).trans ((u2_n (Or.inr (by decide))).trans (u2_s))
  · exact (u2_n (Or.inr (by decide))).trans (u2_s)
  · exact u2_s
theorem TGo.gen8 {E : ET} {m : MI} {d pc B : Nat} {ls : LV} {st : List Value} {sh : SHT} {nn : Nat × Nat} {V : VT} {Q : AO → SHT → Nat × Nat → VT → Prop} {f : Int → Int} {p a t y : Int} (k : ∀ V2, F36 B V V2 → SetV B V2 (valZ f p a t y) → TGo E m d pc ls st sh nn V2 Q) : TGo E m d pc ls st sh nn (vL (vL (vL (vL (vL (vL (vL (vL V (B + 36) 0 p) (B + 36) 1 (f (238 + 3 * p + 2))) (B + 36) 2 (f (238 + 3 * p))) (B + 36) 3 (f (238 + 3 * p + 1))) (B + 36) 4 a) (B + 36) 5 t) (B + 36) 6 y) (B + 36) 7 (f 8)) Q := k _ F36.rf.l.l.l.l.l.l.l.l set8
theorem tellZ_d {f : Int → Int} (W : RWZ f) (WL : LawsZ f) {h p a t y w : Int} (hp : 0 ≤ p ∧ p < f 1) (ha : 0 ≤ a ∧ a ≤ 6) (ht : -1 ≤ t ∧ t ≤ 8) (hy : 0 ≤ y ∧ y ≤ 300) : tellZ f h p a t y w = if tellZ f h p a t y (-4000000000) = -4000000000 then w else tellZ f h p a t y (-4000000000) := by
  have w4 := W.1.2.2.2.2.1
  unfold tellZ
  by_cases e : f 4 = -1
  · rw [if_pos e, if_pos e, if_pos rfl]
  · have q := WL (f 4) (by omega) (by omega)
    have q1 := q.1
    rw [if_neg e, if_neg e]
    exact tlZ_d q (valZ_9 W hp ha ht hy) _ (by omega)
theorem tellZ_b {f : Int → Int} (W : RWZ f) (WL : LawsZ f) {h p a t y : Int} (hp : 0 ≤ p ∧ p < f 1) (ha : 0 ≤ a ∧ a ≤ 6) (ht : -1 ≤ t ∧ t ≤ 8) (hy : 0 ≤ y ∧ y ≤ 300) : tellZ f h p a t y (-4000000000) = -4000000000 ∨ (-1000000000 ≤ tellZ f h p a t y (-4000000000) ∧ tellZ f h p a t y (-4000000000) ≤ 1000000000) := by
  have q := tellZ_d W WL (h := h) (w := 0) hp ha ht hy
  have q2 := tellZ_r W WL (h := h) (w := 0) hp ha ht hy (by omega)
  by_cases e : tellZ f h p a t y (-4000000000) = -4000000000
  · exact Or.inl e
  · rw [if_neg e] at q
    rw [q] at q2
    exact Or.inr q2
theorem tellZ_bar {f : Int → Int} (W : RWZ f) (WL : LawsZ f) {p a t y : Int} (hp : 0 ≤ p ∧ p < f 1) (ha : 0 ≤ a ∧ a ≤ 6) (ht : -1 ≤ t ∧ t ≤ 8) (hy : 0 ≤ y ∧ y ≤ 300) : tellZ f 2 p a t y 0 = 1 ↔ tellZ f 2 p a t y (-4000000000) ≠ -4000000000 := by
  have w4 := W.1.2.2.2.2.1
  have q := tellZ_d W WL (h := 2) (w := 0) hp ha ht hy
  have q2 : tellZ f 2 p a t y (-4000000000) = -4000000000 ∨ tellZ f 2 p a t y (-4000000000) = 1 := by
    unfold tellZ
    by_cases e : f 4 = -1
    · rw [if_pos e]; exact Or.inl rfl
    · have q := WL (f 4) (by omega) (by omega)
      have q1 := q.1
      rw [if_neg e]
      exact tlZ_bar q (valZ_9 W hp ha ht hy) _ (by omega)
  rw [q]
  by_cases e : tellZ f 2 p a t y (-4000000000) = -4000000000
  · rw [if_pos e]; omega
  · rw [if_neg e]; omega
set_option maxHeartbeats 4000000 in
theorem kX0_says {E : ET} {sh : SHT} {nn : Nat × Nat} {V : VT} {B : Nat} {ow : Nat → Nat} {z : ZT} {h p a t y : Int} (hR : XR ow sh nn V B z) (W : RWZ (z.2 3)) (WL : LawsZ (z.2 3)) (hp : 0 ≤ p ∧ p < z.2 3 1) (ha : 0 ≤ a ∧ a ≤ 6) (ht : -1 ≤ t ∧ t ≤ 8) (hy : 0 ≤ y ∧ y ≤ 300) (hh : 0 ≤ h ∧ h ≤ 2) : TS E mX0_says 211 [.ref B, .int (iI h), .int (iI p), .int (iI a), .int (iI t), .int (iI y)] sh nn V (fun v V' => v = .long (lI (tellZ (z.2 3) h p a t y (-4000000000))) ∧ XR ow sh nn V' B z ∧ F36 B V V') := by
  obtain ⟨hB, -, hc, -⟩ := id hR
  have w1 := W.1.2.1
  have w3 := W.1.2.2.2.1
  have w4 := W.1.2.2.2.2.1
  have w7 := W.1.2.2.2.2.2.2.2.1
  have w8 := W.1.2.2.2.2.2.2.2.2.1
  obtain ⟨ap, av, al, cp, cv, cl, gp, gv, gl, hne, ⟨hp1, hp2⟩, ⟨hv1, hv2⟩, hl1, hl2⟩ := id hR.2.2.2.1
  have hPe (hq : 0 ≤ p ∧ p < z.2 3 1) : PeR ow sh V (gp p.toNat) (z.2 3) p := by have q := hp2 p.toNat (by omega); rw [Int.toNat_of_nonneg hq.1] at q; exact q
  have hPb (hq : 0 ≤ p ∧ p < z.2 3 1) := W.2.2.2.1 p hq.1 hq.2
  have hpb := hPb hp
  refine TC.intro [some (.ref B), some (.int (iI h)), some (.int (iI p)), some (.int (iI a)), some (.int (iI t)), some (.int (iI y)), none, none] rfl ?_
  refine TGo.al0 dX0_says_0 rfl ?_
  refine TGo.getS (t := 8) 2 2 (B + 2) (hB 0 (by decide)) rfl fgX0_16_0 dX0_says_1 rfl rfl rfl ?_
  refine TGo.getI (t := 9) 11 11 (hB 2 (by decide)) rfl fgX0_295_1 dX0_says_4 rfl rfl rfl ?_
  refine TGo.toz _ (hc.1.2.1.2.2.2) ?_
  refine TGo.icm1 dX0_says_7 ?_
  refine TGo.icmp_ne 15 dX0_says_8 (by decide) (by omega) (fun h8 => ?_) (fun h8 => ?_)
  · refine TGo.al0 dX0_says_15 rfl ?_
    refine TGo.getS (t := 8) 2 2 (B + 2) (hB 0 (by decide)) rfl fgX0_16_0 dX0_says_16 rfl rfl rfl ?_
    refine TGo.getS (t := 9) 5 5 (B + 26) (hB 2 (by decide)) rfl fgX0_126_1 dX0_says_19 rfl rfl rfl ?_
    refine TGo.il2 dX0_says_22 rfl ?_
    refine TGo.toz ((p.toNat : Nat) : Int) (Int.toNat_of_nonneg (by omega)).symm ?_
    refine TGo.cF (csV1 (y2 := mJ2_get) (t := 20) 3 rfl (hB 26 (by decide)) rfl rfl dX0_says_23 q760 q761 q762 okJ2_get npJ2_get rfl rfl) (kJ2_get hp1.1 (k := p.toNat) (by omega)) ?_
    refine TGo.castO (t := 19) dX0_says_26 q779 (hPe (by assumption)).2.1 rfl rfl (Or.inl rfl) ?_
    refine TGo.as dX0_says_29 rfl rfl ?_
    refine TGo.al0 dX0_says_31 rfl ?_
    refine TGo.getS (t := 8) 8 8 (B + 34) (hB 0 (by decide)) rfl fgX0_35_0 dX0_says_32 rfl rfl rfl ?_
    refine TGo.getS (t := 11) 1 1 (B + 36) (hB 34 (by decide)) rfl fgX0_273_3 dX0_says_35 rfl rfl rfl ?_
    refine TGo.as dX0_says_38 rfl rfl ?_
    refine TGo.al dX0_says_40 rfl ?_
    refine TGo.ic0 dX0_says_42 ?_
    refine TGo.il2 dX0_says_43 rfl ?_
    refine TGo.i2l dX0_says_44 (by omega) ?_
    refine TGo.last dX0_says_45 (hB 36 (by decide)) (by omega) rfl ?_
    refine TGo.al dX0_says_46 rfl ?_
    refine TGo.ic1 dX0_says_48 ?_
    refine TGo.al dX0_says_49 rfl ?_
    refine TGo.getI (t := 19) 2 2 (hPe (by assumption)).2.1 rfl fgX0_219_11 dX0_says_51 rfl rfl rfl ?_
    refine TGo.toz _ ((hPe (by assumption)).2.2.2.2) ?_
    refine TGo.i2l dX0_says_54 (by omega) ?_
    refine TGo.last dX0_says_55 (hB 36 (by decide)) (by omega) rfl ?_
    refine TGo.al dX0_says_56 rfl ?_
    refine TGo.ic2 dX0_says_58 ?_
    refine TGo.al dX0_says_59 rfl ?_
    refine TGo.getI (t := 19) 0 0 (hPe (by assumption)).2.1 rfl fgX0_216_11 dX0_says_61 rfl rfl rfl ?_
    refine TGo.toz _ ((hPe (by assumption)).2.2.1) ?_
    refine TGo.i2l dX0_says_64 (by omega) ?_
    refine TGo.last dX0_says_65 (hB 36 (by decide)) (by omega) rfl ?_
    refine TGo.al dX0_says_66 rfl ?_
    refine TGo.ic3 dX0_says_68 ?_
    refine TGo.al dX0_says_69 rfl ?_
    refine TGo.getI (t := 19) 1 1 (hPe (by assumption)).2.1 rfl fgX0_222_11 dX0_says_71 rfl rfl rfl ?_
    refine TGo.toz _ ((hPe (by assumption)).2.2.2.1) ?_
    refine TGo.i2l dX0_says_74 (by omega) ?_
    refine TGo.last dX0_says_75 (hB 36 (by decide)) (by omega) rfl ?_
    refine TGo.al dX0_says_76 rfl ?_
    refine TGo.ic4 dX0_says_78 ?_
    refine TGo.il3 dX0_says_79 rfl ?_
    refine TGo.i2l dX0_says_80 (by omega) ?_
    refine TGo.last dX0_says_81 (hB 36 (by decide)) (by omega) rfl ?_
    refine TGo.al dX0_says_82 rfl ?_
    refine TGo.ic5 dX0_says_84 ?_
    refine TGo.il dX0_says_85 rfl ?_
    refine TGo.i2l dX0_says_87 (by omega) ?_
    refine TGo.last dX0_says_88 (hB 36 (by decide)) (by omega) rfl ?_
    refine TGo.al dX0_says_89 rfl ?_
    refine TGo.bip 6 dX0_says_91 (by decide) ?_
    refine TGo.il dX0_says_93 rfl ?_
    refine TGo.i2l dX0_says_95 (by omega) ?_
    refine TGo.last dX0_says_96 (hB 36 (by decide)) (by omega) rfl ?_
    refine TGo.al dX0_says_97 rfl ?_
    refine TGo.bip 7 dX0_says_99 (by decide) ?_
    refine TGo.al0 dX0_says_101 rfl ?_
    refine TGo.getS (t := 8) 2 2 (B + 2) (hB 0 (by decide)) rfl fgX0_16_0 dX0_says_102 rfl rfl rfl ?_
    refine TGo.getS (t := 9) 4 4 (B + 25) (hB 2 (by decide)) rfl fgX0_154_1 dX0_says_105 rfl rfl rfl ?_
    refine TGo.ic1 dX0_says_108 ?_
    refine TGo.iald dX0_says_109 (hB 25 (by decide)) (by omega) rfl ?_
    refine TGo.toz _ (hc.1.2.2.2.2.2.1 _ (by omega) (by omega)) ?_
    refine TGo.toz (z.2 3 8) rfl ?_
    refine TGo.i2l dX0_says_110 (by omega) ?_
    refine TGo.last dX0_says_111 (hB 36 (by decide)) (by omega) rfl ?_
    refine TGo.gen8 (f := z.2 3) (p := p) (a := a) (t := t) (y := y) (fun V2 hFS hs => ?_)
    have hR2 := hR.sc hFS.s
    obtain ⟨-, -, hc2, -⟩ := id hR2
    obtain ⟨-, -, al2, -, -, cl2, -, -, gl2, -, -, -, hl3, hl4⟩ := id hR2.2.2.2.1
    refine TGo.al0 dX0_says_112 rfl ?_
    refine TGo.getS (t := 8) 2 2 (B + 2) (hB 0 (by decide)) rfl fgX0_16_0 dX0_says_113 rfl rfl rfl ?_
    refine TGo.getS (t := 9) 7 7 (B + 30) (hB 2 (by decide)) rfl fgX0_281_1 dX0_says_116 rfl rfl rfl ?_
    refine TGo.al0 dX0_says_119 rfl ?_
    refine TGo.getS (t := 8) 2 2 (B + 2) (hB 0 (by decide)) rfl fgX0_16_0 dX0_says_120 rfl rfl rfl ?_
    refine TGo.getI (t := 9) 11 11 (hB 2 (by decide)) rfl fgX0_295_1 dX0_says_123 rfl rfl rfl ?_
    refine TGo.toz _ (hc2.1.2.1.2.2.2) ?_
    refine TGo.toz (((z.2 3 4).toNat : Nat) : Int) (Int.toNat_of_nonneg (by omega)).symm ?_
    refine TGo.cF (csV1 (y2 := mJ2_get) (t := 20) 3 rfl (hB 30 (by decide)) rfl rfl dX0_says_126 q760 q761 q762 okJ2_get npJ2_get rfl rfl) (kJ2_get hl3.1 (k := (z.2 3 4).toNat) (by omega)) ?_
    have hla := hl4 (z.2 3 4).toNat (by omega)
    rw [Int.toNat_of_nonneg (by omega)] at hla
    obtain ⟨-, hLsh, C, A, c, g, Fk, eC, hLi, hLk⟩ := hla
    refine TGo.castO (t := 34) dX0_says_129 q1387 hLsh rfl rfl (Or.inl rfl) ?_
    refine TGo.il1 dX0_says_132 rfl ?_
    refine TGo.al0 dX0_says_133 rfl ?_
    refine TGo.getS (t := 8) 8 8 (B + 34) (hB 0 (by decide)) rfl fgX0_35_0 dX0_says_134 rfl rfl rfl ?_
    refine TGo.cF (csV2 (y2 := mX26_told) (t := 34) 210 rfl hLsh rfl rfl dX0_says_137 q1418 q1419 q1420 okX26_told npX26_told rfl rfl) (kX26_told (l := z.2 3 4) hLsh hB hs (valZ_9 W hp ha ht hy) eC hLi hLk (by omega) (WL _ (by omega) (by omega)) (by omega)) ?_
    refine TGo.lret dX0_says_140 rfl ?_
    refine ⟨_, rfl, rfl, rfl, ?_, hR2, hFS⟩
    unfold tellZ
    rw [if_neg (by omega)]
  · refine TGo.ldc2 (-4000000000) dX0_says_11 q1417 (by decide) ?_
    refine TGo.lret dX0_says_14 rfl ?_
    refine ⟨_, rfl, rfl, rfl, ?_, hR, F36.rf⟩
    unfold tellZ
    rw [if_pos (by omega)]
set_option maxHeartbeats 4000000 in
theorem kX0_slips {E : ET} {sh : SHT} {nn : Nat × Nat} {V : VT} {B : Nat} {ow : Nat → Nat} {z : ZT} {p a t y : Int} (hR : XR ow sh nn V B z) (W : RWZ (z.2 3)) (WL : LawsZ (z.2 3)) (hp : 0 ≤ p ∧ p < z.2 3 1) (ha : 0 ≤ a ∧ a ≤ 6) (ht : -1 ≤ t ∧ t ≤ 8) (hy : 0 ≤ y ∧ y ≤ 300) : TS E mX0_slips 212 [.ref B, .int (iI p), .int (iI a), .int (iI t), .int (iI y)] sh nn V (fun v V' => v = .int (iI (slipZ (z.2 3) p a t y)) ∧ XR ow sh nn V' B z ∧ F36 B V V') := by
  obtain ⟨hB, -, hc, -⟩ := id hR
  have w8 := W.1.2.2.2.2.2.2.2.2.1
  have w9 := W.1.2.2.2.2.2.2.2.2.2
  have htb := tellZ_b W WL (h := 0) hp ha ht hy
  have htd := fun w => tellZ_d W WL (h := 0) (w := w) hp ha ht hy
  refine TC.intro [some (.ref B), some (.int (iI p)), some (.int (iI a)), some (.int (iI t)), some (.int (iI y)), none, none] rfl ?_
  refine TGo.al0 dX0_slips_0 rfl ?_
  refine TGo.ic0 dX0_slips_1 ?_
  refine TGo.il1 dX0_slips_2 rfl ?_
  refine TGo.il2 dX0_slips_3 rfl ?_
  refine TGo.il3 dX0_slips_4 rfl ?_
  refine TGo.il dX0_slips_5 rfl ?_
  refine TGo.cS (csV5 (y2 := mX0_says) (t := 8) 211 rfl (hB 0 (by decide)) rfl rfl dX0_slips_7 q1413 q1415 qs14 okX0_says npX0_says rfl rfl) (kX0_says hR W WL hp ha ht hy (h := 0) (by omega)) (fun v7 V7 h7 => ?_)
  obtain ⟨rfl, hR7, hF7⟩ := h7
  obtain ⟨-, -, hc7, -⟩ := id hR7
  refine TGo.ls dX0_slips_10 rfl rfl ?_
  refine TGo.ll dX0_slips_12 rfl ?_
  refine TGo.ldc2 (-4000000000) dX0_slips_14 q1417 (by decide) ?_
  refine TGo.lc_ne 33 dX0_slips_17 dX0_slips_18 (by decide) (by omega) (fun h17 => ?_) (fun h17 => ?_)
  · refine TGo.ll dX0_slips_33 rfl ?_
    refine TGo.ic0 dX0_slips_35 ?_
    refine TGo.bip 100 dX0_slips_36 (by decide) ?_
    refine TGo.cF (csS3 (y2 := mX0_near) 2 rfl dX0_slips_38 q1434 q1354 okX0_near npX0_near rfl rfl) (kX0_near (by omega) (by omega) (by omega) (by omega)) ?_
    refine TGo.iret dX0_slips_41 rfl ?_
    refine ⟨_, rfl, rfl, rfl, ?_, hR7, hF7⟩
    unfold slipZ
    rw [htd (z.2 3 9)]
    first
    | (rw [if_pos (by omega)]; unfold wiZ; rw [if_neg (by omega), if_neg (by omega)])
    | (rw [if_neg (by omega)])
  · refine TGo.al0 dX0_slips_21 rfl ?_
    refine TGo.getS (t := 8) 2 2 (B + 2) (hB 0 (by decide)) rfl fgX0_16_0 dX0_slips_22 rfl rfl rfl ?_
    refine TGo.getS (t := 9) 4 4 (B + 25) (hB 2 (by decide)) rfl fgX0_154_1 dX0_slips_25 rfl rfl rfl ?_
    refine TGo.ic2 dX0_slips_28 ?_
    refine TGo.iald dX0_slips_29 (hB 25 (by decide)) (by omega) rfl ?_
    refine TGo.toz _ (hc7.1.2.2.2.2.2.1 _ (by omega) (by omega)) ?_
    refine TGo.toz (z.2 3 9) rfl ?_
    refine TGo.goto 41 dX0_slips_30 (by decide) ?_
    refine TGo.iret dX0_slips_41 rfl ?_
    refine ⟨_, rfl, rfl, rfl, ?_, hR7, hF7⟩
    unfold slipZ
    rw [htd (z.2 3 9)]
    first
    | (rw [if_pos (by omega)]; unfold wiZ; rw [if_neg (by omega), if_neg (by omega)])
    | (rw [if_neg (by omega)])
set_option maxHeartbeats 4000000 in
theorem kX0_hours {E : ET} {sh : SHT} {nn : Nat × Nat} {V : VT} {B : Nat} {ow : Nat → Nat} {z : ZT} {p a t y : Int} (hR : XR ow sh nn V B z) (W : RWZ (z.2 3)) (WL : LawsZ (z.2 3)) (hp : 0 ≤ p ∧ p < z.2 3 1) (ha : 0 ≤ a ∧ a ≤ 6) (ht : -1 ≤ t ∧ t ≤ 8) (hy : 0 ≤ y ∧ y ≤ 300) : TS E mX0_hours 212 [.ref B, .int (iI p), .int (iI a), .int (iI t), .int (iI y)] sh nn V (fun v V' => v = .int (iI (hourZ (z.2 3) p a t y)) ∧ XR ow sh nn V' B z ∧ F36 B V V') := by
  obtain ⟨hB, -, hc, -⟩ := id hR
  have w8 := W.1.2.2.2.2.2.2.2.2.1
  have w9 := W.1.2.2.2.2.2.2.2.2.2
  have htb := tellZ_b W WL (h := 1) hp ha ht hy
  have htd := fun w => tellZ_d W WL (h := 1) (w := w) hp ha ht hy
  refine TC.intro [some (.ref B), some (.int (iI p)), some (.int (iI a)), some (.int (iI t)), some (.int (iI y)), none, none] rfl ?_
  refine TGo.al0 dX0_hours_0 rfl ?_
  refine TGo.ic1 dX0_hours_1 ?_
  refine TGo.il1 dX0_hours_2 rfl ?_
  refine TGo.il2 dX0_hours_3 rfl ?_
  refine TGo.il3 dX0_hours_4 rfl ?_
  refine TGo.il dX0_hours_5 rfl ?_
  refine TGo.cS (csV5 (y2 := mX0_says) (t := 8) 211 rfl (hB 0 (by decide)) rfl rfl dX0_hours_7 q1413 q1415 qs14 okX0_says npX0_says rfl rfl) (kX0_says hR W WL hp ha ht hy (h := 1) (by omega)) (fun v7 V7 h7 => ?_)
  obtain ⟨rfl, hR7, hF7⟩ := h7
  obtain ⟨-, -, hc7, -⟩ := id hR7
  refine TGo.ls dX0_hours_10 rfl rfl ?_
  refine TGo.ll dX0_hours_12 rfl ?_
  refine TGo.ldc2 (-4000000000) dX0_hours_14 q1417 (by decide) ?_
  refine TGo.lc_ne 25 dX0_hours_17 dX0_hours_18 (by decide) (by omega) (fun h17 => ?_) (fun h17 => ?_)
  · refine TGo.ll dX0_hours_25 rfl ?_
    refine TGo.ic0 dX0_hours_27 ?_
    refine TGo.bip 99 dX0_hours_28 (by decide) ?_
    refine TGo.cF (csS3 (y2 := mX0_near) 2 rfl dX0_hours_30 q1434 q1354 okX0_near npX0_near rfl rfl) (kX0_near (by omega) (by omega) (by omega) (by omega)) ?_
    refine TGo.iret dX0_hours_33 rfl ?_
    refine ⟨_, rfl, rfl, rfl, ?_, hR7, hF7⟩
    unfold hourZ
    rw [htd 1]
    first
    | (rw [if_pos (by omega)]; rfl)
    | (rw [if_neg (by omega)])
  · refine TGo.ic1 dX0_hours_21 ?_
    refine TGo.goto 33 dX0_hours_22 (by decide) ?_
    refine TGo.iret dX0_hours_33 rfl ?_
    refine ⟨_, rfl, rfl, rfl, ?_, hR7, hF7⟩
    unfold hourZ
    rw [htd 1]
    first
    | (rw [if_pos (by omega)]; rfl)
    | (rw [if_neg (by omega)])
set_option maxHeartbeats 4000000 in
theorem kX0_isBarred {E : ET} {sh : SHT} {nn : Nat × Nat} {V : VT} {B : Nat} {ow : Nat → Nat} {z : ZT} {p a t y : Int} (hR : XR ow sh nn V B z) (W : RWZ (z.2 3)) (WL : LawsZ (z.2 3)) (hp : 0 ≤ p ∧ p < z.2 3 1) (ha : 0 ≤ a ∧ a ≤ 6) (ht : -1 ≤ t ∧ t ≤ 8) (hy : 0 ≤ y ∧ y ≤ 300) : TS E mX0_isBarred 212 [.ref B, .int (iI p), .int (iI a), .int (iI t), .int (iI y)] sh nn V (fun v V' => v = .int (iI (bZ (tellZ (z.2 3) 2 p a t y 0 = 1))) ∧ XR ow sh nn V' B z ∧ F36 B V V') := by
  obtain ⟨hB, -, hc, -⟩ := id hR
  have w8 := W.1.2.2.2.2.2.2.2.2.1
  have w9 := W.1.2.2.2.2.2.2.2.2.2
  have htb := tellZ_b W WL (h := 2) hp ha ht hy
  have htd := fun w => tellZ_d W WL (h := 2) (w := w) hp ha ht hy
  have hbar := tellZ_bar W WL hp ha ht hy
  refine TC.intro [some (.ref B), some (.int (iI p)), some (.int (iI a)), some (.int (iI t)), some (.int (iI y))] rfl ?_
  refine TGo.al0 dX0_isBarred_0 rfl ?_
  refine TGo.ic2 dX0_isBarred_1 ?_
  refine TGo.il1 dX0_isBarred_2 rfl ?_
  refine TGo.il2 dX0_isBarred_3 rfl ?_
  refine TGo.il3 dX0_isBarred_4 rfl ?_
  refine TGo.il dX0_isBarred_5 rfl ?_
  refine TGo.cS (csV5 (y2 := mX0_says) (t := 8) 211 rfl (hB 0 (by decide)) rfl rfl dX0_isBarred_7 q1413 q1415 qs14 okX0_says npX0_says rfl rfl) (kX0_says hR W WL hp ha ht hy (h := 2) (by omega)) (fun v7 V7 h7 => ?_)
  obtain ⟨rfl, hR7, hF7⟩ := h7
  obtain ⟨-, -, hc7, -⟩ := id hR7
  refine TGo.ldc2 (-4000000000) dX0_isBarred_10 q1417 (by decide) ?_
  refine TGo.lc_eq 21 dX0_isBarred_13 dX0_isBarred_14 (by decide) (by omega) (fun h13 => ?_) (fun h13 => ?_)
  · refine TGo.ic0 dX0_isBarred_21 ?_
    refine TGo.zret dX0_isBarred_22 rfl (by first | exact Or.inl rfl | exact Or.inr rfl | exact bZ_or _ | assumption) ?_
    refine ⟨_, rfl, rfl, rfl, ?_, hR7, hF7⟩
    first
    | (rw [bZ_t (hbar.mpr (by omega))])
    | (rw [bZ_f (fun q => absurd (hbar.mp q) (by omega))])
  · refine TGo.ic1 dX0_isBarred_17 ?_
    refine TGo.goto 22 dX0_isBarred_18 (by decide) ?_
    refine TGo.zret dX0_isBarred_22 rfl (by first | exact Or.inl rfl | exact Or.inr rfl | exact bZ_or _ | assumption) ?_
    refine ⟨_, rfl, rfl, rfl, ?_, hR7, hF7⟩
    first
    | (rw [bZ_t (hbar.mpr (by omega))])
    | (rw [bZ_f (fun q => absurd (hbar.mp q) (by omega))])
set_option maxHeartbeats 4000000 in
theorem kX0_asks {E : ET} {sh : SHT} {nn : Nat × Nat} {V : VT} {B : Nat} {ow : Nat → Nat} {z : ZT} {p a t w : Int} (hR : XR ow sh nn V B z) (W : RWZ (z.2 3)) (WL : LawsZ (z.2 3)) (rp : R32 p) (ra : R32 a) (rt : R32 t) (rw : R32 w) : TC E mX0_asks 213 [.ref B, .int (iI p), .int (iI a), .int (iI t), .int (iI w)] sh nn V (XP B nn (zp_asks z p a t w)) := by
  obtain ⟨hB, -, hc, -⟩ := id hR
  have w0 := W.1.1
  have w1 := W.1.2.1
  have w7 := W.1.2.2.2.2.2.2.2.1
  obtain ⟨ap, av, al, cp, cv, cl, gp, gv, gl, hne, ⟨hp1, hp2⟩, ⟨hv1, hv2⟩, hl1, hl2⟩ := id hR.2.2.2.1
  refine TC.intro [some (.ref B), some (.int (iI p)), some (.int (iI a)), some (.int (iI t)), some (.int (iI w))] rfl ?_
  refine TGo.al0 dX0_asks_0 rfl ?_
  refine TGo.il1 dX0_asks_1 rfl ?_
  refine TGo.cF (csV1 (y2 := mX0_isPerson) (t := 8) 2 rfl (hB 0 (by decide)) rfl rfl dX0_asks_2 q815 q817 qs7 okX0_isPerson npX0_isPerson rfl rfl) (kX0_isPerson hR W (by omega)) ?_
  refine TGo.ifb_eq 29 dX0_asks_5 (by decide) (fun h5 => ?_) (fun h5 => ?_)
  · refine TGo.icm1 dX0_asks_29 ?_
    refine TGo.iret dX0_asks_30 rfl ?_
    first
    | (exfalso; omega)
    | (refine hR.same ?_
       unfold zp_asks
       rw [if_pos (by omega)])
    | (refine hRn.same ?_
       unfold zp_asks
       rw [if_neg (by omega)]
       first
       | (rw [if_pos (show w = 0 by omega)])
       | (rw [if_neg (show ¬ w = 0 by omega), if_pos (show w = 1 by omega)])
       | (rw [if_neg (show ¬ w = 0 by omega), if_neg (show ¬ w = 1 by omega)]
          first
          | (rw [bZ_t (by assumption)])
          | (rw [bZ_f (by assumption)])))
  · refine TGo.al0 dX0_asks_8 rfl ?_
    refine TGo.il2 dX0_asks_9 rfl ?_
    refine TGo.cF (csV1 (y2 := mX0_isPart) (t := 8) 2 rfl (hB 0 (by decide)) rfl rfl dX0_asks_10 q721 q723 qs4 okX0_isPart npX0_isPart rfl rfl) (kX0_isPart hB hc w0 (by omega)) ?_
    refine TGo.ifb_eq 29 dX0_asks_13 (by decide) (fun h13 => ?_) (fun h13 => ?_)
    · refine TGo.icm1 dX0_asks_29 ?_
      refine TGo.iret dX0_asks_30 rfl ?_
      first
      | (exfalso; omega)
      | (refine hR.same ?_
         unfold zp_asks
         rw [if_pos (by omega)])
      | (refine hRn.same ?_
         unfold zp_asks
         rw [if_neg (by omega)]
         first
         | (rw [if_pos (show w = 0 by omega)])
         | (rw [if_neg (show ¬ w = 0 by omega), if_pos (show w = 1 by omega)])
         | (rw [if_neg (show ¬ w = 0 by omega), if_neg (show ¬ w = 1 by omega)]
            first
            | (rw [bZ_t (by assumption)])
            | (rw [bZ_f (by assumption)])))
    · refine TGo.il3 dX0_asks_16 rfl ?_
      refine TGo.icm1 dX0_asks_17 ?_
      refine TGo.icmp_eq 31 dX0_asks_18 (by decide) (by omega) (fun h18 => ?_) (fun h18 => ?_)
      · refine TGo.il dX0_asks_31 rfl ?_
        by_cases h33 : w < 0 ∨ 2 < w
        · refine TGo.tabOut 104 dX0_asks_33 (by omega) h33 (by decide) ?_
          refine TGo.icm1 dX0_asks_104 ?_
          refine TGo.iret dX0_asks_105 rfl ?_
          first
          | (exfalso; omega)
          | (refine hR.same ?_
             unfold zp_asks
             rw [if_pos (by omega)])
          | (refine hRn.same ?_
             unfold zp_asks
             rw [if_neg (by omega)]
             first
             | (rw [if_pos (show w = 0 by omega)])
             | (rw [if_neg (show ¬ w = 0 by omega), if_pos (show w = 1 by omega)])
             | (rw [if_neg (show ¬ w = 0 by omega), if_neg (show ¬ w = 1 by omega)]
                first
                | (rw [bZ_t (by assumption)])
                | (rw [bZ_f (by assumption)])))
        · rcases (show w = 0 ∨ w = 1 ∨ w = 2 by omega) with h33 | h33 | h33
          · refine TGo.tabIn (off := 27) 60 dX0_asks_33 (by omega) (by omega) (by rw [h33]; decide) (by decide) ?_
            refine TGo.al0 dX0_asks_60 rfl ?_
            refine TGo.il1 dX0_asks_61 rfl ?_
            refine TGo.il2 dX0_asks_62 rfl ?_
            refine TGo.il3 dX0_asks_63 rfl ?_
            refine TGo.al0 dX0_asks_64 rfl ?_
            refine TGo.cF (csV0 (y2 := mX0_year) (t := 8) 1 rfl (hB 0 (by decide)) rfl rfl dX0_asks_65 q827 q829 qs8 okX0_year npX0_year rfl rfl) (kX0_year hB hc) ?_
            refine TGo.cS (csV4 (y2 := mX0_slips) (t := 8) 212 rfl (hB 0 (by decide)) rfl rfl dX0_asks_68 q1409 q1411 qs13 okX0_slips npX0_slips rfl rfl) (kX0_slips hR W WL (by omega) (by omega) (by omega) (by omega)) (fun v68 V68 h68 => ?_)
            obtain ⟨rfl, hRn, hFn⟩ := h68
            refine TGo.iret dX0_asks_71 rfl ?_
            first
            | (exfalso; omega)
            | (refine hR.same ?_
               unfold zp_asks
               rw [if_pos (by omega)])
            | (refine hRn.same ?_
               unfold zp_asks
               rw [if_neg (by omega)]
               first
               | (rw [if_pos (show w = 0 by omega)])
               | (rw [if_neg (show ¬ w = 0 by omega), if_pos (show w = 1 by omega)])
               | (rw [if_neg (show ¬ w = 0 by omega), if_neg (show ¬ w = 1 by omega)]
                  first
                  | (rw [bZ_t (by assumption)])
                  | (rw [bZ_f (by assumption)])))
          · refine TGo.tabIn (off := 39) 72 dX0_asks_33 (by omega) (by omega) (by rw [h33]; decide) (by decide) ?_
            refine TGo.al0 dX0_asks_72 rfl ?_
            refine TGo.il1 dX0_asks_73 rfl ?_
            refine TGo.il2 dX0_asks_74 rfl ?_
            refine TGo.il3 dX0_asks_75 rfl ?_
            refine TGo.al0 dX0_asks_76 rfl ?_
            refine TGo.cF (csV0 (y2 := mX0_year) (t := 8) 1 rfl (hB 0 (by decide)) rfl rfl dX0_asks_77 q827 q829 qs8 okX0_year npX0_year rfl rfl) (kX0_year hB hc) ?_
            refine TGo.cS (csV4 (y2 := mX0_hours) (t := 8) 212 rfl (hB 0 (by decide)) rfl rfl dX0_asks_80 q1435 q1437 qs15 okX0_hours npX0_hours rfl rfl) (kX0_hours hR W WL (by omega) (by omega) (by omega) (by omega)) (fun v80 V80 h80 => ?_)
            obtain ⟨rfl, hRn, hFn⟩ := h80
            refine TGo.iret dX0_asks_83 rfl ?_
            first
            | (exfalso; omega)
            | (refine hR.same ?_
               unfold zp_asks
               rw [if_pos (by omega)])
            | (refine hRn.same ?_
               unfold zp_asks
               rw [if_neg (by omega)]
               first
               | (rw [if_pos (show w = 0 by omega)])
               | (rw [if_neg (show ¬ w = 0 by omega), if_pos (show w = 1 by omega)])
               | (rw [if_neg (show ¬ w = 0 by omega), if_neg (show ¬ w = 1 by omega)]
                  first
                  | (rw [bZ_t (by assumption)])
                  | (rw [bZ_f (by assumption)])))
          · refine TGo.tabIn (off := 51) 84 dX0_asks_33 (by omega) (by omega) (by rw [h33]; decide) (by decide) ?_
            refine TGo.al0 dX0_asks_84 rfl ?_
            refine TGo.il1 dX0_asks_85 rfl ?_
            refine TGo.il2 dX0_asks_86 rfl ?_
            refine TGo.il3 dX0_asks_87 rfl ?_
            refine TGo.al0 dX0_asks_88 rfl ?_
            refine TGo.cF (csV0 (y2 := mX0_year) (t := 8) 1 rfl (hB 0 (by decide)) rfl rfl dX0_asks_89 q827 q829 qs8 okX0_year npX0_year rfl rfl) (kX0_year hB hc) ?_
            refine TGo.cS (csV4 (y2 := mX0_isBarred) (t := 8) 212 rfl (hB 0 (by decide)) rfl rfl dX0_asks_92 q1439 q1441 qs16 okX0_isBarred npX0_isBarred rfl rfl) (kX0_isBarred hR W WL (by omega) (by omega) (by omega) (by omega)) (fun v92 V92 h92 => ?_)
            obtain ⟨rfl, hRn, hFn⟩ := h92
            refine TGo.ifb_eq 102 dX0_asks_95 (by decide) (fun h95 => ?_) (fun h95 => ?_)
            · refine TGo.ic0 dX0_asks_102 ?_
              refine TGo.iret dX0_asks_103 rfl ?_
              first
              | (exfalso; omega)
              | (refine hR.same ?_
                 unfold zp_asks
                 rw [if_pos (by omega)])
              | (refine hRn.same ?_
                 unfold zp_asks
                 rw [if_neg (by omega)]
                 first
                 | (rw [if_pos (show w = 0 by omega)])
                 | (rw [if_neg (show ¬ w = 0 by omega), if_pos (show w = 1 by omega)])
                 | (rw [if_neg (show ¬ w = 0 by omega), if_neg (show ¬ w = 1 by omega)]
                    first
                    | (rw [bZ_t (by assumption)])
                    | (rw [bZ_f (by assumption)])))
            · refine TGo.ic1 dX0_asks_98 ?_
              refine TGo.goto 103 dX0_asks_99 (by decide) ?_
              refine TGo.iret dX0_asks_103 rfl ?_
              first
              | (exfalso; omega)
              | (refine hR.same ?_
                 unfold zp_asks
                 rw [if_pos (by omega)])
              | (refine hRn.same ?_
                 unfold zp_asks
                 rw [if_neg (by omega)]
                 first
                 | (rw [if_pos (show w = 0 by omega)])
                 | (rw [if_neg (show ¬ w = 0 by omega), if_pos (show w = 1 by omega)])
                 | (rw [if_neg (show ¬ w = 0 by omega), if_neg (show ¬ w = 1 by omega)]
                    first
                    | (rw [bZ_t (by assumption)])
                    | (rw [bZ_f (by assumption)])))
      · refine TGo.al0 dX0_asks_21 rfl ?_
        refine TGo.il3 dX0_asks_22 rfl ?_
        refine TGo.cF (csV1 (y2 := mX0_isPerson) (t := 8) 2 rfl (hB 0 (by decide)) rfl rfl dX0_asks_23 q815 q817 qs7 okX0_isPerson npX0_isPerson rfl rfl) (kX0_isPerson hR W (by omega)) ?_
        refine TGo.ifb_ne 31 dX0_asks_26 (by decide) (fun h26 => ?_) (fun h26 => ?_)
        · refine TGo.il dX0_asks_31 rfl ?_
          by_cases h33 : w < 0 ∨ 2 < w
          · refine TGo.tabOut 104 dX0_asks_33 (by omega) h33 (by decide) ?_
            refine TGo.icm1 dX0_asks_104 ?_
            refine TGo.iret dX0_asks_105 rfl ?_
            first
            | (exfalso; omega)
            | (refine hR.same ?_
               unfold zp_asks
               rw [if_pos (by omega)])
            | (refine hRn.same ?_
               unfold zp_asks
               rw [if_neg (by omega)]
               first
               | (rw [if_pos (show w = 0 by omega)])
               | (rw [if_neg (show ¬ w = 0 by omega), if_pos (show w = 1 by omega)])
               | (rw [if_neg (show ¬ w = 0 by omega), if_neg (show ¬ w = 1 by omega)]
                  first
                  | (rw [bZ_t (by assumption)])
                  | (rw [bZ_f (by assumption)])))
          · rcases (show w = 0 ∨ w = 1 ∨ w = 2 by omega) with h33 | h33 | h33
            · refine TGo.tabIn (off := 27) 60 dX0_asks_33 (by omega) (by omega) (by rw [h33]; decide) (by decide) ?_
              refine TGo.al0 dX0_asks_60 rfl ?_
              refine TGo.il1 dX0_asks_61 rfl ?_
              refine TGo.il2 dX0_asks_62 rfl ?_
              refine TGo.il3 dX0_asks_63 rfl ?_
              refine TGo.al0 dX0_asks_64 rfl ?_
              refine TGo.cF (csV0 (y2 := mX0_year) (t := 8) 1 rfl (hB 0 (by decide)) rfl rfl dX0_asks_65 q827 q829 qs8 okX0_year npX0_year rfl rfl) (kX0_year hB hc) ?_
              refine TGo.cS (csV4 (y2 := mX0_slips) (t := 8) 212 rfl (hB 0 (by decide)) rfl rfl dX0_asks_68 q1409 q1411 qs13 okX0_slips npX0_slips rfl rfl) (kX0_slips hR W WL (by omega) (by omega) (by omega) (by omega)) (fun v68 V68 h68 => ?_)
              obtain ⟨rfl, hRn, hFn⟩ := h68
              refine TGo.iret dX0_asks_71 rfl ?_
              first
              | (exfalso; omega)
              | (refine hR.same ?_
                 unfold zp_asks
                 rw [if_pos (by omega)])
              | (refine hRn.same ?_
                 unfold zp_asks
                 rw [if_neg (by omega)]
                 first
                 | (rw [if_pos (show w = 0 by omega)])
                 | (rw [if_neg (show ¬ w = 0 by omega), if_pos (show w = 1 by omega)])
                 | (rw [if_neg (show ¬ w = 0 by omega), if_neg (show ¬ w = 1 by omega)]
                    first
                    | (rw [bZ_t (by assumption)])
                    | (rw [bZ_f (by assumption)])))
            · refine TGo.tabIn (off := 39) 72 dX0_asks_33 (by omega) (by omega) (by rw [h33]; decide) (by decide) ?_
              refine TGo.al0 dX0_asks_72 rfl ?_
              refine TGo.il1 dX0_asks_73 rfl ?_
              refine TGo.il2 dX0_asks_74 rfl ?_
              refine TGo.il3 dX0_asks_75 rfl ?_
              refine TGo.al0 dX0_asks_76 rfl ?_
              refine TGo.cF (csV0 (y2 := mX0_year) (t := 8) 1 rfl (hB 0 (by decide)) rfl rfl dX0_asks_77 q827 q829 qs8 okX0_year npX0_year rfl rfl) (kX0_year hB hc) ?_
              refine TGo.cS (csV4 (y2 := mX0_hours) (t := 8) 212 rfl (hB 0 (by decide)) rfl rfl dX0_asks_80 q1435 q1437 qs15 okX0_hours npX0_hours rfl rfl) (kX0_hours hR W WL (by omega) (by omega) (by omega) (by omega)) (fun v80 V80 h80 => ?_)
              obtain ⟨rfl, hRn, hFn⟩ := h80
              refine TGo.iret dX0_asks_83 rfl ?_
              first
              | (exfalso; omega)
              | (refine hR.same ?_
                 unfold zp_asks
                 rw [if_pos (by omega)])
              | (refine hRn.same ?_
                 unfold zp_asks
                 rw [if_neg (by omega)]
                 first
                 | (rw [if_pos (show w = 0 by omega)])
                 | (rw [if_neg (show ¬ w = 0 by omega), if_pos (show w = 1 by omega)])
                 | (rw [if_neg (show ¬ w = 0 by omega), if_neg (show ¬ w = 1 by omega)]
                    first
                    | (rw [bZ_t (by assumption)])
                    | (rw [bZ_f (by assumption)])))
            · refine TGo.tabIn (off := 51) 84 dX0_asks_33 (by omega) (by omega) (by rw [h33]; decide) (by decide) ?_
              refine TGo.al0 dX0_asks_84 rfl ?_
              refine TGo.il1 dX0_asks_85 rfl ?_
              refine TGo.il2 dX0_asks_86 rfl ?_
              refine TGo.il3 dX0_asks_87 rfl ?_
              refine TGo.al0 dX0_asks_88 rfl ?_
              refine TGo.cF (csV0 (y2 := mX0_year) (t := 8) 1 rfl (hB 0 (by decide)) rfl rfl dX0_asks_89 q827 q829 qs8 okX0_year npX0_year rfl rfl) (kX0_year hB hc) ?_
              refine TGo.cS (csV4 (y2 := mX0_isBarred) (t := 8) 212 rfl (hB 0 (by decide)) rfl rfl dX0_asks_92 q1439 q1441 qs16 okX0_isBarred npX0_isBarred rfl rfl) (kX0_isBarred hR W WL (by omega) (by omega) (by omega) (by omega)) (fun v92 V92 h92 => ?_)
              obtain ⟨rfl, hRn, hFn⟩ := h92
              refine TGo.ifb_eq 102 dX0_asks_95 (by decide) (fun h95 => ?_) (fun h95 => ?_)
              · refine TGo.ic0 dX0_asks_102 ?_
                refine TGo.iret dX0_asks_103 rfl ?_
                first
                | (exfalso; omega)
                | (refine hR.same ?_
                   unfold zp_asks
                   rw [if_pos (by omega)])
                | (refine hRn.same ?_
                   unfold zp_asks
                   rw [if_neg (by omega)]
                   first
                   | (rw [if_pos (show w = 0 by omega)])
                   | (rw [if_neg (show ¬ w = 0 by omega), if_pos (show w = 1 by omega)])
                   | (rw [if_neg (show ¬ w = 0 by omega), if_neg (show ¬ w = 1 by omega)]
                      first
                      | (rw [bZ_t (by assumption)])
                      | (rw [bZ_f (by assumption)])))
              · refine TGo.ic1 dX0_asks_98 ?_
                refine TGo.goto 103 dX0_asks_99 (by decide) ?_
                refine TGo.iret dX0_asks_103 rfl ?_
                first
                | (exfalso; omega)
                | (refine hR.same ?_
                   unfold zp_asks
                   rw [if_pos (by omega)])
                | (refine hRn.same ?_
                   unfold zp_asks
                   rw [if_neg (by omega)]
                   first
                   | (rw [if_pos (show w = 0 by omega)])
                   | (rw [if_neg (show ¬ w = 0 by omega), if_pos (show w = 1 by omega)])
                   | (rw [if_neg (show ¬ w = 0 by omega), if_neg (show ¬ w = 1 by omega)]
                      first
                      | (rw [bZ_t (by assumption)])
                      | (rw [bZ_f (by assumption)])))
        · refine TGo.icm1 dX0_asks_29 ?_
          refine TGo.iret dX0_asks_30 rfl ?_
          first
          | (exfalso; omega)
          | (refine hR.same ?_
             unfold zp_asks
             rw [if_pos (by omega)])
          | (refine hRn.same ?_
             unfold zp_asks
             rw [if_neg (by omega)]
             first
             | (rw [if_pos (show w = 0 by omega)])
             | (rw [if_neg (show ¬ w = 0 by omega), if_pos (show w = 1 by omega)])
             | (rw [if_neg (show ¬ w = 0 by omega), if_neg (show ¬ w = 1 by omega)]
                first
                | (rw [bZ_t (by assumption)])
                | (rw [bZ_f (by assumption)])))
