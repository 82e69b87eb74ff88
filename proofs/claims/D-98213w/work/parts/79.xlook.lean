/-! X: people, versions, laws -/
set_option maxRecDepth 100000
set_option maxHeartbeats 4000000 in
theorem kX0_isPerson {E : ET} {sh : SHT} {nn : Nat × Nat} {V : VT} {B : Nat} {ow : Nat → Nat} {z : ZT} {p : Int} (hR : XR ow sh nn V B z) (W : RWZ (z.2 3)) (hp : R32 p) : TF E mX0_isPerson 2 [.ref B, .int (iI p)] sh nn V (.int (iI (bZ (0 ≤ p ∧ p < z.2 3 1)))) := by
  obtain ⟨hB, -, hc, -⟩ := id hR
  have w0 := W.1.1
  have w1 := W.1.2.1
  have w2 := W.1.2.2.1
  have w3 := W.1.2.2.2.1
  have w7 := W.1.2.2.2.2.2.2.2.1
  obtain ⟨ap, av, al, cp, cv, cl, gp, gv, gl, hne, ⟨hp1, hp2⟩, ⟨hv1, hv2⟩, hl1, hl2⟩ := id hR.2.2.2.1
  refine TC.intro [some (.ref B), some (.int (iI p))] rfl ?_
  refine TGo.il1 dX0_isPerson_0 rfl ?_
  refine TGo.ic0 dX0_isPerson_1 ?_
  refine TGo.al0 dX0_isPerson_2 rfl ?_
  refine TGo.getS (t := 8) 2 2 (B + 2) (hB 0 (by decide)) rfl fgX0_16_0 dX0_isPerson_3 rfl rfl rfl ?_
  refine TGo.getS (t := 9) 5 5 (B + 26) (hB 2 (by decide)) rfl fgX0_126_1 dX0_isPerson_6 rfl rfl rfl ?_
  refine TGo.cF (csV0 (y2 := mJ2_size) (t := 20) 1 rfl (hB 26 (by decide)) rfl rfl dX0_isPerson_9 q756 q757 q758 okJ2_size npJ2_size rfl rfl) (kJ2_size hp1.1) ?_
  refine TGo.toz (z.2 3 1) (Int.toNat_of_nonneg (by omega)) ?_
  refine TGo.ic1 dX0_isPerson_12 ?_
  refine TGo.isub dX0_isPerson_13 ?_
  refine TGo.cF (csS3 (y2 := mX0_in) 1 rfl dX0_isPerson_14 q598 q599 okX0_in npX0_in rfl rfl) (kX0_in (by omega) (by omega) (by omega)) ?_
  refine TGo.zret dX0_isPerson_17 rfl (by first | exact Or.inl rfl | exact Or.inr rfl | exact bZ_or _ | assumption) ?_
  refine leafF ?_
  exact bZ_iff (by omega)
set_option maxHeartbeats 4000000 in
theorem kX0_isVersion {E : ET} {sh : SHT} {nn : Nat × Nat} {V : VT} {B : Nat} {ow : Nat → Nat} {z : ZT} {v : Int} (hR : XR ow sh nn V B z) (W : RWZ (z.2 3)) (hv : R32 v) : TF E mX0_isVersion 2 [.ref B, .int (iI v)] sh nn V (.int (iI (bZ (0 ≤ v ∧ v < z.2 3 2)))) := by
  obtain ⟨hB, -, hc, -⟩ := id hR
  have w0 := W.1.1
  have w1 := W.1.2.1
  have w2 := W.1.2.2.1
  have w3 := W.1.2.2.2.1
  have w7 := W.1.2.2.2.2.2.2.2.1
  obtain ⟨ap, av, al, cp, cv, cl, gp, gv, gl, hne, ⟨hp1, hp2⟩, ⟨hv1, hv2⟩, hl1, hl2⟩ := id hR.2.2.2.1
  refine TC.intro [some (.ref B), some (.int (iI v))] rfl ?_
  refine TGo.il1 dX0_isVersion_0 rfl ?_
  refine TGo.ic0 dX0_isVersion_1 ?_
  refine TGo.al0 dX0_isVersion_2 rfl ?_
  refine TGo.getS (t := 8) 2 2 (B + 2) (hB 0 (by decide)) rfl fgX0_16_0 dX0_isVersion_3 rfl rfl rfl ?_
  refine TGo.getS (t := 9) 6 6 (B + 28) (hB 2 (by decide)) rfl fgX0_136_1 dX0_isVersion_6 rfl rfl rfl ?_
  refine TGo.cF (csV0 (y2 := mJ2_size) (t := 20) 1 rfl (hB 28 (by decide)) rfl rfl dX0_isVersion_9 q756 q757 q758 okJ2_size npJ2_size rfl rfl) (kJ2_size hv1.1) ?_
  refine TGo.toz (z.2 3 2) (Int.toNat_of_nonneg (by omega)) ?_
  refine TGo.ic1 dX0_isVersion_12 ?_
  refine TGo.isub dX0_isVersion_13 ?_
  refine TGo.cF (csS3 (y2 := mX0_in) 1 rfl dX0_isVersion_14 q598 q599 okX0_in npX0_in rfl rfl) (kX0_in (by omega) (by omega) (by omega)) ?_
  refine TGo.zret dX0_isVersion_17 rfl (by first | exact Or.inl rfl | exact Or.inr rfl | exact bZ_or _ | assumption) ?_
  refine leafF ?_
  exact bZ_iff (by omega)
set_option maxHeartbeats 4000000 in
theorem kX0_year {E : ET} {sh : SHT} {nn : Nat × Nat} {V : VT} {B : Nat} {z : ZT} (hB : XSh B sh) (hc : XC V B z) : TF E mX0_year 1 [.ref B] sh nn V (.int (iI (z.2 3 7))) := by
  refine TC.intro [some (.ref B)] rfl ?_
  refine TGo.al0 dX0_year_0 rfl ?_
  refine TGo.getS (t := 8) 2 2 (B + 2) (hB 0 (by decide)) rfl fgX0_16_0 dX0_year_1 rfl rfl rfl ?_
  refine TGo.getS (t := 9) 4 4 (B + 25) (hB 2 (by decide)) rfl fgX0_154_1 dX0_year_4 rfl rfl rfl ?_
  refine TGo.ic0 dX0_year_7 ?_
  refine TGo.iald dX0_year_8 (hB 25 (by decide)) (by omega) rfl ?_
  refine TGo.toz _ (hc.1.2.2.2.2.2.1 _ (by omega) (by omega)) ?_
  refine TGo.iret dX0_year_9 rfl ?_
  exact ⟨rfl, rfl, rfl, rfl⟩
set_option maxHeartbeats 4000000 in
theorem kX11_isAlive {E : ET} {sh : SHT} {nn : Nat × Nat} {V : VT} {A : Nat} {b d : Int} {y : Int} (hP : sh A = (19, 0)) (h0 : V.1 A 0 = b) (h1 : V.1 A 1 = d) (hb : R32 b) (hd : R32 d) (hy : R32 y) : TF E mX11_isAlive 1 [.ref A, .int (iI y)] sh nn V (.int (iI (bZ (b ≤ y ∧ y < d)))) := by
  refine TC.intro [some (.ref A), some (.int (iI y))] rfl ?_
  refine TGo.il1 dX11_isAlive_0 rfl ?_
  refine TGo.al0 dX11_isAlive_1 rfl ?_
  refine TGo.getI (t := 19) 0 0 hP rfl fgX11_7_11 dX11_isAlive_2 rfl rfl rfl ?_
  refine TGo.toz _ (h0) ?_
  refine TGo.icmp_lt 20 dX11_isAlive_5 (by decide) (by omega) (fun h5 => ?_) (fun h5 => ?_)
  · refine TGo.ic0 dX11_isAlive_20 ?_
    refine TGo.zret dX11_isAlive_21 rfl (by first | exact Or.inl rfl | exact Or.inr rfl | exact bZ_or _ | assumption) ?_
    refine leafF ?_
    first | rfl | omega | exact (bZ_t (by omega)).symm | exact (bZ_f (by omega)).symm | exact bZ_iff (by omega)
  · refine TGo.il1 dX11_isAlive_8 rfl ?_
    refine TGo.al0 dX11_isAlive_9 rfl ?_
    refine TGo.getI (t := 19) 1 1 hP rfl fgX11_13_11 dX11_isAlive_10 rfl rfl rfl ?_
    refine TGo.toz _ (h1) ?_
    refine TGo.icmp_ge 20 dX11_isAlive_13 (by decide) (by omega) (fun h13 => ?_) (fun h13 => ?_)
    · refine TGo.ic0 dX11_isAlive_20 ?_
      refine TGo.zret dX11_isAlive_21 rfl (by first | exact Or.inl rfl | exact Or.inr rfl | exact bZ_or _ | assumption) ?_
      refine leafF ?_
      first | rfl | omega | exact (bZ_t (by omega)).symm | exact (bZ_f (by omega)).symm | exact bZ_iff (by omega)
    · refine TGo.ic1 dX11_isAlive_16 ?_
      refine TGo.goto 21 dX11_isAlive_17 (by decide) ?_
      refine TGo.zret dX11_isAlive_21 rfl (by first | exact Or.inl rfl | exact Or.inr rfl | exact bZ_or _ | assumption) ?_
      refine leafF ?_
      first | rfl | omega | exact (bZ_t (by omega)).symm | exact (bZ_f (by omega)).symm | exact bZ_iff (by omega)
set_option maxHeartbeats 4000000 in
theorem kX0_isAlive {E : ET} {sh : SHT} {nn : Nat × Nat} {V : VT} {B : Nat} {ow : Nat → Nat} {z : ZT} {p y : Int} (hR : XR ow sh nn V B z) (W : RWZ (z.2 3)) (hp : 0 ≤ p ∧ p < z.2 3 1) (hy : R32 y) : TF E mX0_isAlive 4 [.ref B, .int (iI p), .int (iI y)] sh nn V (.int (iI (bZ (z.2 3 (238 + 3 * p) ≤ y ∧ y < z.2 3 (238 + 3 * p + 1))))) := by
  obtain ⟨hB, -, hc, -⟩ := id hR
  have w0 := W.1.1
  have w1 := W.1.2.1
  have w2 := W.1.2.2.1
  have w3 := W.1.2.2.2.1
  have w7 := W.1.2.2.2.2.2.2.2.1
  obtain ⟨ap, av, al, cp, cv, cl, gp, gv, gl, hne, ⟨hp1, hp2⟩, ⟨hv1, hv2⟩, hl1, hl2⟩ := id hR.2.2.2.1
  have hPe (hq : 0 ≤ p ∧ p < z.2 3 1) : PeR ow sh V (gp p.toNat) (z.2 3) p := by have q := hp2 p.toNat (by omega); rw [Int.toNat_of_nonneg hq.1] at q; exact q
  have hPb (hq : 0 ≤ p ∧ p < z.2 3 1) := W.2.2.2.1 p hq.1 hq.2
  have hb := hPb hp
  refine TC.intro [some (.ref B), some (.int (iI p)), some (.int (iI y))] rfl ?_
  refine TGo.al0 dX0_isAlive_0 rfl ?_
  refine TGo.getS (t := 8) 2 2 (B + 2) (hB 0 (by decide)) rfl fgX0_16_0 dX0_isAlive_1 rfl rfl rfl ?_
  refine TGo.getS (t := 9) 5 5 (B + 26) (hB 2 (by decide)) rfl fgX0_126_1 dX0_isAlive_4 rfl rfl rfl ?_
  refine TGo.il1 dX0_isAlive_7 rfl ?_
  refine TGo.toz ((p.toNat : Nat) : Int) (Int.toNat_of_nonneg (by omega)).symm ?_
  refine TGo.cF (csV1 (y2 := mJ2_get) (t := 20) 3 rfl (hB 26 (by decide)) rfl rfl dX0_isAlive_8 q760 q761 q762 okJ2_get npJ2_get rfl rfl) (kJ2_get hp1.1 (k := p.toNat) (by omega)) ?_
  refine TGo.castO (t := 19) dX0_isAlive_11 q779 (hPe (by assumption)).2.1 rfl rfl (Or.inl rfl) ?_
  refine TGo.il2 dX0_isAlive_14 rfl ?_
  refine TGo.cF (csV1 (y2 := mX11_isAlive) (t := 19) 1 rfl (hPe (by assumption)).2.1 rfl rfl dX0_isAlive_15 q831 q832 q833 okX11_isAlive npX11_isAlive rfl rfl) (kX11_isAlive (hPe hp).2.1 (hPe hp).2.2.1 (hPe hp).2.2.2.1 (by omega) (by omega) hy) ?_
  refine TGo.zret dX0_isAlive_18 rfl (by first | exact Or.inl rfl | exact Or.inr rfl | exact bZ_or _ | assumption) ?_
  exact ⟨rfl, rfl, rfl, rfl⟩
set_option maxHeartbeats 4000000 in
theorem kX0_fact {E : ET} {sh : SHT} {nn : Nat × Nat} {V : VT} {B : Nat} {ow : Nat → Nat} {z : ZT} {p w : Int} (hR : XR ow sh nn V B z) (W : RWZ (z.2 3))  (rp : R32 p) (rw : R32 w) : TC E mX0_fact 4 [.ref B, .int (iI p), .int (iI w)] sh nn V (XP B nn (zp_fact z p w)) := by
  obtain ⟨hB, -, hc, -⟩ := id hR
  have w0 := W.1.1
  have w1 := W.1.2.1
  have w7 := W.1.2.2.2.2.2.2.2.1
  obtain ⟨ap, av, al, cp, cv, cl, gp, gv, gl, hne, ⟨hp1, hp2⟩, ⟨hv1, hv2⟩, hl1, hl2⟩ := id hR.2.2.2.1
  have hPe (hq : 0 ≤ p ∧ p < z.2 3 1) : PeR ow sh V (gp p.toNat) (z.2 3) p := by have q := hp2 p.toNat (by omega); rw [Int.toNat_of_nonneg hq.1] at q; exact q
  have hPb (hq : 0 ≤ p ∧ p < z.2 3 1) := W.2.2.2.1 p hq.1 hq.2
  refine TC.intro [some (.ref B), some (.int (iI p)), some (.int (iI w)), none] rfl ?_
  refine TGo.al0 dX0_fact_0 rfl ?_
  refine TGo.il1 dX0_fact_1 rfl ?_
  refine TGo.cF (csV1 (y2 := mX0_isPerson) (t := 8) 2 rfl (hB 0 (by decide)) rfl rfl dX0_fact_2 q815 q817 qs7 okX0_isPerson npX0_isPerson rfl rfl) (kX0_isPerson hR W (by omega)) ?_
  refine TGo.ifb_ne 10 dX0_fact_5 (by decide) (fun h5 => ?_) (fun h5 => ?_)
  · refine TGo.al0 dX0_fact_10 rfl ?_
    refine TGo.getS (t := 8) 2 2 (B + 2) (hB 0 (by decide)) rfl fgX0_16_0 dX0_fact_11 rfl rfl rfl ?_
    refine TGo.getS (t := 9) 5 5 (B + 26) (hB 2 (by decide)) rfl fgX0_126_1 dX0_fact_14 rfl rfl rfl ?_
    refine TGo.il1 dX0_fact_17 rfl ?_
    refine TGo.toz ((p.toNat : Nat) : Int) (Int.toNat_of_nonneg (by omega)).symm ?_
    refine TGo.cF (csV1 (y2 := mJ2_get) (t := 20) 3 rfl (hB 26 (by decide)) rfl rfl dX0_fact_18 q760 q761 q762 okJ2_get npJ2_get rfl rfl) (kJ2_get hp1.1 (k := p.toNat) (by omega)) ?_
    refine TGo.castO (t := 19) dX0_fact_21 q779 (hPe (by assumption)).2.1 rfl rfl (Or.inl rfl) ?_
    refine TGo.as3 dX0_fact_24 rfl rfl ?_
    refine TGo.il2 dX0_fact_25 rfl ?_
    by_cases h26 : w < 0 ∨ 3 < w
    · refine TGo.tabOut 88 dX0_fact_26 (by omega) h26 (by decide) ?_
      refine TGo.icm1 dX0_fact_88 ?_
      refine TGo.iret dX0_fact_89 rfl ?_
      first
      | (exfalso; omega)
      | (refine hR.same ?_
         unfold zp_fact
         first
         | (rw [if_neg (by omega), if_pos (by omega), show w = 0 by assumption, Int.add_zero])
         | (rw [if_neg (by omega), if_pos (by omega), show w = 1 by assumption])
         | (rw [if_neg (by omega), if_pos (by omega), show w = 2 by assumption])
         | (rw [if_neg (by omega), if_neg (by omega)]
            first | rw [bZ_t (by assumption)] | rw [bZ_f (by assumption)])
         | (rw [if_pos (by omega)]))
    · rcases (show w = 0 ∨ w = 1 ∨ w = 2 ∨ w = 3 by omega) with h26 | h26 | h26 | h26
      · refine TGo.tabIn (off := 30) 56 dX0_fact_26 (by omega) (by omega) (by rw [h26]; decide) (by decide) ?_
        refine TGo.al3 dX0_fact_56 rfl ?_
        refine TGo.getI (t := 19) 0 0 (hPe (by assumption)).2.1 rfl fgX0_216_11 dX0_fact_57 rfl rfl rfl ?_
        refine TGo.toz _ ((hPe (by assumption)).2.2.1) ?_
        refine TGo.iret dX0_fact_60 rfl ?_
        first
        | (exfalso; omega)
        | (refine hR.same ?_
           unfold zp_fact
           first
           | (rw [if_neg (by omega), if_pos (by omega), show w = 0 by assumption, Int.add_zero])
           | (rw [if_neg (by omega), if_pos (by omega), show w = 1 by assumption])
           | (rw [if_neg (by omega), if_pos (by omega), show w = 2 by assumption])
           | (rw [if_neg (by omega), if_neg (by omega)]
              first | rw [bZ_t (by assumption)] | rw [bZ_f (by assumption)])
           | (rw [if_pos (by omega)]))
      · refine TGo.tabIn (off := 35) 61 dX0_fact_26 (by omega) (by omega) (by rw [h26]; decide) (by decide) ?_
        refine TGo.al3 dX0_fact_61 rfl ?_
        refine TGo.getI (t := 19) 1 1 (hPe (by assumption)).2.1 rfl fgX0_222_11 dX0_fact_62 rfl rfl rfl ?_
        refine TGo.toz _ ((hPe (by assumption)).2.2.2.1) ?_
        refine TGo.iret dX0_fact_65 rfl ?_
        first
        | (exfalso; omega)
        | (refine hR.same ?_
           unfold zp_fact
           first
           | (rw [if_neg (by omega), if_pos (by omega), show w = 0 by assumption, Int.add_zero])
           | (rw [if_neg (by omega), if_pos (by omega), show w = 1 by assumption])
           | (rw [if_neg (by omega), if_pos (by omega), show w = 2 by assumption])
           | (rw [if_neg (by omega), if_neg (by omega)]
              first | rw [bZ_t (by assumption)] | rw [bZ_f (by assumption)])
           | (rw [if_pos (by omega)]))
      · refine TGo.tabIn (off := 40) 66 dX0_fact_26 (by omega) (by omega) (by rw [h26]; decide) (by decide) ?_
        refine TGo.al3 dX0_fact_66 rfl ?_
        refine TGo.getI (t := 19) 2 2 (hPe (by assumption)).2.1 rfl fgX0_219_11 dX0_fact_67 rfl rfl rfl ?_
        refine TGo.toz _ ((hPe (by assumption)).2.2.2.2) ?_
        refine TGo.iret dX0_fact_70 rfl ?_
        first
        | (exfalso; omega)
        | (refine hR.same ?_
           unfold zp_fact
           first
           | (rw [if_neg (by omega), if_pos (by omega), show w = 0 by assumption, Int.add_zero])
           | (rw [if_neg (by omega), if_pos (by omega), show w = 1 by assumption])
           | (rw [if_neg (by omega), if_pos (by omega), show w = 2 by assumption])
           | (rw [if_neg (by omega), if_neg (by omega)]
              first | rw [bZ_t (by assumption)] | rw [bZ_f (by assumption)])
           | (rw [if_pos (by omega)]))
      · refine TGo.tabIn (off := 45) 71 dX0_fact_26 (by omega) (by omega) (by rw [h26]; decide) (by decide) ?_
        refine TGo.al3 dX0_fact_71 rfl ?_
        refine TGo.al0 dX0_fact_72 rfl ?_
        refine TGo.cF (csV0 (y2 := mX0_year) (t := 8) 1 rfl (hB 0 (by decide)) rfl rfl dX0_fact_73 q827 q829 qs8 okX0_year npX0_year rfl rfl) (kX0_year hB hc) ?_
        refine TGo.cF (csV1 (y2 := mX11_isAlive) (t := 19) 1 rfl (hPe (by assumption)).2.1 rfl rfl dX0_fact_76 q831 q832 q833 okX11_isAlive npX11_isAlive rfl rfl) (kX11_isAlive (hPe (by assumption)).2.1 (hPe (by assumption)).2.2.1 (hPe (by assumption)).2.2.2.1 (by have := hPb (by assumption); omega) (by have := hPb (by assumption); omega) (by omega)) ?_
        refine TGo.ifb_eq 86 dX0_fact_79 (by decide) (fun h79 => ?_) (fun h79 => ?_)
        · refine TGo.ic0 dX0_fact_86 ?_
          refine TGo.iret dX0_fact_87 rfl ?_
          first
          | (exfalso; omega)
          | (refine hR.same ?_
             unfold zp_fact
             first
             | (rw [if_neg (by omega), if_pos (by omega), show w = 0 by assumption, Int.add_zero])
             | (rw [if_neg (by omega), if_pos (by omega), show w = 1 by assumption])
             | (rw [if_neg (by omega), if_pos (by omega), show w = 2 by assumption])
             | (rw [if_neg (by omega), if_neg (by omega)]
                first | rw [bZ_t (by assumption)] | rw [bZ_f (by assumption)])
             | (rw [if_pos (by omega)]))
        · refine TGo.ic1 dX0_fact_82 ?_
          refine TGo.goto 87 dX0_fact_83 (by decide) ?_
          refine TGo.iret dX0_fact_87 rfl ?_
          first
          | (exfalso; omega)
          | (refine hR.same ?_
             unfold zp_fact
             first
             | (rw [if_neg (by omega), if_pos (by omega), show w = 0 by assumption, Int.add_zero])
             | (rw [if_neg (by omega), if_pos (by omega), show w = 1 by assumption])
             | (rw [if_neg (by omega), if_pos (by omega), show w = 2 by assumption])
             | (rw [if_neg (by omega), if_neg (by omega)]
                first | rw [bZ_t (by assumption)] | rw [bZ_f (by assumption)])
             | (rw [if_pos (by omega)]))
  · refine TGo.icm1 dX0_fact_8 ?_
    refine TGo.iret dX0_fact_9 rfl ?_
    first
    | (exfalso; omega)
    | (refine hR.same ?_
       unfold zp_fact
       first
       | (rw [if_neg (by omega), if_pos (by omega), show w = 0 by assumption, Int.add_zero])
       | (rw [if_neg (by omega), if_pos (by omega), show w = 1 by assumption])
       | (rw [if_neg (by omega), if_pos (by omega), show w = 2 by assumption])
       | (rw [if_neg (by omega), if_neg (by omega)]
          first | rw [bZ_t (by assumption)] | rw [bZ_f (by assumption)])
       | (rw [if_pos (by omega)]))
set_option maxHeartbeats 4000000 in
theorem kX0_count {E : ET} {sh : SHT} {nn : Nat × Nat} {V : VT} {B : Nat} {ow : Nat → Nat} {z : ZT} {w : Int} (hR : XR ow sh nn V B z) (W : RWZ (z.2 3))  (rw : R32 w) : TC E mX0_count 2 [.ref B, .int (iI w)] sh nn V (XP B nn (zp_count z w)) := by
  obtain ⟨hB, -, hc, -⟩ := id hR
  have w0 := W.1.1
  have w1 := W.1.2.1
  have w2 := W.1.2.2.1
  have w3 := W.1.2.2.2.1
  obtain ⟨ap, av, al, cp, cv, cl, gp, gv, gl, hne, ⟨hp1, hp2⟩, ⟨hv1, hv2⟩, hl1, hl2⟩ := id hR.2.2.2.1
  refine TC.intro [some (.ref B), some (.int (iI w))] rfl ?_
  refine TGo.il1 dX0_count_0 rfl ?_
  by_cases h1 : w < 0 ∨ 15 < w
  · refine TGo.tabOut 182 dX0_count_1 (by omega) h1 (by decide) ?_
    refine TGo.icm1 dX0_count_182 ?_
    refine TGo.iret dX0_count_183 rfl ?_
    first
    | (exfalso; omega)
    | (refine hR.same ?_
       first
       | (rw [h1]; rfl)
       | (subst h1; rfl)
       | (unfold zp_count
          (repeat rw [if_neg (by omega)])))
  · rcases (show w = 0 ∨ w = 1 ∨ w = 2 ∨ w = 3 ∨ w = 4 ∨ w = 5 ∨ w = 6 ∨ w = 7 ∨ w = 8 ∨ w = 9 ∨ w = 10 ∨ w = 11 ∨ w = 12 ∨ w = 13 ∨ w = 14 ∨ w = 15 by omega) with h1 | h1 | h1 | h1 | h1 | h1 | h1 | h1 | h1 | h1 | h1 | h1 | h1 | h1 | h1 | h1
    · refine TGo.tabIn (off := 79) 80 dX0_count_1 (by omega) (by omega) (by rw [h1]; decide) (by decide) ?_
      refine TGo.al0 dX0_count_80 rfl ?_
      refine TGo.getS (t := 8) 2 2 (B + 2) (hB 0 (by decide)) rfl fgX0_16_0 dX0_count_81 rfl rfl rfl ?_
      refine TGo.getI (t := 9) 8 8 (hB 2 (by decide)) rfl fgX0_119_1 dX0_count_84 rfl rfl rfl ?_
      refine TGo.toz _ (hc.1.2.1.1) ?_
      refine TGo.iret dX0_count_87 rfl ?_
      first
      | (exfalso; omega)
      | (refine hR.same ?_
         first
         | (rw [h1]; rfl)
         | (subst h1; rfl)
         | (unfold zp_count
            (repeat rw [if_neg (by omega)])))
    · refine TGo.tabIn (off := 87) 88 dX0_count_1 (by omega) (by omega) (by rw [h1]; decide) (by decide) ?_
      refine TGo.al0 dX0_count_88 rfl ?_
      refine TGo.getS (t := 8) 2 2 (B + 2) (hB 0 (by decide)) rfl fgX0_16_0 dX0_count_89 rfl rfl rfl ?_
      refine TGo.getS (t := 9) 5 5 (B + 26) (hB 2 (by decide)) rfl fgX0_126_1 dX0_count_92 rfl rfl rfl ?_
      refine TGo.cF (csV0 (y2 := mJ2_size) (t := 20) 1 rfl (hB 26 (by decide)) rfl rfl dX0_count_95 q756 q757 q758 okJ2_size npJ2_size rfl rfl) (kJ2_size hp1.1) ?_
      refine TGo.toz (z.2 3 1) (Int.toNat_of_nonneg (by omega)) ?_
      refine TGo.iret dX0_count_98 rfl ?_
      first
      | (exfalso; omega)
      | (refine hR.same ?_
         first
         | (rw [h1]; rfl)
         | (subst h1; rfl)
         | (unfold zp_count
            (repeat rw [if_neg (by omega)])))
    · refine TGo.tabIn (off := 98) 99 dX0_count_1 (by omega) (by omega) (by rw [h1]; decide) (by decide) ?_
      refine TGo.al0 dX0_count_99 rfl ?_
      refine TGo.getS (t := 8) 2 2 (B + 2) (hB 0 (by decide)) rfl fgX0_16_0 dX0_count_100 rfl rfl rfl ?_
      refine TGo.getS (t := 9) 6 6 (B + 28) (hB 2 (by decide)) rfl fgX0_136_1 dX0_count_103 rfl rfl rfl ?_
      refine TGo.cF (csV0 (y2 := mJ2_size) (t := 20) 1 rfl (hB 28 (by decide)) rfl rfl dX0_count_106 q756 q757 q758 okJ2_size npJ2_size rfl rfl) (kJ2_size hv1.1) ?_
      refine TGo.toz (z.2 3 2) (Int.toNat_of_nonneg (by omega)) ?_
      refine TGo.iret dX0_count_109 rfl ?_
      first
      | (exfalso; omega)
      | (refine hR.same ?_
         first
         | (rw [h1]; rfl)
         | (subst h1; rfl)
         | (unfold zp_count
            (repeat rw [if_neg (by omega)])))
    · refine TGo.tabIn (off := 109) 110 dX0_count_1 (by omega) (by omega) (by rw [h1]; decide) (by decide) ?_
      refine TGo.al0 dX0_count_110 rfl ?_
      refine TGo.getS (t := 8) 2 2 (B + 2) (hB 0 (by decide)) rfl fgX0_16_0 dX0_count_111 rfl rfl rfl ?_
      refine TGo.getS (t := 9) 7 7 (B + 30) (hB 2 (by decide)) rfl fgX0_281_1 dX0_count_114 rfl rfl rfl ?_
      refine TGo.cF (csV0 (y2 := mJ2_size) (t := 20) 1 rfl (hB 30 (by decide)) rfl rfl dX0_count_117 q756 q757 q758 okJ2_size npJ2_size rfl rfl) (kJ2_size hl1.1) ?_
      refine TGo.toz (z.2 3 3) (Int.toNat_of_nonneg (by omega)) ?_
      refine TGo.iret dX0_count_120 rfl ?_
      first
      | (exfalso; omega)
      | (refine hR.same ?_
         first
         | (rw [h1]; rfl)
         | (subst h1; rfl)
         | (unfold zp_count
            (repeat rw [if_neg (by omega)])))
    · refine TGo.tabIn (off := 120) 121 dX0_count_1 (by omega) (by omega) (by rw [h1]; decide) (by decide) ?_
      refine TGo.al0 dX0_count_121 rfl ?_
      refine TGo.getS (t := 8) 2 2 (B + 2) (hB 0 (by decide)) rfl fgX0_16_0 dX0_count_122 rfl rfl rfl ?_
      refine TGo.getI (t := 9) 9 9 (hB 2 (by decide)) rfl fgX0_321_1 dX0_count_125 rfl rfl rfl ?_
      refine TGo.toz _ (hc.1.2.1.2.1) ?_
      refine TGo.iret dX0_count_128 rfl ?_
      first
      | (exfalso; omega)
      | (refine hR.same ?_
         first
         | (rw [h1]; rfl)
         | (subst h1; rfl)
         | (unfold zp_count
            (repeat rw [if_neg (by omega)])))
    · refine TGo.tabIn (off := 128) 129 dX0_count_1 (by omega) (by omega) (by rw [h1]; decide) (by decide) ?_
      refine TGo.al0 dX0_count_129 rfl ?_
      refine TGo.getS (t := 8) 2 2 (B + 2) (hB 0 (by decide)) rfl fgX0_16_0 dX0_count_130 rfl rfl rfl ?_
      refine TGo.getI (t := 9) 10 10 (hB 2 (by decide)) rfl fgX0_482_1 dX0_count_133 rfl rfl rfl ?_
      refine TGo.toz _ (hc.1.2.1.2.2.1) ?_
      refine TGo.iret dX0_count_136 rfl ?_
      first
      | (exfalso; omega)
      | (refine hR.same ?_
         first
         | (rw [h1]; rfl)
         | (subst h1; rfl)
         | (unfold zp_count
            (repeat rw [if_neg (by omega)])))
    · refine TGo.tabIn (off := 136) 137 dX0_count_1 (by omega) (by omega) (by rw [h1]; decide) (by decide) ?_
      refine TGo.al0 dX0_count_137 rfl ?_
      refine TGo.getI (t := 8) 5 5 (hB 0 (by decide)) rfl fgX0_232_0 dX0_count_138 rfl rfl rfl ?_
      refine TGo.toz _ (hc.2.1.2.1) ?_
      refine TGo.iret dX0_count_141 rfl ?_
      first
      | (exfalso; omega)
      | (refine hR.same ?_
         first
         | (rw [h1]; rfl)
         | (subst h1; rfl)
         | (unfold zp_count
            (repeat rw [if_neg (by omega)])))
    · refine TGo.tabIn (off := 141) 142 dX0_count_1 (by omega) (by omega) (by rw [h1]; decide) (by decide) ?_
      refine TGo.al0 dX0_count_142 rfl ?_
      refine TGo.getS (t := 8) 1 1 (B + 1) (hB 0 (by decide)) rfl fgX0_9_0 dX0_count_143 rfl rfl rfl ?_
      refine TGo.il1 dX0_count_146 rfl ?_
      refine TGo.bip 6 dX0_count_147 (by decide) ?_
      refine TGo.isub dX0_count_149 ?_
      refine TGo.iald dX0_count_150 (hB 1 (by decide)) (by omega) rfl ?_
      refine TGo.toz _ (hc.2.2.1 _ (by omega) (by omega)) ?_
      refine TGo.iret dX0_count_151 rfl ?_
      first
      | (exfalso; omega)
      | (refine hR.same ?_
         first
         | (rw [h1]; rfl)
         | (subst h1; rfl)
         | (unfold zp_count
            (repeat rw [if_neg (by omega)])))
    · refine TGo.tabIn (off := 141) 142 dX0_count_1 (by omega) (by omega) (by rw [h1]; decide) (by decide) ?_
      refine TGo.al0 dX0_count_142 rfl ?_
      refine TGo.getS (t := 8) 1 1 (B + 1) (hB 0 (by decide)) rfl fgX0_9_0 dX0_count_143 rfl rfl rfl ?_
      refine TGo.il1 dX0_count_146 rfl ?_
      refine TGo.bip 6 dX0_count_147 (by decide) ?_
      refine TGo.isub dX0_count_149 ?_
      refine TGo.iald dX0_count_150 (hB 1 (by decide)) (by omega) rfl ?_
      refine TGo.toz _ (hc.2.2.1 _ (by omega) (by omega)) ?_
      refine TGo.iret dX0_count_151 rfl ?_
      first
      | (exfalso; omega)
      | (refine hR.same ?_
         first
         | (rw [h1]; rfl)
         | (subst h1; rfl)
         | (unfold zp_count
            (repeat rw [if_neg (by omega)])))
    · refine TGo.tabIn (off := 141) 142 dX0_count_1 (by omega) (by omega) (by rw [h1]; decide) (by decide) ?_
      refine TGo.al0 dX0_count_142 rfl ?_
      refine TGo.getS (t := 8) 1 1 (B + 1) (hB 0 (by decide)) rfl fgX0_9_0 dX0_count_143 rfl rfl rfl ?_
      refine TGo.il1 dX0_count_146 rfl ?_
      refine TGo.bip 6 dX0_count_147 (by decide) ?_
      refine TGo.isub dX0_count_149 ?_
      refine TGo.iald dX0_count_150 (hB 1 (by decide)) (by omega) rfl ?_
      refine TGo.toz _ (hc.2.2.1 _ (by omega) (by omega)) ?_
      refine TGo.iret dX0_count_151 rfl ?_
      first
      | (exfalso; omega)
      | (refine hR.same ?_
         first
         | (rw [h1]; rfl)
         | (subst h1; rfl)
         | (unfold zp_count
            (repeat rw [if_neg (by omega)])))
    · refine TGo.tabIn (off := 151) 152 dX0_count_1 (by omega) (by omega) (by rw [h1]; decide) (by decide) ?_
      refine TGo.al0 dX0_count_152 rfl ?_
      refine TGo.getS (t := 8) 1 1 (B + 1) (hB 0 (by decide)) rfl fgX0_9_0 dX0_count_153 rfl rfl rfl ?_
      refine TGo.il1 dX0_count_156 rfl ?_
      refine TGo.ic5 dX0_count_157 ?_
      refine TGo.isub dX0_count_158 ?_
      refine TGo.iald dX0_count_159 (hB 1 (by decide)) (by omega) rfl ?_
      refine TGo.toz _ (hc.2.2.1 _ (by omega) (by omega)) ?_
      refine TGo.iret dX0_count_160 rfl ?_
      first
      | (exfalso; omega)
      | (refine hR.same ?_
         first
         | (rw [h1]; rfl)
         | (subst h1; rfl)
         | (unfold zp_count
            (repeat rw [if_neg (by omega)])))
    · refine TGo.tabIn (off := 151) 152 dX0_count_1 (by omega) (by omega) (by rw [h1]; decide) (by decide) ?_
      refine TGo.al0 dX0_count_152 rfl ?_
      refine TGo.getS (t := 8) 1 1 (B + 1) (hB 0 (by decide)) rfl fgX0_9_0 dX0_count_153 rfl rfl rfl ?_
      refine TGo.il1 dX0_count_156 rfl ?_
      refine TGo.ic5 dX0_count_157 ?_
      refine TGo.isub dX0_count_158 ?_
      refine TGo.iald dX0_count_159 (hB 1 (by decide)) (by omega) rfl ?_
      refine TGo.toz _ (hc.2.2.1 _ (by omega) (by omega)) ?_
      refine TGo.iret dX0_count_160 rfl ?_
      first
      | (exfalso; omega)
      | (refine hR.same ?_
         first
         | (rw [h1]; rfl)
         | (subst h1; rfl)
         | (unfold zp_count
            (repeat rw [if_neg (by omega)])))
    · refine TGo.tabIn (off := 160) 161 dX0_count_1 (by omega) (by omega) (by rw [h1]; decide) (by decide) ?_
      refine TGo.al0 dX0_count_161 rfl ?_
      refine TGo.getS (t := 8) 2 2 (B + 2) (hB 0 (by decide)) rfl fgX0_16_0 dX0_count_162 rfl rfl rfl ?_
      refine TGo.getI (t := 9) 11 11 (hB 2 (by decide)) rfl fgX0_295_1 dX0_count_165 rfl rfl rfl ?_
      refine TGo.toz _ (hc.1.2.1.2.2.2) ?_
      refine TGo.iret dX0_count_168 rfl ?_
      first
      | (exfalso; omega)
      | (refine hR.same ?_
         first
         | (rw [h1]; rfl)
         | (subst h1; rfl)
         | (unfold zp_count
            (repeat rw [if_neg (by omega)])))
    · refine TGo.tabIn (off := 168) 169 dX0_count_1 (by omega) (by omega) (by rw [h1]; decide) (by decide) ?_
      refine TGo.al0 dX0_count_169 rfl ?_
      refine TGo.getS (t := 8) 2 2 (B + 2) (hB 0 (by decide)) rfl fgX0_16_0 dX0_count_170 rfl rfl rfl ?_
      refine TGo.getS (t := 9) 4 4 (B + 25) (hB 2 (by decide)) rfl fgX0_154_1 dX0_count_173 rfl rfl rfl ?_
      refine TGo.il1 dX0_count_176 rfl ?_
      refine TGo.bip 13 dX0_count_177 (by decide) ?_
      refine TGo.isub dX0_count_179 ?_
      refine TGo.iald dX0_count_180 (hB 25 (by decide)) (by omega) rfl ?_
      refine TGo.toz _ (hc.1.2.2.2.2.2.1 _ (by omega) (by omega)) ?_
      refine TGo.iret dX0_count_181 rfl ?_
      first
      | (exfalso; omega)
      | (refine hR.same ?_
         first
         | (rw [h1]; rfl)
         | (subst h1; rfl)
         | (unfold zp_count
            (repeat rw [if_neg (by omega)])))
    · refine TGo.tabIn (off := 168) 169 dX0_count_1 (by omega) (by omega) (by rw [h1]; decide) (by decide) ?_
      refine TGo.al0 dX0_count_169 rfl ?_
      refine TGo.getS (t := 8) 2 2 (B + 2) (hB 0 (by decide)) rfl fgX0_16_0 dX0_count_170 rfl rfl rfl ?_
      refine TGo.getS (t := 9) 4 4 (B + 25) (hB 2 (by decide)) rfl fgX0_154_1 dX0_count_173 rfl rfl rfl ?_
      refine TGo.il1 dX0_count_176 rfl ?_
      refine TGo.bip 13 dX0_count_177 (by decide) ?_
      refine TGo.isub dX0_count_179 ?_
      refine TGo.iald dX0_count_180 (hB 25 (by decide)) (by omega) rfl ?_
      refine TGo.toz _ (hc.1.2.2.2.2.2.1 _ (by omega) (by omega)) ?_
      refine TGo.iret dX0_count_181 rfl ?_
      first
      | (exfalso; omega)
      | (refine hR.same ?_
         first
         | (rw [h1]; rfl)
         | (subst h1; rfl)
         | (unfold zp_count
            (repeat rw [if_neg (by omega)])))
    · refine TGo.tabIn (off := 168) 169 dX0_count_1 (by omega) (by omega) (by rw [h1]; decide) (by decide) ?_
      refine TGo.al0 dX0_count_169 rfl ?_
      refine TGo.getS (t := 8) 2 2 (B + 2) (hB 0 (by decide)) rfl fgX0_16_0 dX0_count_170 rfl rfl rfl ?_
      refine TGo.getS (t := 9) 4 4 (B + 25) (hB 2 (by decide)) rfl fgX0_154_1 dX0_count_173 rfl rfl rfl ?_
      refine TGo.il1 dX0_count_176 rfl ?_
      refine TGo.bip 13 dX0_count_177 (by decide) ?_
      refine TGo.isub dX0_count_179 ?_
      refine TGo.iald dX0_count_180 (hB 25 (by decide)) (by omega) rfl ?_
      refine TGo.toz _ (hc.1.2.2.2.2.2.1 _ (by omega) (by omega)) ?_
      refine TGo.iret dX0_count_181 rfl ?_
      first
      | (exfalso; omega)
      | (refine hR.same ?_
         first
         | (rw [h1]; rfl)
         | (subst h1; rfl)
         | (unfold zp_count
            (repeat rw [if_neg (by omega)])))
/-- a version's script -/
def VsR (sh : SHT) (V : VT) (S : Nat) (f : Int → Int) (v : Int) : Prop := ScS sh S ∧ ScV V S (fun r => f (298 + 36 * v + r))
set_option maxHeartbeats 4000000 in
theorem kX0_scriptOf {E : ET} {sh : SHT} {nn : Nat × Nat} {V : VT} {B : Nat} {ow : Nat → Nat} {z : ZT} {v : Int} (hR : XR ow sh nn V B z) (W : RWZ (z.2 3)) (hv : 0 ≤ v ∧ v < z.2 3 2) : TC E mX0_scriptOf 4 [.ref B, .int (iI v)] sh nn V (fun o sh' nn' V' => (∃ S, o = .inl (some (.ref S)) ∧ VsR sh V S (z.2 3) v ∧ ow S = 4 ∧ ow (S + 1) = 4 ∧ ow (S + 2) = 4) ∧ sh' = sh ∧ nn' = nn ∧ V' = V) := by
  obtain ⟨hB, -, hc, -⟩ := id hR
  have w0 := W.1.1
  have w1 := W.1.2.1
  have w2 := W.1.2.2.1
  have w3 := W.1.2.2.2.1
  have w7 := W.1.2.2.2.2.2.2.2.1
  obtain ⟨ap, av, al, cp, cv, cl, gp, gv, gl, hne, ⟨hp1, hp2⟩, ⟨hv1, hv2⟩, hl1, hl2⟩ := id hR.2.2.2.1
  have hVe (hq : 0 ≤ v ∧ v < z.2 3 2) : VeR ow sh V (gv v.toNat) (z.2 3) v := by have q := hv2 v.toNat (by omega); rw [Int.toNat_of_nonneg hq.1] at q; exact q
  obtain ⟨v0, v1, v2, S, v3, v4, v5, v6⟩ := hVe hv
  refine TC.intro [some (.ref B), some (.int (iI v))] rfl ?_
  refine TGo.al0 dX0_scriptOf_0 rfl ?_
  refine TGo.getS (t := 8) 2 2 (B + 2) (hB 0 (by decide)) rfl fgX0_16_0 dX0_scriptOf_1 rfl rfl rfl ?_
  refine TGo.getS (t := 9) 6 6 (B + 28) (hB 2 (by decide)) rfl fgX0_136_1 dX0_scriptOf_4 rfl rfl rfl ?_
  refine TGo.il1 dX0_scriptOf_7 rfl ?_
  refine TGo.toz ((v.toNat : Nat) : Int) (Int.toNat_of_nonneg (by omega)).symm ?_
  refine TGo.cF (csV1 (y2 := mJ2_get) (t := 20) 3 rfl (hB 28 (by decide)) rfl rfl dX0_scriptOf_8 q760 q761 q762 okJ2_get npJ2_get rfl rfl) (kJ2_get hv1.1 (k := v.toNat) (by omega)) ?_
  refine TGo.castO (t := 35) dX0_scriptOf_11 q774 (hVe (by assumption)).2.1 rfl rfl (Or.inl rfl) ?_
  refine TGo.getQ (t := 35) 3 3 S (hVe (by assumption)).2.1 rfl fgX0_145_27 dX0_scriptOf_14 rfl ⟨rfl, v3⟩ rfl ?_
  refine TGo.aret dX0_scriptOf_17 rfl ?_
  exact ⟨⟨S, rfl, ⟨v5, v6⟩, v4⟩, rfl, rfl, rfl⟩
set_option maxHeartbeats 4000000 in
theorem kX0_knows {E : ET} {sh : SHT} {nn : Nat × Nat} {V : VT} {B : Nat} {ow : Nat → Nat} {z : ZT} {v a b w : Int} (hR : XR ow sh nn V B z) (W : RWZ (z.2 3))  (rv : R32 v) (ra : R32 a) (rb : R32 b) (rw : R32 w) : TC E mX0_knows 5 [.ref B, .int (iI v), .int (iI a), .int (iI b), .int (iI w)] sh nn V (XP B nn (zp_knows z v a b w)) := by
  obtain ⟨hB, -, hc, -⟩ := id hR
  have w2 := W.1.2.2.1
  obtain ⟨ap, av, al, cp, cv, cl, gp, gv, gl, hne, ⟨hp1, hp2⟩, ⟨hv1, hv2⟩, hl1, hl2⟩ := id hR.2.2.2.1
  refine TC.intro [some (.ref B), some (.int (iI v)), some (.int (iI a)), some (.int (iI b)), some (.int (iI w))] rfl ?_
  refine TGo.al0 dX0_knows_0 rfl ?_
  refine TGo.il1 dX0_knows_1 rfl ?_
  refine TGo.cF (csV1 (y2 := mX0_isVersion) (t := 8) 2 rfl (hB 0 (by decide)) rfl rfl dX0_knows_2 q1496 q1498 qs19 okX0_isVersion npX0_isVersion rfl rfl) (kX0_isVersion hR W (by omega)) ?_
  refine TGo.ifb_eq 45 dX0_knows_5 (by decide) (fun h5 => ?_) (fun h5 => ?_)
  · refine TGo.icm1 dX0_knows_45 ?_
    refine TGo.iret dX0_knows_46 rfl ?_
    first
    | (exfalso; omega)
    | (refine hR.same ?_
       unfold zp_knows
       first
       | (rw [if_pos ⟨by assumption, by assumption, by assumption⟩])
       | (rw [if_neg (fun q => by first | exact absurd q.1 (by assumption) | exact absurd q.2.1 (by assumption) | exact absurd q.2.2 (by assumption))]))
  · refine TGo.il2 dX0_knows_8 rfl ?_
    refine TGo.il3 dX0_knows_9 rfl ?_
    refine TGo.cF (csS2 (y2 := mX0_isRule) 2 rfl dX0_knows_10 q715 q716 okX0_isRule npX0_isRule rfl rfl) (kX0_isRule (by omega) (by omega)) ?_
    refine TGo.ifb_eq 45 dX0_knows_13 (by decide) (fun h13 => ?_) (fun h13 => ?_)
    · refine TGo.icm1 dX0_knows_45 ?_
      refine TGo.iret dX0_knows_46 rfl ?_
      first
      | (exfalso; omega)
      | (refine hR.same ?_
         unfold zp_knows
         first
         | (rw [if_pos ⟨by assumption, by assumption, by assumption⟩])
         | (rw [if_neg (fun q => by first | exact absurd q.1 (by assumption) | exact absurd q.2.1 (by assumption) | exact absurd q.2.2 (by assumption))]))
    · refine TGo.il dX0_knows_16 rfl ?_
      refine TGo.ic0 dX0_knows_18 ?_
      refine TGo.ic1 dX0_knows_19 ?_
      refine TGo.cF (csS3 (y2 := mX0_in) 1 rfl dX0_knows_20 q598 q599 okX0_in npX0_in rfl rfl) (kX0_in (by omega) (by omega) (by omega)) ?_
      refine TGo.ifb_eq 45 dX0_knows_23 (by decide) (fun h23 => ?_) (fun h23 => ?_)
      · refine TGo.icm1 dX0_knows_45 ?_
        refine TGo.iret dX0_knows_46 rfl ?_
        first
        | (exfalso; omega)
        | (refine hR.same ?_
           unfold zp_knows
           first
           | (rw [if_pos ⟨by assumption, by assumption, by assumption⟩])
           | (rw [if_neg (fun q => by first | exact absurd q.1 (by assumption) | exact absurd q.2.1 (by assumption) | exact absurd q.2.2 (by assumption))]))
      · refine TGo.al0 dX0_knows_26 rfl ?_
        refine TGo.il1 dX0_knows_27 rfl ?_
        refine TGo.callG (csV1 (y2 := mX0_scriptOf) (t := 8) 4 rfl (hB 0 (by decide)) rfl rfl dX0_knows_28 q1548 q1550 qs23 okX0_scriptOf npX0_scriptOf rfl rfl) (kX0_scriptOf hR W (v := v) (by assumption)) (fun o28 sh28 nn28 V28 e28 h28 => ?_)
        obtain ⟨⟨S, rfl, ⟨vS, vV⟩, -⟩, rfl, rfl, rfl⟩ := h28
        show TGo _ _ _ _ _ _ _ _ _ _
        refine TGo.bip 6 dX0_knows_31 (by decide) ?_
        refine TGo.il2 dX0_knows_33 rfl ?_
        refine TGo.imul dX0_knows_34 ?_
        refine TGo.il3 dX0_knows_35 rfl ?_
        refine TGo.iadd dX0_knows_36 ?_
        refine TGo.il dX0_knows_37 rfl ?_
        refine TGo.cF (csS3 (y2 := mX0_told) 3 rfl dX0_knows_39 q737 q738 okX0_told npX0_told rfl rfl) (kX0_told vS vV (by omega) (W.2.2.2.2.2.1 v (6 * a + b) (by omega) (by omega) (by omega) (by omega)) (by omega)) ?_
        refine TGo.goto 46 dX0_knows_42 (by decide) ?_
        refine TGo.iret dX0_knows_46 rfl ?_
        first
        | (exfalso; omega)
        | (refine hR.same ?_
           unfold zp_knows
           first
           | (rw [if_pos ⟨by assumption, by assumption, by assumption⟩])
           | (rw [if_neg (fun q => by first | exact absurd q.1 (by assumption) | exact absurd q.2.1 (by assumption) | exact absurd q.2.2 (by assumption))]))
