/-! X: votes -/
set_option maxRecDepth 100000
theorem vtZ_w {z : ZT} {p : Int} {n k : Nat} (P : PlZ (fun r => z.2 3 (298 + 36 * (k : Int) + r)) (fun i => z.2 3 (730 + i)) n) (hn : 0 < n) (h : z.2 3 (262 + 3 * (k : Int)) = p ∧ z.2 3 (238 + 3 * z.2 3 (262 + 3 * (k : Int) + 1)) ≤ z.2 3 7 ∧ z.2 3 7 < z.2 3 (238 + 3 * z.2 3 (262 + 3 * (k : Int) + 1) + 1)) :
    vtZ z p n (k + 1) = if wdZ (fun r => z.2 3 (298 + 36 * (k : Int) + r)) (fun i => z.2 3 (730 + i)) (n - 1) = -1 then ((vtZ z p n k).1, (vtZ z p n k).2 + 1) else (zu (vtZ z p n k).1 (wdZ (fun r => z.2 3 (298 + 36 * (k : Int) + r)) (fun i => z.2 3 (730 + i)) (n - 1)) ((vtZ z p n k).1 (wdZ (fun r => z.2 3 (298 + 36 * (k : Int) + r)) (fun i => z.2 3 (730 + i)) (n - 1)) + 1), (vtZ z p n k).2) := by
  have q := stopZ_wd P (k := n - 1) (by omega)
  rw [show n - 1 + 1 = n by omega] at q
  split
  · rename_i e; exact vtZ_s h (fun e2 => q.mp e2 e)
  · rename_i e; exact vtZ_y h (q.mpr e)
set_option maxHeartbeats 4000000 in
theorem bX0_vote {E : ET} {sh : SHT} {nn : Nat × Nat} {B : Nat} {ow : Nat → Nat} {z : ZT} {p w : Int} {x : Option Value} (W : RWZ (z.2 3)) (hp : 0 ≤ p ∧ p < z.2 3 0) (hw : 0 ≤ w ∧ w ≤ 2) (h5 : 0 < z.2 3 5) (hw2 : w ≠ 2) : ∀ (n j : Nat) (V : VT) (b : Int), 9 - j < n → j ≤ 9 → XR ow sh nn V B z → ((∀ i, 0 ≤ i → i < 10 → V.1 (B + 51) i = (vtZ z p (z.2 3 5).toNat (z.2 3 2).toNat).1 i) ∧ (0 ≤ b ∧ b < 10) ∧ (vtZ z p (z.2 3 5).toNat (z.2 3 2).toNat).1 b = (moZ (vtZ z p (z.2 3 5).toNat (z.2 3 2).toNat).1 (j + 1)).2 ∧ (b = (moZ (vtZ z p (z.2 3 5).toNat (z.2 3 2).toNat).1 (j + 1)).1 ∨ ((moZ (vtZ z p (z.2 3 5).toNat (z.2 3 2).toNat).1 (j + 1)).1 = -1 ∧ b = 0))) → TGo E mX0_vote 5 182 [some (.ref B), some (.int (iI p)), some (.int (iI w)), some (.int (iI (b))), some (.int (iI (((j) : Nat) + 1 : Int))), x] [] sh nn V (XP B nn (zp_vote z p w)) := by
  intro n
  induction n with
  | zero => intro j V b h; omega
  | succ n ih =>
    intro j V b hn hj hz hx
    obtain ⟨hB, how, hc, -⟩ := id hz
    have hv := vtZ_r z p (z.2 3 5).toNat (z.2 3 2).toNat
    have w0 := W.1.1
    have w2 := W.1.2.2.1
    have w5 := W.1.2.2.2.2.2.1
    obtain ⟨G, eG⟩ : ∃ G, G = (vtZ z p (z.2 3 5).toNat (z.2 3 2).toNat) := ⟨_, rfl⟩
    have eZ : zp_vote z p w = ((if w = 2 then G.2 else if w = 0 ∨ (moZ G.1 10).1 = -1 then (moZ G.1 10).1 else G.1 (moZ G.1 10).1), z) := by unfold zp_vote; rw [if_neg (by omega), eG]
    rw [← eG] at hx hv
    have hvb := hv.1 b
    have hvj := hv.1 ((j : Int) + 1)
    have hmo := moZ_r G.1 (j + 1)
    refine TGo.il dX0_vote_182 rfl ?_
    refine TGo.bip 10 dX0_vote_184 (by decide) ?_
    refine TGo.icmp_ge 214 dX0_vote_186 (by decide) (by omega) (fun h186 => ?_) (fun h186 => ?_)
    · refine TGo.al0 dX0_vote_214 rfl ?_
      refine TGo.getS (t := 8) 13 13 (B + 51) (hB 0 (by decide)) rfl fgX0_65_0 dX0_vote_215 rfl rfl rfl ?_
      refine TGo.il3 dX0_vote_218 rfl ?_
      refine TGo.iald dX0_vote_219 (hB 51 (by decide)) (by omega) rfl ?_
      refine TGo.toz _ (hx.1 _ (by omega) (by omega)) ?_
      refine TGo.if_ne 227 dX0_vote_220 (by decide) (by omega) (fun h220 => ?_) (fun h220 => ?_)
      · refine TGo.il2 dX0_vote_227 rfl ?_
        refine TGo.if_ne 235 dX0_vote_228 (by decide) (by omega) (fun h228 => ?_) (fun h228 => ?_)
        · refine TGo.al0 dX0_vote_235 rfl ?_
          refine TGo.getS (t := 8) 13 13 (B + 51) (hB 0 (by decide)) rfl fgX0_65_0 dX0_vote_236 rfl rfl rfl ?_
          refine TGo.il3 dX0_vote_239 rfl ?_
          refine TGo.iald dX0_vote_240 (hB 51 (by decide)) (by omega) rfl ?_
          refine TGo.toz _ (hx.1 _ (by omega) (by omega)) ?_
          refine TGo.iret dX0_vote_241 rfl ?_
          obtain rfl : j = 9 := by omega
          have e10 : moZ G.1 (9 + 1) = moZ G.1 10 := rfl
          rw [e10] at hx hmo
          rw [eZ]
          refine hz.same ?_
          refine congrArg (fun q => (q, z)) ?_
          first
          | (exfalso; omega)
          | (rw [if_neg hw2, if_pos (by omega)]; omega)
          | (have e : (moZ G.1 10).1 = b := by omega
             rw [if_neg hw2, if_neg (by omega)]
             rw [e])
        · refine TGo.il3 dX0_vote_231 rfl ?_
          refine TGo.goto 241 dX0_vote_232 (by decide) ?_
          refine TGo.iret dX0_vote_241 rfl ?_
          obtain rfl : j = 9 := by omega
          have e10 : moZ G.1 (9 + 1) = moZ G.1 10 := rfl
          rw [e10] at hx hmo
          rw [eZ]
          refine hz.same ?_
          refine congrArg (fun q => (q, z)) ?_
          first
          | (exfalso; omega)
          | (rw [if_neg hw2, if_pos (by omega)]; omega)
          | (have e : (moZ G.1 10).1 = b := by omega
             rw [if_neg hw2, if_neg (by omega)]
             rw [e])
      · refine TGo.icm1 dX0_vote_223 ?_
        refine TGo.goto 241 dX0_vote_224 (by decide) ?_
        refine TGo.iret dX0_vote_241 rfl ?_
        obtain rfl : j = 9 := by omega
        have e10 : moZ G.1 (9 + 1) = moZ G.1 10 := rfl
        rw [e10] at hx hmo
        rw [eZ]
        refine hz.same ?_
        refine congrArg (fun q => (q, z)) ?_
        first
        | (exfalso; omega)
        | (rw [if_neg hw2, if_pos (by omega)]; omega)
        | (have e : (moZ G.1 10).1 = b := by omega
           rw [if_neg hw2, if_neg (by omega)]
           rw [e])
    · refine TGo.al0 dX0_vote_189 rfl ?_
      refine TGo.getS (t := 8) 13 13 (B + 51) (hB 0 (by decide)) rfl fgX0_65_0 dX0_vote_190 rfl rfl rfl ?_
      refine TGo.il dX0_vote_193 rfl ?_
      refine TGo.iald dX0_vote_195 (hB 51 (by decide)) (by omega) rfl ?_
      refine TGo.toz _ (hx.1 _ (by omega) (by omega)) ?_
      refine TGo.al0 dX0_vote_196 rfl ?_
      refine TGo.getS (t := 8) 13 13 (B + 51) (hB 0 (by decide)) rfl fgX0_65_0 dX0_vote_197 rfl rfl rfl ?_
      refine TGo.il3 dX0_vote_200 rfl ?_
      refine TGo.iald dX0_vote_201 (hB 51 (by decide)) (by omega) rfl ?_
      refine TGo.toz _ (hx.1 _ (by omega) (by omega)) ?_
      refine TGo.icmp_le 208 dX0_vote_202 (by decide) (by omega) (fun h202 => ?_) (fun h202 => ?_)
      · refine TGo.iinc dX0_vote_208 rfl rfl rfl ?_
        refine TGo.goto 182 dX0_vote_211 (by decide) ?_
        exact TGo.seq [some (.ref B), some (.int (iI p)), some (.int (iI w)), some (.int (iI (_))), some (.int (iI ((((j + 1)) : Nat) + 1 : Int))), x] [] _ (rfl) rfl rfl (ih (j + 1) _ b (by omega) (by omega) hz (by
          have hm2 : moZ G.1 (j + 1 + 1) = if (moZ G.1 (j + 1)).2 < G.1 (((j + 1 : Nat)) : Int) then (((j + 1 : Nat) : Int), G.1 (((j + 1 : Nat)) : Int)) else moZ G.1 (j + 1) := rfl
          rw [← eG, hm2, show (((j + 1 : Nat)) : Int) = (j : Int) + 1 by omega]
          first
          | (rw [if_pos (by omega)]; exact ⟨hx.1, by omega, rfl, Or.inl rfl⟩)
          | (rw [if_neg (by omega)]; exact ⟨hx.1, hx.2⟩)))
      · refine TGo.il dX0_vote_205 rfl ?_
        refine TGo.is3 dX0_vote_207 rfl rfl ?_
        refine TGo.iinc dX0_vote_208 rfl rfl rfl ?_
        refine TGo.goto 182 dX0_vote_211 (by decide) ?_
        exact TGo.seq [some (.ref B), some (.int (iI p)), some (.int (iI w)), some (.int (iI (_))), some (.int (iI ((((j + 1)) : Nat) + 1 : Int))), x] [] _ (rfl) rfl rfl (ih (j + 1) _ ((j : Int) + 1) (by omega) (by omega) hz (by
          have hm2 : moZ G.1 (j + 1 + 1) = if (moZ G.1 (j + 1)).2 < G.1 (((j + 1 : Nat)) : Int) then (((j + 1 : Nat) : Int), G.1 (((j + 1 : Nat)) : Int)) else moZ G.1 (j + 1) := rfl
          rw [← eG, hm2, show (((j + 1 : Nat)) : Int) = (j : Int) + 1 by omega]
          first
          | (rw [if_pos (by omega)]; exact ⟨hx.1, by omega, rfl, Or.inl rfl⟩)
          | (rw [if_neg (by omega)]; exact ⟨hx.1, hx.2⟩)))
set_option maxHeartbeats 4000000 in
theorem lX0_vote {E : ET} {sh : SHT} {nn : Nat × Nat} {B : Nat} {ow : Nat → Nat} {z : ZT} {p w : Int} (W : RWZ (z.2 3)) (hp : 0 ≤ p ∧ p < z.2 3 0) (hw : 0 ≤ w ∧ w ≤ 2) (h5 : 0 < z.2 3 5) : ∀ (n j : Nat) (V : VT) (x y : Option Value), (z.2 3 2).toNat - j < n → j ≤ (z.2 3 2).toNat → XR ow sh nn V B z → ((∀ i, 0 ≤ i → i < 10 → V.1 (B + 51) i = (vtZ z p (z.2 3 5).toNat j).1 i) ∧ V.1 (B + 51) 10 = (vtZ z p (z.2 3 5).toNat j).2) → TGo E mX0_vote 5 52 [some (.ref B), some (.int (iI p)), some (.int (iI w)), some (.int (iI (((j) : Nat) : Int))), x, y] [] sh nn V (XP B nn (zp_vote z p w)) := by
  intro n
  induction n with
  | zero => intro j V x y h; omega
  | succ n ih =>
    intro j V x y hn hj hz hx
    obtain ⟨hB, how, hc, -⟩ := id hz
    have hv := vtZ_r z p (z.2 3 5).toNat j
    have w0 := W.1.1
    have w1 := W.1.2.1
    have w2 := W.1.2.2.1
    have w5 := W.1.2.2.2.2.2.1
    have w7 := W.1.2.2.2.2.2.2.2.1
    obtain ⟨ap, av, al, cp, cv, cl, gp, gv, gl, hne, ⟨hp1, hp2⟩, ⟨hv1, hv2⟩, hl1, hl2⟩ := id hz.2.2.2.1
    refine TGo.il3 dX0_vote_52 rfl ?_
    refine TGo.al0 dX0_vote_53 rfl ?_
    refine TGo.getS (t := 8) 2 2 (B + 2) (hB 0 (by decide)) rfl fgX0_16_0 dX0_vote_54 rfl rfl rfl ?_
    refine TGo.getS (t := 9) 6 6 (B + 28) (hB 2 (by decide)) rfl fgX0_136_1 dX0_vote_57 rfl rfl rfl ?_
    refine TGo.cF (csV0 (y2 := mJ2_size) (t := 20) 1 rfl (hB 28 (by decide)) rfl rfl dX0_vote_60 q756 q757 q758 okJ2_size npJ2_size rfl rfl) (kJ2_size hv1.1) ?_
    refine TGo.toz (z.2 3 2) (Int.toNat_of_nonneg (by omega)) ?_
    refine TGo.icmp_ge 164 dX0_vote_63 (by decide) (by omega) (fun h63 => ?_) (fun h63 => ?_)
    · refine TGo.il2 dX0_vote_164 rfl ?_
      refine TGo.ic2 dX0_vote_165 ?_
      refine TGo.icmp_ne 177 dX0_vote_166 (by decide) (by omega) (fun h166 => ?_) (fun h166 => ?_)
      · refine TGo.ic0 dX0_vote_177 ?_
        refine TGo.is3 dX0_vote_178 rfl rfl ?_
        refine TGo.ic1 dX0_vote_179 ?_
        refine TGo.is dX0_vote_180 rfl rfl ?_
        obtain rfl : j = (z.2 3 2).toNat := by omega
        exact bX0_vote W hp hw h5 (by omega) 10 0 _ 0 (by omega) (by omega) hz ⟨hx.1, by omega, by have := hv.1 0; show _ = (if (0 : Int) < (vtZ z p (z.2 3 5).toNat (z.2 3 2).toNat).1 0 then ((0 : Int), (vtZ z p (z.2 3 5).toNat (z.2 3 2).toNat).1 0) else (-1, 0)).2; split <;> omega, by have := hv.1 0; show (0 : Int) = (if (0 : Int) < (vtZ z p (z.2 3 5).toNat (z.2 3 2).toNat).1 0 then ((0 : Int), (vtZ z p (z.2 3 5).toNat (z.2 3 2).toNat).1 0) else (-1, 0)).1 ∨ (if (0 : Int) < (vtZ z p (z.2 3 5).toNat (z.2 3 2).toNat).1 0 then ((0 : Int), (vtZ z p (z.2 3 5).toNat (z.2 3 2).toNat).1 0) else (-1, 0)).1 = -1 ∧ _; split <;> omega⟩
      · refine TGo.al0 dX0_vote_169 rfl ?_
        refine TGo.getS (t := 8) 13 13 (B + 51) (hB 0 (by decide)) rfl fgX0_65_0 dX0_vote_170 rfl rfl rfl ?_
        refine TGo.bip 10 dX0_vote_173 (by decide) ?_
        refine TGo.iald dX0_vote_175 (hB 51 (by decide)) (by omega) rfl ?_
        refine TGo.iret dX0_vote_176 rfl ?_
        obtain rfl : j = (z.2 3 2).toNat := by omega
        refine hz.same ?_
        unfold zp_vote
        rw [if_neg (by omega), if_pos (by omega), hx.2]
    · obtain ⟨v0, v1, v2, S, v3, v4, v5, v6⟩ := hv2 j (by omega)
      have hwv := W.2.2.2.2.1 (j : Int) (by omega) (by omega)
      have P : PlZ (fun r => z.2 3 (298 + 36 * (j : Int) + r)) (fun i => z.2 3 (730 + i)) (z.2 3 5).toNat := ⟨fun r r0 r1 => W.2.2.2.2.2.1 (j : Int) r (by omega) (by omega) r0 r1, fun k k0 k1 => W.2.2.2.2.2.2.1 k k0 (by omega)⟩
      have hwr := wdR P (k := (z.2 3 5).toNat - 1) (by omega)
      refine TGo.al0 dX0_vote_66 rfl ?_
      refine TGo.getS (t := 8) 2 2 (B + 2) (hB 0 (by decide)) rfl fgX0_16_0 dX0_vote_67 rfl rfl rfl ?_
      refine TGo.getS (t := 9) 6 6 (B + 28) (hB 2 (by decide)) rfl fgX0_136_1 dX0_vote_70 rfl rfl rfl ?_
      refine TGo.il3 dX0_vote_73 rfl ?_
      refine TGo.cF (csV1 (y2 := mJ2_get) (t := 20) 3 rfl (hB 28 (by decide)) rfl rfl dX0_vote_74 q760 q761 q762 okJ2_get npJ2_get rfl rfl) (kJ2_get hv1.1 (k := j) (by omega)) ?_
      refine TGo.castO (t := 35) dX0_vote_77 q774 v1 rfl rfl (Or.inl rfl) ?_
      refine TGo.as dX0_vote_80 rfl rfl ?_
      refine TGo.al dX0_vote_82 rfl ?_
      refine TGo.getI (t := 35) 0 0 v1 rfl fgX0_204_27 dX0_vote_84 rfl rfl rfl ?_
      refine TGo.toz _ (v2.1) ?_
      refine TGo.il1 dX0_vote_87 rfl ?_
      refine TGo.icmp_ne 158 dX0_vote_88 (by decide) (by omega) (fun h88 => ?_) (fun h88 => ?_)
      · refine TGo.iinc dX0_vote_158 rfl rfl rfl ?_
        refine TGo.goto 52 dX0_vote_161 (by decide) ?_
        exact TGo.seq [some (.ref B), some (.int (iI p)), some (.int (iI w)), some (.int (iI ((((j + 1)) : Nat) : Int))), _, _] [] _ (rfl) rfl rfl (ih (j + 1) _ _ _ (by omega) (by omega) hz (by
          first
          | (rw [vtZ_n (by omega)]; exact hx)
          | (have e := vtZ_w (z := z) (p := p) (k := j) P (by omega) (by omega)
             by_cases ew : (wdZ (fun r => z.2 3 (298 + 36 * (j : Int) + r)) (fun i => z.2 3 (730 + i)) ((z.2 3 5).toNat - 1)) = -1
             · first
               | exact absurd ew (by assumption)
               | (rw [e, if_pos ew]
                  refine ⟨fun i i0 i1 => (u2_n (Or.inr (by omega))).trans (hx.1 i i0 i1), ?_⟩
                  exact u2_s.trans (by rw [hx.2]))
             · first
               | exact absurd (by assumption) ew
               | (rw [e, if_neg ew]
                  refine ⟨fun i i0 i1 => ?_, (u2_n (Or.inr (by omega))).trans hx.2⟩
                  by_cases e2 : i = (wdZ (fun r => z.2 3 (298 + 36 * (j : Int) + r)) (fun i => z.2 3 (730 + i)) ((z.2 3 5).toNat - 1))
                  · rw [e2]
                    refine u2_s.trans ?_
                    rw [hx.1 _ (by omega) (by omega)]
                    exact zu_s.symm
                  · exact (u2_n (Or.inr e2)).trans ((hx.1 i i0 i1).trans (zu_n e2).symm)))))
      · refine TGo.al0 dX0_vote_91 rfl ?_
        refine TGo.al dX0_vote_92 rfl ?_
        have hwp := W.2.2.2.1 (z.2 3 (262 + 3 * (j : Int) + 1)) hwv.2.1.1 hwv.2.1.2
        refine TGo.getI (t := 35) 1 1 v1 rfl fgX0_340_27 dX0_vote_94 rfl rfl rfl ?_
        refine TGo.toz _ (v2.2.1) ?_
        refine TGo.al0 dX0_vote_97 rfl ?_
        refine TGo.cF (csV0 (y2 := mX0_year) (t := 8) 1 rfl (hB 0 (by decide)) rfl rfl dX0_vote_98 q827 q829 qs8 okX0_year npX0_year rfl rfl) (kX0_year hB hc) ?_
        refine TGo.cF (csV2 (y2 := mX0_isAlive) (t := 8) 4 rfl (hB 0 (by decide)) rfl rfl dX0_vote_101 q1455 q1457 qs17 okX0_isAlive npX0_isAlive rfl rfl) (kX0_isAlive hz W (by omega) (by omega)) ?_
        refine TGo.ifb_ne 110 dX0_vote_104 (by decide) (fun h104 => ?_) (fun h104 => ?_)
        · refine TGo.al dX0_vote_110 rfl ?_
          refine TGo.getQ (t := 35) 3 3 S v1 rfl fgX0_145_27 dX0_vote_112 rfl ⟨rfl, v3⟩ rfl ?_
          refine TGo.al0 dX0_vote_115 rfl ?_
          refine TGo.getS (t := 8) 2 2 (B + 2) (hB 0 (by decide)) rfl fgX0_16_0 dX0_vote_116 rfl rfl rfl ?_
          refine TGo.getS (t := 9) 2 2 (B + 23) (hB 2 (by decide)) rfl fgX0_324_1 dX0_vote_119 rfl rfl rfl ?_
          refine TGo.al0 dX0_vote_122 rfl ?_
          refine TGo.getS (t := 8) 2 2 (B + 2) (hB 0 (by decide)) rfl fgX0_16_0 dX0_vote_123 rfl rfl rfl ?_
          refine TGo.getI (t := 9) 9 9 (hB 2 (by decide)) rfl fgX0_321_1 dX0_vote_126 rfl rfl rfl ?_
          refine TGo.toz _ (hc.1.2.1.2.1) ?_
          refine TGo.ic1 dX0_vote_129 ?_
          refine TGo.isub dX0_vote_130 ?_
          refine TGo.toz ((((z.2 3 5).toNat - 1 : Nat)) : Int) (by omega) ?_
          refine TGo.cF (csV2 (y2 := mX2_wordAt) (t := 10) 4 rfl v5.1 rfl rfl dX0_vote_131 q1556 q1557 q1558 okX2_wordAt npX2_wordAt rfl rfl) (kX2_wordAt v5 (hB 23 (by decide)) (fun i i0 i1 => hc.1.2.2.2.1 i i0 i1) P (by omega) (m := (z.2 3 5).toNat - 1) (by omega) v6) ?_
          refine TGo.is dX0_vote_134 rfl rfl ?_
          refine TGo.al0 dX0_vote_136 rfl ?_
          refine TGo.getS (t := 8) 13 13 (B + 51) (hB 0 (by decide)) rfl fgX0_65_0 dX0_vote_137 rfl rfl rfl ?_
          refine TGo.il dX0_vote_140 rfl ?_
          refine TGo.icm1 dX0_vote_142 ?_
          refine TGo.icmp_ne 151 dX0_vote_143 (by decide) (by omega) (fun h143 => ?_) (fun h143 => ?_)
          · refine TGo.il dX0_vote_151 rfl ?_
            refine TGo.dup2 dX0_vote_153 rfl rfl ?_
            refine TGo.iald dX0_vote_154 (hB 51 (by decide)) (by omega) rfl ?_
            refine TGo.ic1 dX0_vote_155 ?_
            refine TGo.iadd dX0_vote_156 ?_
            refine TGo.iast dX0_vote_157 (hB 51 (by decide)) (by omega) rfl ?_
            refine TGo.iinc dX0_vote_158 rfl rfl rfl ?_
            refine TGo.goto 52 dX0_vote_161 (by decide) ?_
            exact TGo.seq [some (.ref B), some (.int (iI p)), some (.int (iI w)), some (.int (iI ((((j + 1)) : Nat) : Int))), _, _] [] _ (rfl) rfl rfl (ih (j + 1) _ _ _ (by omega) (by omega) (hz.wr0 (FrX.rf.i 51 rfl) (hc.sx (by omega)) rfl rfl rfl) (by
              first
              | (rw [vtZ_n (by omega)]; exact hx)
              | (have e := vtZ_w (z := z) (p := p) (k := j) P (by omega) (by omega)
                 by_cases ew : (wdZ (fun r => z.2 3 (298 + 36 * (j : Int) + r)) (fun i => z.2 3 (730 + i)) ((z.2 3 5).toNat - 1)) = -1
                 · first
                   | exact absurd ew (by assumption)
                   | (rw [e, if_pos ew]
                      refine ⟨fun i i0 i1 => (u2_n (Or.inr (by omega))).trans (hx.1 i i0 i1), ?_⟩
                      exact u2_s.trans (by rw [hx.2]))
                 · first
                   | exact absurd (by assumption) ew
                   | (rw [e, if_neg ew]
                      refine ⟨fun i i0 i1 => ?_, (u2_n (Or.inr (by omega))).trans hx.2⟩
                      by_cases e2 : i = (wdZ (fun r => z.2 3 (298 + 36 * (j : Int) + r)) (fun i => z.2 3 (730 + i)) ((z.2 3 5).toNat - 1))
                      · rw [e2]
                        refine u2_s.trans ?_
                        rw [hx.1 _ (by omega) (by omega)]
                        exact zu_s.symm
                      · exact (u2_n (Or.inr e2)).trans ((hx.1 i i0 i1).trans (zu_n e2).symm)))))
          · refine TGo.bip 10 dX0_vote_146 (by decide) ?_
            refine TGo.goto 153 dX0_vote_148 (by decide) ?_
            refine TGo.dup2 dX0_vote_153 rfl rfl ?_
            refine TGo.iald dX0_vote_154 (hB 51 (by decide)) (by omega) rfl ?_
            refine TGo.ic1 dX0_vote_155 ?_
            refine TGo.iadd dX0_vote_156 ?_
            refine TGo.iast dX0_vote_157 (hB 51 (by decide)) (by omega) rfl ?_
            refine TGo.iinc dX0_vote_158 rfl rfl rfl ?_
            refine TGo.goto 52 dX0_vote_161 (by decide) ?_
            exact TGo.seq [some (.ref B), some (.int (iI p)), some (.int (iI w)), some (.int (iI ((((j + 1)) : Nat) : Int))), _, _] [] _ (rfl) rfl rfl (ih (j + 1) _ _ _ (by omega) (by omega) (hz.wr0 (FrX.rf.i 51 rfl) (hc.sx (by omega)) rfl rfl rfl) (by
              first
              | (rw [vtZ_n (by omega)]; exact hx)
              | (have e := vtZ_w (z := z) (p := p) (k := j) P (by omega) (by omega)
                 by_cases ew : (wdZ (fun r => z.2 3 (298 + 36 * (j : Int) + r)) (fun i => z.2 3 (730 + i)) ((z.2 3 5).toNat - 1)) = -1
                 · first
                   | exact absurd ew (by assumption)
                   | (rw [e, if_pos ew]
                      refine ⟨fun i i0 i1 => (u2_n (Or.inr (by omega))).trans (hx.1 i i0 i1), ?_⟩
                      exact u2_s.trans (by rw [hx.2]))
                 · first
                   | exact absurd (by assumption) ew
                   | (rw [e, if_neg ew]
                      refine ⟨fun i i0 i1 => ?_, (u2_n (Or.inr (by omega))).trans hx.2⟩
                      by_cases e2 : i = (wdZ (fun r => z.2 3 (298 + 36 * (j : Int) + r)) (fun i => z.2 3 (730 + i)) ((z.2 3 5).toNat - 1))
                      · rw [e2]
                        refine u2_s.trans ?_
                        rw [hx.1 _ (by omega) (by omega)]
                        exact zu_s.symm
                      · exact (u2_n (Or.inr e2)).trans ((hx.1 i i0 i1).trans (zu_n e2).symm)))))
        · refine TGo.goto 158 dX0_vote_107 (by decide) ?_
          refine TGo.iinc dX0_vote_158 rfl rfl rfl ?_
          refine TGo.goto 52 dX0_vote_161 (by decide) ?_
          exact TGo.seq [some (.ref B), some (.int (iI p)), some (.int (iI w)), some (.int (iI ((((j + 1)) : Nat) : Int))), _, _] [] _ (rfl) rfl rfl (ih (j + 1) _ _ _ (by omega) (by omega) hz (by
            first
            | (rw [vtZ_n (by omega)]; exact hx)
            | (have e := vtZ_w (z := z) (p := p) (k := j) P (by omega) (by omega)
               by_cases ew : (wdZ (fun r => z.2 3 (298 + 36 * (j : Int) + r)) (fun i => z.2 3 (730 + i)) ((z.2 3 5).toNat - 1)) = -1
               · first
                 | exact absurd ew (by assumption)
                 | (rw [e, if_pos ew]
                    refine ⟨fun i i0 i1 => (u2_n (Or.inr (by omega))).trans (hx.1 i i0 i1), ?_⟩
                    exact u2_s.trans (by rw [hx.2]))
               · first
                 | exact absurd (by assumption) ew
                 | (rw [e, if_neg ew]
                    refine ⟨fun i i0 i1 => ?_, (u2_n (Or.inr (by omega))).trans hx.2⟩
                    by_cases e2 : i = (wdZ (fun r => z.2 3 (298 + 36 * (j : Int) + r)) (fun i => z.2 3 (730 + i)) ((z.2 3 5).toNat - 1))
                    · rw [e2]
                      refine u2_s.trans ?_
                      rw [hx.1 _ (by omega) (by omega)]
                      exact zu_s.symm
                    · exact (u2_n (Or.inr e2)).trans ((hx.1 i i0 i1).trans (zu_n e2).symm)))))
set_option maxHeartbeats 4000000 in
theorem zX0_vote {E : ET} {sh : SHT} {nn : Nat × Nat} {B : Nat} {ow : Nat → Nat} {z : ZT} {p w : Int} (W : RWZ (z.2 3)) (hp : 0 ≤ p ∧ p < z.2 3 0) (hw : 0 ≤ w ∧ w ≤ 2) (h5 : 0 < z.2 3 5) : ∀ (n j : Nat) (V : VT), 11 - j < n → j ≤ 11 → XR ow sh nn V B z → (∀ r, 0 ≤ r → r < (j : Int) → V.1 (B + 51) r = 0) → TGo E mX0_vote 5 31 [some (.ref B), some (.int (iI p)), some (.int (iI w)), some (.int (iI (((j) : Nat) : Int))), none, none] [] sh nn V (XP B nn (zp_vote z p w)) := by
  intro n
  induction n with
  | zero => intro j V h; omega
  | succ n ih =>
    intro j V hn hj hz hx
    obtain ⟨hB, how, hc, -⟩ := id hz
    refine TGo.il3 dX0_vote_31 rfl ?_
    refine TGo.bip 10 dX0_vote_32 (by decide) ?_
    refine TGo.icmp_gt 50 dX0_vote_34 (by decide) (by omega) (fun h34 => ?_) (fun h34 => ?_)
    · refine TGo.ic0 dX0_vote_50 ?_
      refine TGo.is3 dX0_vote_51 rfl rfl ?_
      exact lX0_vote W hp hw h5 ((z.2 3 2).toNat + 1) 0 _ _ _ (by omega) (by omega) hz ⟨fun r h0 h1 => hx r h0 (by omega), hx 10 (by omega) (by omega)⟩
    · refine TGo.al0 dX0_vote_37 rfl ?_
      refine TGo.getS (t := 8) 13 13 (B + 51) (hB 0 (by decide)) rfl fgX0_65_0 dX0_vote_38 rfl rfl rfl ?_
      refine TGo.il3 dX0_vote_41 rfl ?_
      refine TGo.ic0 dX0_vote_42 ?_
      refine TGo.iast dX0_vote_43 (hB 51 (by decide)) (by omega) rfl ?_
      refine TGo.iinc dX0_vote_44 rfl rfl rfl ?_
      refine TGo.goto 31 dX0_vote_47 (by decide) ?_
      exact TGo.seq [some (.ref B), some (.int (iI p)), some (.int (iI w)), some (.int (iI ((((j + 1)) : Nat) : Int))), none, none] [] _ (rfl) rfl rfl (ih (j + 1) _ (by omega) (by omega) (hz.wr0 (FrX.rf.i 51 rfl) (hc.sx (by omega)) rfl rfl rfl) (fun r h0 h1 => by
        by_cases e : r = (j : Int)
        · rw [e]; exact u2_s
        · exact (u2_n (Or.inr e)).trans (hx r h0 (by omega))))
set_option maxHeartbeats 4000000 in
theorem kX0_vote {E : ET} {sh : SHT} {nn : Nat × Nat} {V : VT} {B : Nat} {ow : Nat → Nat} {z : ZT} {p w : Int} (hR : XR ow sh nn V B z) (W : RWZ (z.2 3)) (rp : R32 p) (rw : R32 w) : TC E mX0_vote 5 [.ref B, .int (iI p), .int (iI w)] sh nn V (XP B nn (zp_vote z p w)) := by
  obtain ⟨hB, -, hc, -⟩ := id hR
  have w0 := W.1.1
  have w2 := W.1.2.2.1
  have w5 := W.1.2.2.2.2.2.1
  obtain ⟨ap, av, al, cp, cv, cl, gp, gv, gl, hne, ⟨hp1, hp2⟩, ⟨hv1, hv2⟩, hl1, hl2⟩ := id hR.2.2.2.1
  refine TC.intro [some (.ref B), some (.int (iI p)), some (.int (iI w)), none, none, none] rfl ?_
  refine TGo.al0 dX0_vote_0 rfl ?_
  refine TGo.il1 dX0_vote_1 rfl ?_
  refine TGo.cF (csV1 (y2 := mX0_isPart) (t := 8) 2 rfl (hB 0 (by decide)) rfl rfl dX0_vote_2 q721 q723 qs4 okX0_isPart npX0_isPart rfl rfl) (kX0_isPart hB hc w0 (by omega)) ?_
  refine TGo.ifb_eq 27 dX0_vote_5 (by decide) (fun h5 => ?_) (fun h5 => ?_)
  · refine TGo.icm1 dX0_vote_27 ?_
    refine TGo.iret dX0_vote_28 rfl ?_
    first
    | (exfalso; omega)
    | (refine hR.same ?_
       unfold zp_vote
       rw [if_pos (by omega)])
  · refine TGo.il2 dX0_vote_8 rfl ?_
    refine TGo.ic0 dX0_vote_9 ?_
    refine TGo.ic2 dX0_vote_10 ?_
    refine TGo.cF (csS3 (y2 := mX0_in) 1 rfl dX0_vote_11 q598 q599 okX0_in npX0_in rfl rfl) (kX0_in (by omega) (by omega) (by omega)) ?_
    refine TGo.ifb_eq 27 dX0_vote_14 (by decide) (fun h14 => ?_) (fun h14 => ?_)
    · refine TGo.icm1 dX0_vote_27 ?_
      refine TGo.iret dX0_vote_28 rfl ?_
      first
      | (exfalso; omega)
      | (refine hR.same ?_
         unfold zp_vote
         rw [if_pos (by omega)])
    · refine TGo.al0 dX0_vote_17 rfl ?_
      refine TGo.getS (t := 8) 2 2 (B + 2) (hB 0 (by decide)) rfl fgX0_16_0 dX0_vote_18 rfl rfl rfl ?_
      refine TGo.getI (t := 9) 9 9 (hB 2 (by decide)) rfl fgX0_321_1 dX0_vote_21 rfl rfl rfl ?_
      refine TGo.toz _ (hc.1.2.1.2.1) ?_
      refine TGo.if_ne 29 dX0_vote_24 (by decide) (by omega) (fun h24 => ?_) (fun h24 => ?_)
      · refine TGo.ic0 dX0_vote_29 ?_
        refine TGo.is3 dX0_vote_30 rfl rfl ?_
        first
        | (exfalso; omega)
        | exact zX0_vote (by assumption) (by omega) (by omega) (by omega) 12 0 _ (by omega) (by omega) hR (fun r h0 h1 => absurd h1 (by omega))
      · refine TGo.icm1 dX0_vote_27 ?_
        refine TGo.iret dX0_vote_28 rfl ?_
        first
        | (exfalso; omega)
        | (refine hR.same ?_
           unfold zp_vote
           rw [if_pos (by omega)])
