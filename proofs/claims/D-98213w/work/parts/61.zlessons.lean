/-! THE MODEL: asks, begin, learn -/
set_option maxRecDepth 100000
def zp_asks (z : ZT) (p a t w : Int) : Int × ZT :=
  if ¬ ((0 ≤ p ∧ p < z.2 3 1) ∧ (0 ≤ a ∧ a < z.2 3 0) ∧ (t = -1 ∨ (0 ≤ t ∧ t < z.2 3 1)) ∧ 0 ≤ w ∧ w ≤ 2) then (-1, z) else if w = 0 then (slipZ (z.2 3) p a t (z.2 3 7), z) else if w = 1 then (hourZ (z.2 3) p a t (z.2 3 7), z) else (bZ (tellZ (z.2 3) 2 p a t (z.2 3 7) 0 = 1), z)
set_option maxHeartbeats 4000000 in
theorem kX10_asks {E : ET} {sh : SHT} {nn : Nat × Nat} {V : VT} {T : Nat} {z : ZT} {p a t w : Int} (hT : MSh T sh) (hz : PE T V z) (W : RWZ (z.2 3)) (WL : LawsZ (z.2 3)) (h15 : z.1 15 = 0) (rp : R32 p) (ra : R32 a) (rt : R32 t) (rw : R32 w) : TC E mX10_asks 6 [.ref T, .int (iI p), .int (iI a), .int (iI t), .int (iI w)] sh nn V (ZP T sh nn (zp_asks z p a t w)) := by
  have w0 := W.1.1
  have w1 := W.1.2.1
  have w7 := W.1.2.2.2.2.2.2.2.1
  refine TC.intro [some (.ref T), some (.int (iI p)), some (.int (iI a)), some (.int (iI t)), some (.int (iI w)), none] rfl ?_
  refine TGo.al0 dX10_asks_0 rfl ?_
  refine TGo.ic0 dX10_asks_1 ?_
  refine TGo.putI (t := 18) 0 0 (hT 0 (by decide)) rfl fpX10_163_10 dX10_asks_2 rfl rfl rfl ?_
  refine TGo.al0 dX10_asks_5 rfl ?_
  refine TGo.il1 dX10_asks_6 rfl ?_
  refine TGo.cF (csV1 (y2 := mX10_isPerson) (t := 18) 2 rfl (hT 0 (by decide)) rfl rfl dX10_asks_7 q2109 q2111 qs44 okX10_isPerson npX10_isPerson rfl rfl) (kX10_isPerson hT (hz.s rfl) w1 (by omega)) ?_
  refine TGo.ifb_eq 47 dX10_asks_10 (by decide) (fun h10 => ?_) (fun h10 => ?_)
  · refine TGo.icm1 dX10_asks_47 ?_
    refine TGo.iret dX10_asks_48 rfl ?_
    first
    | (exfalso; omega)
    | (refine leafZ (hz.s rfl) ?_
       unfold zp_asks
       (repeat (first | rw [if_pos (by first | rfl | assumption | omega)] | rw [if_neg (by first | decide | assumption | omega)]))
       (try first | rfl | rw [bZ_t (by first | assumption | omega)] | rw [bZ_f (by first | assumption | omega)]))
  · refine TGo.al0 dX10_asks_13 rfl ?_
    refine TGo.il2 dX10_asks_14 rfl ?_
    refine TGo.cF (csV1 (y2 := mX10_isPart) (t := 18) 2 rfl (hT 0 (by decide)) rfl rfl dX10_asks_15 q2061 q2063 qs40 okX10_isPart npX10_isPart rfl rfl) (kX10_isPart hT (hz.s rfl) w0 (by omega)) ?_
    refine TGo.ifb_eq 47 dX10_asks_18 (by decide) (fun h18 => ?_) (fun h18 => ?_)
    · refine TGo.icm1 dX10_asks_47 ?_
      refine TGo.iret dX10_asks_48 rfl ?_
      first
      | (exfalso; omega)
      | (refine leafZ (hz.s rfl) ?_
         unfold zp_asks
         (repeat (first | rw [if_pos (by first | rfl | assumption | omega)] | rw [if_neg (by first | decide | assumption | omega)]))
         (try first | rfl | rw [bZ_t (by first | assumption | omega)] | rw [bZ_f (by first | assumption | omega)]))
    · refine TGo.il3 dX10_asks_21 rfl ?_
      refine TGo.icm1 dX10_asks_22 ?_
      refine TGo.icmp_eq 34 dX10_asks_23 (by decide) (by omega) (fun h23 => ?_) (fun h23 => ?_)
      · refine TGo.il dX10_asks_34 rfl ?_
        refine TGo.i2l dX10_asks_36 (by omega) ?_
        refine TGo.lc0 dX10_asks_37 ?_
        refine TGo.ldc2 2 dX10_asks_38 q2284 (by decide) ?_
        refine TGo.cF (csS3 (y2 := mX10_in) 1 rfl dX10_asks_41 q2032 q2033 okX10_in npX10_in rfl rfl) (kX10_in (by omega) (by omega) (by omega)) ?_
        refine TGo.ifb_ne 49 dX10_asks_44 (by decide) (fun h44 => ?_) (fun h44 => ?_)
        · refine TGo.al0 dX10_asks_49 rfl ?_
          refine TGo.getS (t := 18) 3 3 (T + 2) (hT 0 (by decide)) rfl fgX10_13_10 dX10_asks_50 rfl rfl rfl ?_
          refine TGo.bip 7 dX10_asks_53 (by decide) ?_
          refine TGo.iald dX10_asks_55 (hT 2 (by decide)) (by omega) rfl ?_
          refine TGo.toz _ ((u2_n (Or.inl (by omega))).trans (hz.2.1 3 (by decide) _)) ?_
          refine TGo.is dX10_asks_56 rfl rfl ?_
          refine TGo.il dX10_asks_58 rfl ?_
          refine TGo.if_ne 75 dX10_asks_60 (by decide) (by omega) (fun h60 => ?_) (fun h60 => ?_)
          · refine TGo.il dX10_asks_75 rfl ?_
            refine TGo.ic1 dX10_asks_77 ?_
            refine TGo.icmp_ne 93 dX10_asks_78 (by decide) (by omega) (fun h78 => ?_) (fun h78 => ?_)
            · refine TGo.al0 dX10_asks_93 rfl ?_
              refine TGo.il1 dX10_asks_94 rfl ?_
              refine TGo.il2 dX10_asks_95 rfl ?_
              refine TGo.il3 dX10_asks_96 rfl ?_
              refine TGo.il dX10_asks_97 rfl ?_
              refine TGo.cS (csV4 (y2 := mX10_isBarred) (t := 18) 5 rfl (hT 0 (by decide)) rfl rfl dX10_asks_99 q2314 q2316 qs77 okX10_isBarred npX10_isBarred rfl rfl) (kX10_isBarred hT (hz.s rfl) W WL h15 (by omega) (by omega) (by omega) (by omega)) (fun v99 V99 h99 => ?_)
              obtain ⟨rfl, hz99, hf99⟩ := h99
              refine TGo.ifb_eq 109 dX10_asks_102 (by decide) (fun h102 => ?_) (fun h102 => ?_)
              · refine TGo.ic0 dX10_asks_109 ?_
                refine TGo.iret dX10_asks_110 rfl ?_
                first
                | (exfalso; omega)
                | (refine leafZ hz99 ?_
                   unfold zp_asks
                   (repeat (first | rw [if_pos (by first | rfl | assumption | omega)] | rw [if_neg (by first | decide | assumption | omega)]))
                   (try first | rfl | rw [bZ_t (by first | assumption | omega)] | rw [bZ_f (by first | assumption | omega)]))
              · refine TGo.ic1 dX10_asks_105 ?_
                refine TGo.goto 110 dX10_asks_106 (by decide) ?_
                refine TGo.iret dX10_asks_110 rfl ?_
                first
                | (exfalso; omega)
                | (refine leafZ hz99 ?_
                   unfold zp_asks
                   (repeat (first | rw [if_pos (by first | rfl | assumption | omega)] | rw [if_neg (by first | decide | assumption | omega)]))
                   (try first | rfl | rw [bZ_t (by first | assumption | omega)] | rw [bZ_f (by first | assumption | omega)]))
            · refine TGo.al0 dX10_asks_81 rfl ?_
              refine TGo.il1 dX10_asks_82 rfl ?_
              refine TGo.il2 dX10_asks_83 rfl ?_
              refine TGo.il3 dX10_asks_84 rfl ?_
              refine TGo.il dX10_asks_85 rfl ?_
              refine TGo.cS (csV4 (y2 := mX10_hoursOf) (t := 18) 5 rfl (hT 0 (by decide)) rfl rfl dX10_asks_87 q2310 q2312 qs76 okX10_hoursOf npX10_hoursOf rfl rfl) (kX10_hoursOf hT (hz.s rfl) W WL h15 (by omega) (by omega) (by omega) (by omega)) (fun v87 V87 h87 => ?_)
              obtain ⟨rfl, hz87, hf87⟩ := h87
              refine TGo.goto 110 dX10_asks_90 (by decide) ?_
              refine TGo.iret dX10_asks_110 rfl ?_
              first
              | (exfalso; omega)
              | (refine leafZ hz87 ?_
                 unfold zp_asks
                 (repeat (first | rw [if_pos (by first | rfl | assumption | omega)] | rw [if_neg (by first | decide | assumption | omega)]))
                 (try first | rfl | rw [bZ_t (by first | assumption | omega)] | rw [bZ_f (by first | assumption | omega)]))
          · refine TGo.al0 dX10_asks_63 rfl ?_
            refine TGo.il1 dX10_asks_64 rfl ?_
            refine TGo.il2 dX10_asks_65 rfl ?_
            refine TGo.il3 dX10_asks_66 rfl ?_
            refine TGo.il dX10_asks_67 rfl ?_
            refine TGo.cS (csV4 (y2 := mX10_slipOf) (t := 18) 5 rfl (hT 0 (by decide)) rfl rfl dX10_asks_69 q2285 q2287 qs71 okX10_slipOf npX10_slipOf rfl rfl) (kX10_slipOf hT (hz.s rfl) W WL h15 (by omega) (by omega) (by omega) (by omega)) (fun v69 V69 h69 => ?_)
            obtain ⟨rfl, hz69, hf69⟩ := h69
            refine TGo.goto 110 dX10_asks_72 (by decide) ?_
            refine TGo.iret dX10_asks_110 rfl ?_
            first
            | (exfalso; omega)
            | (refine leafZ hz69 ?_
               unfold zp_asks
               (repeat (first | rw [if_pos (by first | rfl | assumption | omega)] | rw [if_neg (by first | decide | assumption | omega)]))
               (try first | rfl | rw [bZ_t (by first | assumption | omega)] | rw [bZ_f (by first | assumption | omega)]))
        · refine TGo.icm1 dX10_asks_47 ?_
          refine TGo.iret dX10_asks_48 rfl ?_
          first
          | (exfalso; omega)
          | (refine leafZ (hz.s rfl) ?_
             unfold zp_asks
             (repeat (first | rw [if_pos (by first | rfl | assumption | omega)] | rw [if_neg (by first | decide | assumption | omega)]))
             (try first | rfl | rw [bZ_t (by first | assumption | omega)] | rw [bZ_f (by first | assumption | omega)]))
      · refine TGo.al0 dX10_asks_26 rfl ?_
        refine TGo.il3 dX10_asks_27 rfl ?_
        refine TGo.cF (csV1 (y2 := mX10_isPerson) (t := 18) 2 rfl (hT 0 (by decide)) rfl rfl dX10_asks_28 q2109 q2111 qs44 okX10_isPerson npX10_isPerson rfl rfl) (kX10_isPerson hT (hz.s rfl) w1 (by omega)) ?_
        refine TGo.ifb_eq 47 dX10_asks_31 (by decide) (fun h31 => ?_) (fun h31 => ?_)
        · refine TGo.icm1 dX10_asks_47 ?_
          refine TGo.iret dX10_asks_48 rfl ?_
          first
          | (exfalso; omega)
          | (refine leafZ (hz.s rfl) ?_
             unfold zp_asks
             (repeat (first | rw [if_pos (by first | rfl | assumption | omega)] | rw [if_neg (by first | decide | assumption | omega)]))
             (try first | rfl | rw [bZ_t (by first | assumption | omega)] | rw [bZ_f (by first | assumption | omega)]))
        · refine TGo.il dX10_asks_34 rfl ?_
          refine TGo.i2l dX10_asks_36 (by omega) ?_
          refine TGo.lc0 dX10_asks_37 ?_
          refine TGo.ldc2 2 dX10_asks_38 q2284 (by decide) ?_
          refine TGo.cF (csS3 (y2 := mX10_in) 1 rfl dX10_asks_41 q2032 q2033 okX10_in npX10_in rfl rfl) (kX10_in (by omega) (by omega) (by omega)) ?_
          refine TGo.ifb_ne 49 dX10_asks_44 (by decide) (fun h44 => ?_) (fun h44 => ?_)
          · refine TGo.al0 dX10_asks_49 rfl ?_
            refine TGo.getS (t := 18) 3 3 (T + 2) (hT 0 (by decide)) rfl fgX10_13_10 dX10_asks_50 rfl rfl rfl ?_
            refine TGo.bip 7 dX10_asks_53 (by decide) ?_
            refine TGo.iald dX10_asks_55 (hT 2 (by decide)) (by omega) rfl ?_
            refine TGo.toz _ ((u2_n (Or.inl (by omega))).trans (hz.2.1 3 (by decide) _)) ?_
            refine TGo.is dX10_asks_56 rfl rfl ?_
            refine TGo.il dX10_asks_58 rfl ?_
            refine TGo.if_ne 75 dX10_asks_60 (by decide) (by omega) (fun h60 => ?_) (fun h60 => ?_)
            · refine TGo.il dX10_asks_75 rfl ?_
              refine TGo.ic1 dX10_asks_77 ?_
              refine TGo.icmp_ne 93 dX10_asks_78 (by decide) (by omega) (fun h78 => ?_) (fun h78 => ?_)
              · refine TGo.al0 dX10_asks_93 rfl ?_
                refine TGo.il1 dX10_asks_94 rfl ?_
                refine TGo.il2 dX10_asks_95 rfl ?_
                refine TGo.il3 dX10_asks_96 rfl ?_
                refine TGo.il dX10_asks_97 rfl ?_
                refine TGo.cS (csV4 (y2 := mX10_isBarred) (t := 18) 5 rfl (hT 0 (by decide)) rfl rfl dX10_asks_99 q2314 q2316 qs77 okX10_isBarred npX10_isBarred rfl rfl) (kX10_isBarred hT (hz.s rfl) W WL h15 (by omega) (by omega) (by omega) (by omega)) (fun v99 V99 h99 => ?_)
                obtain ⟨rfl, hz99, hf99⟩ := h99
                refine TGo.ifb_eq 109 dX10_asks_102 (by decide) (fun h102 => ?_) (fun h102 => ?_)
                · refine TGo.ic0 dX10_asks_109 ?_
                  refine TGo.iret dX10_asks_110 rfl ?_
                  first
                  | (exfalso; omega)
                  | (refine leafZ hz99 ?_
                     unfold zp_asks
                     (repeat (first | rw [if_pos (by first | rfl | assumption | omega)] | rw [if_neg (by first | decide | assumption | omega)]))
                     (try first | rfl | rw [bZ_t (by first | assumption | omega)] | rw [bZ_f (by first | assumption | omega)]))
                · refine TGo.ic1 dX10_asks_105 ?_
                  refine TGo.goto 110 dX10_asks_106 (by decide) ?_
                  refine TGo.iret dX10_asks_110 rfl ?_
                  first
                  | (exfalso; omega)
                  | (refine leafZ hz99 ?_
                     unfold zp_asks
                     (repeat (first | rw [if_pos (by first | rfl | assumption | omega)] | rw [if_neg (by first | decide | assumption | omega)]))
                     (try first | rfl | rw [bZ_t (by first | assumption | omega)] | rw [bZ_f (by first | assumption | omega)]))
              · refine TGo.al0 dX10_asks_81 rfl ?_
                refine TGo.il1 dX10_asks_82 rfl ?_
                refine TGo.il2 dX10_asks_83 rfl ?_
                refine TGo.il3 dX10_asks_84 rfl ?_
                refine TGo.il dX10_asks_85 rfl ?_
                refine TGo.cS (csV4 (y2 := mX10_hoursOf) (t := 18) 5 rfl (hT 0 (by decide)) rfl rfl dX10_asks_87 q2310 q2312 qs76 okX10_hoursOf npX10_hoursOf rfl rfl) (kX10_hoursOf hT (hz.s rfl) W WL h15 (by omega) (by omega) (by omega) (by omega)) (fun v87 V87 h87 => ?_)
                obtain ⟨rfl, hz87, hf87⟩ := h87
                refine TGo.goto 110 dX10_asks_90 (by decide) ?_
                refine TGo.iret dX10_asks_110 rfl ?_
                first
                | (exfalso; omega)
                | (refine leafZ hz87 ?_
                   unfold zp_asks
                   (repeat (first | rw [if_pos (by first | rfl | assumption | omega)] | rw [if_neg (by first | decide | assumption | omega)]))
                   (try first | rfl | rw [bZ_t (by first | assumption | omega)] | rw [bZ_f (by first | assumption | omega)]))
            · refine TGo.al0 dX10_asks_63 rfl ?_
              refine TGo.il1 dX10_asks_64 rfl ?_
              refine TGo.il2 dX10_asks_65 rfl ?_
              refine TGo.il3 dX10_asks_66 rfl ?_
              refine TGo.il dX10_asks_67 rfl ?_
              refine TGo.cS (csV4 (y2 := mX10_slipOf) (t := 18) 5 rfl (hT 0 (by decide)) rfl rfl dX10_asks_69 q2285 q2287 qs71 okX10_slipOf npX10_slipOf rfl rfl) (kX10_slipOf hT (hz.s rfl) W WL h15 (by omega) (by omega) (by omega) (by omega)) (fun v69 V69 h69 => ?_)
              obtain ⟨rfl, hz69, hf69⟩ := h69
              refine TGo.goto 110 dX10_asks_72 (by decide) ?_
              refine TGo.iret dX10_asks_110 rfl ?_
              first
              | (exfalso; omega)
              | (refine leafZ hz69 ?_
                 unfold zp_asks
                 (repeat (first | rw [if_pos (by first | rfl | assumption | omega)] | rw [if_neg (by first | decide | assumption | omega)]))
                 (try first | rfl | rw [bZ_t (by first | assumption | omega)] | rw [bZ_f (by first | assumption | omega)]))
          · refine TGo.icm1 dX10_asks_47 ?_
            refine TGo.iret dX10_asks_48 rfl ?_
            first
            | (exfalso; omega)
            | (refine leafZ (hz.s rfl) ?_
               unfold zp_asks
               (repeat (first | rw [if_pos (by first | rfl | assumption | omega)] | rw [if_neg (by first | decide | assumption | omega)]))
               (try first | rfl | rw [bZ_t (by first | assumption | omega)] | rw [bZ_f (by first | assumption | omega)]))
/-- a version more -/
def addZ (z : ZT) (a h t : Int) : ZT := za (za (za (za z 3 (262 + 3 * z.2 3 2) a) 3 (262 + 3 * z.2 3 2 + 1) h) 3 (262 + 3 * z.2 3 2 + 2) t) 3 2 (z.2 3 2 + 1)
set_option maxHeartbeats 4000000 in
theorem kX10_add {E : ET} {sh : SHT} {nn : Nat × Nat} {V : VT} {T : Nat} {z : ZT} {a h t : Int} (hT : MSh T sh) (hz : PE T V z) (w2 : 0 ≤ z.2 3 2 ∧ z.2 3 2 < 12) : TS E mX10_add 2 [.ref T, .int (iI a), .int (iI h), .int (iI t)] sh nn V (fun v V1 => v = .int (iI (z.2 3 2)) ∧ PE T V1 (zTell (addZ z a h t) (z.2 3 2))) := by
  refine TC.intro [some (.ref T), some (.int (iI a)), some (.int (iI h)), some (.int (iI t)), none] rfl ?_
  refine TGo.al0 dX10_add_0 rfl ?_
  refine TGo.getS (t := 18) 3 3 (T + 2) (hT 0 (by decide)) rfl fgX10_13_10 dX10_add_1 rfl rfl rfl ?_
  refine TGo.ic2 dX10_add_4 ?_
  refine TGo.iald dX10_add_5 (hT 2 (by decide)) (by omega) rfl ?_
  refine TGo.toz _ (hz.2.1 3 (by decide) _) ?_
  refine TGo.is dX10_add_6 rfl rfl ?_
  refine TGo.al0 dX10_add_8 rfl ?_
  refine TGo.getS (t := 18) 3 3 (T + 2) (hT 0 (by decide)) rfl fgX10_13_10 dX10_add_9 rfl rfl rfl ?_
  refine TGo.sip 262 dX10_add_12 (by decide) ?_
  refine TGo.ic3 dX10_add_15 ?_
  refine TGo.il dX10_add_16 rfl ?_
  refine TGo.imul dX10_add_18 ?_
  refine TGo.iadd dX10_add_19 ?_
  refine TGo.il1 dX10_add_20 rfl ?_
  refine TGo.iast dX10_add_21 (hT 2 (by decide)) (by omega) rfl ?_
  refine TGo.al0 dX10_add_22 rfl ?_
  refine TGo.getS (t := 18) 3 3 (T + 2) (hT 0 (by decide)) rfl fgX10_13_10 dX10_add_23 rfl rfl rfl ?_
  refine TGo.sip 262 dX10_add_26 (by decide) ?_
  refine TGo.ic3 dX10_add_29 ?_
  refine TGo.il dX10_add_30 rfl ?_
  refine TGo.imul dX10_add_32 ?_
  refine TGo.iadd dX10_add_33 ?_
  refine TGo.ic1 dX10_add_34 ?_
  refine TGo.iadd dX10_add_35 ?_
  refine TGo.il2 dX10_add_36 rfl ?_
  refine TGo.iast dX10_add_37 (hT 2 (by decide)) (by omega) rfl ?_
  refine TGo.al0 dX10_add_38 rfl ?_
  refine TGo.getS (t := 18) 3 3 (T + 2) (hT 0 (by decide)) rfl fgX10_13_10 dX10_add_39 rfl rfl rfl ?_
  refine TGo.sip 262 dX10_add_42 (by decide) ?_
  refine TGo.ic3 dX10_add_45 ?_
  refine TGo.il dX10_add_46 rfl ?_
  refine TGo.imul dX10_add_48 ?_
  refine TGo.iadd dX10_add_49 ?_
  refine TGo.ic2 dX10_add_50 ?_
  refine TGo.iadd dX10_add_51 ?_
  refine TGo.il3 dX10_add_52 rfl ?_
  refine TGo.iast dX10_add_53 (hT 2 (by decide)) (by omega) rfl ?_
  refine TGo.al0 dX10_add_54 rfl ?_
  refine TGo.getS (t := 18) 3 3 (T + 2) (hT 0 (by decide)) rfl fgX10_13_10 dX10_add_55 rfl rfl rfl ?_
  refine TGo.ic2 dX10_add_58 ?_
  refine TGo.dup2 dX10_add_59 rfl rfl ?_
  refine TGo.iald dX10_add_60 (hT 2 (by decide)) (by omega) rfl ?_
  refine TGo.toz _ ((u2_n (Or.inr (by omega))).trans ((u2_n (Or.inr (by omega))).trans ((u2_n (Or.inr (by omega))).trans (hz.2.1 3 (by decide) _)))) ?_
  refine TGo.ic1 dX10_add_61 ?_
  refine TGo.iadd dX10_add_62 ?_
  refine TGo.iast dX10_add_63 (hT 2 (by decide)) (by omega) rfl ?_
  refine TGo.al0 dX10_add_64 rfl ?_
  refine TGo.il dX10_add_65 rfl ?_
  refine TGo.cS (csV1 (y2 := mX10_tell) (t := 18) 1 rfl (hT 0 (by decide)) rfl rfl dX10_add_67 q2035 q2037 qs39 okX10_tell npX10_tell rfl rfl) (kX10_tell hT ((((hz.a 3 rfl rfl).a 3 rfl rfl).a 3 rfl rfl).a 3 rfl rfl) (by omega)) (fun v67 V67 h67 => ?_)
  obtain ⟨rfl, hz67⟩ := h67
  refine TGo.iret dX10_add_70 rfl ?_
  exact ⟨_, rfl, rfl, rfl, rfl, hz67⟩
theorem bgZ_0 {z : ZT} {n0 a : Int} {j : Int} {g : Int → Int} (hn : 0 ≤ n0 ∧ n0 < 12) (hj : 0 ≤ j ∧ j ≤ 36) {i : Int} (hi : 0 ≤ i ∧ (i < 298 ∨ 730 ≤ i)) : (zA z 3 (zc (z.2 3) (298 + 36 * n0) j g a)).2 3 i = z.2 3 i := by
  show u1 z.2 3 (zc (z.2 3) (298 + 36 * n0) j g a) 3 i = _
  rw [u1_s, zc_out (by omega)]
set_option maxHeartbeats 4000000 in
theorem lX10_begin {E : ET} {sh : SHT} {nn : Nat × Nat} {T : Nat} {z : ZT} {a p n0 : Int} (hT : MSh T sh) (ha : 0 ≤ a ∧ a < 6) (hn0 : 0 ≤ n0 ∧ n0 < 12) (h2 : z.2 3 2 = n0) : ∀ (n j : Nat) (V : VT), 36 - j < n → j ≤ 36 → PE T V (zA z 3 (zc (z.2 3) (298 + 36 * n0) (j : Int) (z.2 3) (22 + 36 * a))) → TGo E mX10_begin_2 6 83 [some (.ref T), some (.int (iI a)), some (.int (iI p)), some (.int (iI n0)), some (.int (iI (((j) : Nat) : Int)))] [] sh nn V (fun o sh' nn' V' => o = .inl (some (.int (iI n0))) ∧ sh' = sh ∧ nn' = nn ∧ PE T V' (zTell (addZ (zA z 3 (zc (z.2 3) (298 + 36 * n0) 36 (z.2 3) (22 + 36 * a))) a p (-1)) n0)) := by
  intro n
  induction n with
  | zero => intro j V h; omega
  | succ n ih =>
    intro j V hn hj hz
    refine TGo.il dX10_begin_2_83 rfl ?_
    refine TGo.bip 36 dX10_begin_2_85 (by decide) ?_
    refine TGo.icmp_ge 127 dX10_begin_2_87 (by decide) (by omega) (fun h87 => ?_) (fun h87 => ?_)
    · obtain rfl : j = 36 := by omega
      have e2 : (zA z 3 (zc (z.2 3) (298 + 36 * n0) 36 (z.2 3) (22 + 36 * a))).2 3 2 = n0 := (bgZ_0 hn0 (by omega) (by omega)).trans h2
      refine TGo.al0 dX10_begin_2_127 rfl ?_
      refine TGo.il1 dX10_begin_2_128 rfl ?_
      refine TGo.il2 dX10_begin_2_129 rfl ?_
      refine TGo.icm1 dX10_begin_2_130 ?_
      refine TGo.cS (csV3 (y2 := mX10_add) (t := 18) 2 rfl (hT 0 (by decide)) rfl rfl dX10_begin_2_131 q2356 q2358 qs82 okX10_add npX10_add rfl rfl) (kX10_add (z := (zA z 3 (zc (z.2 3) (298 + 36 * n0) 36 (z.2 3) (22 + 36 * a)))) hT hz (by omega)) (fun v131 V131 h131 => ?_)
      obtain ⟨rfl, hz131⟩ := h131
      refine TGo.iret dX10_begin_2_134 rfl ?_
      exact ⟨rvI e2, rfl, rfl, PE.eq hz131 (by rw [e2])⟩
    · refine TGo.al0 dX10_begin_2_90 rfl ?_
      refine TGo.getS (t := 18) 3 3 (T + 2) (hT 0 (by decide)) rfl fgX10_13_10 dX10_begin_2_91 rfl rfl rfl ?_
      refine TGo.sip 298 dX10_begin_2_94 (by decide) ?_
      refine TGo.bip 36 dX10_begin_2_97 (by decide) ?_
      refine TGo.il3 dX10_begin_2_99 rfl ?_
      refine TGo.imul dX10_begin_2_100 ?_
      refine TGo.iadd dX10_begin_2_101 ?_
      refine TGo.il dX10_begin_2_102 rfl ?_
      refine TGo.iadd dX10_begin_2_104 ?_
      refine TGo.al0 dX10_begin_2_105 rfl ?_
      refine TGo.getS (t := 18) 3 3 (T + 2) (hT 0 (by decide)) rfl fgX10_13_10 dX10_begin_2_106 rfl rfl rfl ?_
      refine TGo.bip 22 dX10_begin_2_109 (by decide) ?_
      refine TGo.bip 36 dX10_begin_2_111 (by decide) ?_
      refine TGo.il1 dX10_begin_2_113 rfl ?_
      refine TGo.imul dX10_begin_2_114 ?_
      refine TGo.iadd dX10_begin_2_115 ?_
      refine TGo.il dX10_begin_2_116 rfl ?_
      refine TGo.iadd dX10_begin_2_118 ?_
      refine TGo.iald dX10_begin_2_119 (hT 2 (by decide)) (by omega) rfl ?_
      refine TGo.toz (z.2 3 (22 + 36 * a + (j : Int))) ((hz.2.1 3 (by decide) _).trans (bgZ_0 hn0 (by omega) (by omega))) ?_
      refine TGo.iast dX10_begin_2_120 (hT 2 (by decide)) (by omega) rfl ?_
      refine TGo.iinc dX10_begin_2_121 rfl rfl rfl ?_
      refine TGo.goto 83 dX10_begin_2_124 (by decide) ?_
      exact TGo.seq [some (.ref T), some (.int (iI a)), some (.int (iI p)), some (.int (iI n0)), some (.int (iI ((((j + 1)) : Nat) : Int)))] [] _ (rfl) rfl rfl (ih (j + 1) _ (by omega) (by omega) (PE.eq (hz.a 3 rfl rfl) zAc))
def zp_begin (z : ZT) (a p : Int) : Int × ZT := if ¬ ((0 ≤ a ∧ a < z.2 3 0) ∧ (0 ≤ p ∧ p < z.2 3 1)) then ((-2), zTell z (-2)) else if ¬ (z.2 3 (238 + 3 * p) ≤ z.2 3 7 ∧ z.2 3 7 < z.2 3 (238 + 3 * p + 1)) ∨ tellZ (z.2 3) 2 p a (-1) (z.2 3 7) 0 = 1 then ((-3), zTell z (-3)) else if z.2 3 2 = 12 then ((-5), zTell z (-5))
  else (z.2 3 2, zTell (addZ (zA z 3 (zc (z.2 3) (298 + 36 * z.2 3 2) 36 (z.2 3) (22 + 36 * a))) a p (-1)) (z.2 3 2))
set_option maxHeartbeats 4000000 in
theorem kX10_begin_2 {E : ET} {sh : SHT} {nn : Nat × Nat} {V : VT} {T : Nat} {z : ZT} {a p : Int} (hT : MSh T sh) (hz : PE T V z) (W : RWZ (z.2 3)) (WL : LawsZ (z.2 3)) (h15 : z.1 15 = 0) (ra : R32 a) (rp : R32 p) : TC E mX10_begin_2 6 [.ref T, .int (iI a), .int (iI p)] sh nn V (ZP T sh nn (zp_begin z a p)) := by
  have w0 := W.1.1
  have w1 := W.1.2.1
  have w2 := W.1.2.2.1
  have w7 := W.1.2.2.2.2.2.2.2.1
  refine TC.intro [some (.ref T), some (.int (iI a)), some (.int (iI p)), none, none] rfl ?_
  refine TGo.al0 dX10_begin_2_0 rfl ?_
  refine TGo.ic0 dX10_begin_2_1 ?_
  refine TGo.putI (t := 18) 0 0 (hT 0 (by decide)) rfl fpX10_163_10 dX10_begin_2_2 rfl rfl rfl ?_
  refine TGo.al0 dX10_begin_2_5 rfl ?_
  refine TGo.il1 dX10_begin_2_6 rfl ?_
  refine TGo.cF (csV1 (y2 := mX10_isPart) (t := 18) 2 rfl (hT 0 (by decide)) rfl rfl dX10_begin_2_7 q2061 q2063 qs40 okX10_isPart npX10_isPart rfl rfl) (kX10_isPart hT (hz.s rfl) w0 (by omega)) ?_
  refine TGo.ifb_eq 21 dX10_begin_2_10 (by decide) (fun h10 => ?_) (fun h10 => ?_)
  · refine TGo.al0 dX10_begin_2_21 rfl ?_
    refine TGo.bip (-2) dX10_begin_2_22 (by decide) ?_
    refine TGo.cS (csV1 (y2 := mX10_tell) (t := 18) 1 rfl (hT 0 (by decide)) rfl rfl dX10_begin_2_24 q2035 q2037 qs39 okX10_tell npX10_tell rfl rfl) (kX10_tell hT (hz.s rfl) (by omega)) (fun v24 V24 h24 => ?_)
    obtain ⟨rfl, hz24⟩ := h24
    refine TGo.iret dX10_begin_2_27 rfl ?_
    first
    | (exfalso; omega)
    | (refine leafZ hz24 ?_
       unfold zp_begin
       (repeat (first | rw [if_pos (by first | rfl | assumption | omega)] | rw [if_neg (by first | decide | assumption | omega)]))
       (try first | rfl | rw [bZ_t (by first | assumption | omega)] | rw [bZ_f (by first | assumption | omega)]))
  · refine TGo.al0 dX10_begin_2_13 rfl ?_
    refine TGo.il2 dX10_begin_2_14 rfl ?_
    refine TGo.cF (csV1 (y2 := mX10_isPerson) (t := 18) 2 rfl (hT 0 (by decide)) rfl rfl dX10_begin_2_15 q2109 q2111 qs44 okX10_isPerson npX10_isPerson rfl rfl) (kX10_isPerson hT (hz.s rfl) w1 (by omega)) ?_
    refine TGo.ifb_ne 28 dX10_begin_2_18 (by decide) (fun h18 => ?_) (fun h18 => ?_)
    · refine TGo.al0 dX10_begin_2_28 rfl ?_
      refine TGo.il2 dX10_begin_2_29 rfl ?_
      refine TGo.cF (csV1 (y2 := mX10_isAlive) (t := 18) 2 rfl (hT 0 (by decide)) rfl rfl dX10_begin_2_30 q2121 q2123 qs46 okX10_isAlive npX10_isAlive rfl rfl) (kX10_isAlive hT (hz.s rfl) W (by omega)) ?_
      refine TGo.ifb_eq 53 dX10_begin_2_33 (by decide) (fun h33 => ?_) (fun h33 => ?_)
      · refine TGo.al0 dX10_begin_2_53 rfl ?_
        refine TGo.bip (-3) dX10_begin_2_54 (by decide) ?_
        refine TGo.cS (csV1 (y2 := mX10_tell) (t := 18) 1 rfl (hT 0 (by decide)) rfl rfl dX10_begin_2_56 q2035 q2037 qs39 okX10_tell npX10_tell rfl rfl) (kX10_tell hT (hz.s rfl) (by omega)) (fun v56 V56 h56 => ?_)
        obtain ⟨rfl, hz56⟩ := h56
        refine TGo.iret dX10_begin_2_59 rfl ?_
        first
        | (exfalso; omega)
        | (refine leafZ hz56 ?_
           unfold zp_begin
           (repeat (first | rw [if_pos (by first | rfl | assumption | omega)] | rw [if_neg (by first | decide | assumption | omega)]))
           (try first | rfl | rw [bZ_t (by first | assumption | omega)] | rw [bZ_f (by first | assumption | omega)]))
      · refine TGo.al0 dX10_begin_2_36 rfl ?_
        refine TGo.il2 dX10_begin_2_37 rfl ?_
        refine TGo.il1 dX10_begin_2_38 rfl ?_
        refine TGo.icm1 dX10_begin_2_39 ?_
        refine TGo.al0 dX10_begin_2_40 rfl ?_
        refine TGo.getS (t := 18) 3 3 (T + 2) (hT 0 (by decide)) rfl fgX10_13_10 dX10_begin_2_41 rfl rfl rfl ?_
        refine TGo.bip 7 dX10_begin_2_44 (by decide) ?_
        refine TGo.iald dX10_begin_2_46 (hT 2 (by decide)) (by omega) rfl ?_
        refine TGo.toz _ ((u2_n (Or.inl (by omega))).trans (hz.2.1 3 (by decide) _)) ?_
        refine TGo.cS (csV4 (y2 := mX10_isBarred) (t := 18) 5 rfl (hT 0 (by decide)) rfl rfl dX10_begin_2_47 q2314 q2316 qs77 okX10_isBarred npX10_isBarred rfl rfl) (kX10_isBarred hT (hz.s rfl) W WL h15 (by omega) (by omega) (by omega) (by omega)) (fun v47 V47 h47 => ?_)
        obtain ⟨rfl, hz47, hf47⟩ := h47
        refine TGo.ifb_eq 60 dX10_begin_2_50 (by decide) (fun h50 => ?_) (fun h50 => ?_)
        · refine TGo.al0 dX10_begin_2_60 rfl ?_
          refine TGo.getS (t := 18) 3 3 (T + 2) (hT 0 (by decide)) rfl fgX10_13_10 dX10_begin_2_61 rfl rfl rfl ?_
          refine TGo.ic2 dX10_begin_2_64 ?_
          refine TGo.iald dX10_begin_2_65 (hT 2 (by decide)) (by omega) rfl ?_
          refine TGo.toz _ (hz47.2.1 3 (by decide) _) ?_
          refine TGo.is3 dX10_begin_2_66 rfl rfl ?_
          refine TGo.il3 dX10_begin_2_67 rfl ?_
          refine TGo.bip 12 dX10_begin_2_68 (by decide) ?_
          refine TGo.icmp_ne 80 dX10_begin_2_70 (by decide) (by omega) (fun h70 => ?_) (fun h70 => ?_)
          · refine TGo.ic0 dX10_begin_2_80 ?_
            refine TGo.is dX10_begin_2_81 rfl rfl ?_
            first
            | (exfalso; omega)
            | (refine (lX10_begin (p := p) hT (by omega) (by omega) rfl 37 0 _ (by omega) (by omega) (PE.eq hz47 (by rw [show ((0 : Nat) : Int) = 0 from rfl, zc_0, zA_0]))).mono ?_
               rintro o sh' nn' V' ⟨ho, hs, hn, hp⟩
               unfold zp_begin
               rw [if_neg (by omega), if_neg (by omega), if_neg (by omega)]
               exact ⟨ho, hs, hn, hp⟩)
          · refine TGo.al0 dX10_begin_2_73 rfl ?_
            refine TGo.bip (-5) dX10_begin_2_74 (by decide) ?_
            refine TGo.cS (csV1 (y2 := mX10_tell) (t := 18) 1 rfl (hT 0 (by decide)) rfl rfl dX10_begin_2_76 q2035 q2037 qs39 okX10_tell npX10_tell rfl rfl) (kX10_tell hT hz47 (by omega)) (fun v76 V76 h76 => ?_)
            obtain ⟨rfl, hz76⟩ := h76
            refine TGo.iret dX10_begin_2_79 rfl ?_
            first
            | (exfalso; omega)
            | (refine leafZ hz76 ?_
               unfold zp_begin
               (repeat (first | rw [if_pos (by first | rfl | assumption | omega)] | rw [if_neg (by first | decide | assumption | omega)]))
               (try first | rfl | rw [bZ_t (by first | assumption | omega)] | rw [bZ_f (by first | assumption | omega)]))
        · refine TGo.al0 dX10_begin_2_53 rfl ?_
          refine TGo.bip (-3) dX10_begin_2_54 (by decide) ?_
          refine TGo.cS (csV1 (y2 := mX10_tell) (t := 18) 1 rfl (hT 0 (by decide)) rfl rfl dX10_begin_2_56 q2035 q2037 qs39 okX10_tell npX10_tell rfl rfl) (kX10_tell hT hz47 (by omega)) (fun v56 V56 h56 => ?_)
          obtain ⟨rfl, hz56⟩ := h56
          refine TGo.iret dX10_begin_2_59 rfl ?_
          first
          | (exfalso; omega)
          | (refine leafZ hz56 ?_
             unfold zp_begin
             (repeat (first | rw [if_pos (by first | rfl | assumption | omega)] | rw [if_neg (by first | decide | assumption | omega)]))
             (try first | rfl | rw [bZ_t (by first | assumption | omega)] | rw [bZ_f (by first | assumption | omega)]))
    · refine TGo.al0 dX10_begin_2_21 rfl ?_
      refine TGo.bip (-2) dX10_begin_2_22 (by decide) ?_
      refine TGo.cS (csV1 (y2 := mX10_tell) (t := 18) 1 rfl (hT 0 (by decide)) rfl rfl dX10_begin_2_24 q2035 q2037 qs39 okX10_tell npX10_tell rfl rfl) (kX10_tell hT (hz.s rfl) (by omega)) (fun v24 V24 h24 => ?_)
      obtain ⟨rfl, hz24⟩ := h24
      refine TGo.iret dX10_begin_2_27 rfl ?_
      first
      | (exfalso; omega)
      | (refine leafZ hz24 ?_
         unfold zp_begin
         (repeat (first | rw [if_pos (by first | rfl | assumption | omega)] | rw [if_neg (by first | decide | assumption | omega)]))
         (try first | rfl | rw [bZ_t (by first | assumption | omega)] | rw [bZ_f (by first | assumption | omega)]))
/-- the rules met at the first k cues, one with a slip: the script learned, how many, the state -/
def lrZ (kn c : Int → Int) (sl : Int) : Nat → (Int → Int) × Int × Int
  | 0 => (fun _ => -1, 0, 0)
  | k + 1 => if (lrZ kn c sl k).2.2 = -1 then lrZ kn c sl k
    else if kn (6 * (lrZ kn c sl k).2.2 + c (k : Int)) ≠ -1 ∧ (lrZ kn c sl k).1 (6 * (lrZ kn c sl k).2.2 + c (k : Int)) = -1 then
      (zu (lrZ kn c sl k).1 (6 * (lrZ kn c sl k).2.2 + c (k : Int)) (if (lrZ kn c sl k).2.1 = sl then (kn (6 * (lrZ kn c sl k).2.2 + c (k : Int)) + 6) % 60 else kn (6 * (lrZ kn c sl k).2.2 + c (k : Int))), (lrZ kn c sl k).2.1 + 1, nZ (kn (6 * (lrZ kn c sl k).2.2 + c (k : Int))))
    else ((lrZ kn c sl k).1, (lrZ kn c sl k).2.1, nZ (kn (6 * (lrZ kn c sl k).2.2 + c (k : Int))))
theorem lrZ_r {kn c : Int → Int} {sl : Int} {n : Nat} (h : PlZ kn c n) : ∀ k, k ≤ n → (∀ r, cOK ((lrZ kn c sl k).1 r)) ∧ (0 ≤ (lrZ kn c sl k).2.1 ∧ (lrZ kn c sl k).2.1 ≤ k) ∧ -1 ≤ (lrZ kn c sl k).2.2 ∧ (lrZ kn c sl k).2.2 ≤ 5 := by
  intro k
  induction k with
  | zero => intro _; exact ⟨fun r => by show -1 ≤ (-1 : Int) ∧ (-1 : Int) < 60; omega, ⟨Int.le_refl _, Int.le_refl _⟩, by show -1 ≤ (0 : Int) ∧ (0 : Int) ≤ 5; omega⟩
  | succ k ih =>
    intro hk
    have h1 := ih (by omega)
    rw [lrZ]
    by_cases e : (lrZ kn c sl k).2.2 = -1
    · rw [if_pos e]; exact ⟨h1.1, by omega, h1.2.2⟩
    · rw [if_neg e]
      have h2 := h.2 (k : Int) (by omega) (by omega)
      have h3 := h.1 (6 * (lrZ kn c sl k).2.2 + c (k : Int)) (by omega) (by omega)
      have h4 := nZ_r h3
      split
      · refine ⟨fun r => ?_, by simp only; omega, by simp only; omega⟩
        show cOK (zu _ _ _ r)
        unfold zu
        split
        · split <;> omega
        · exact h1.1 r
      · exact ⟨h1.1, by simp only; omega, by simp only; omega⟩
theorem lrZ_stay {kn c : Int → Int} {sl : Int} {j : Nat} (h : (lrZ kn c sl j).2.2 = -1) : ∀ k, j ≤ k → lrZ kn c sl k = lrZ kn c sl j := by
  intro k hk
  induction k with
  | zero => obtain rfl : j = 0 := by omega
            rfl
  | succ k ih =>
    rcases Nat.eq_or_lt_of_le hk with e | e
    · rw [e]
    · have e1 := ih (by omega)
      rw [lrZ, e1, if_pos h]
theorem zc_zu {f g : Int → Int} {a k r v : Int} (hr : 0 ≤ r ∧ r < k) : zu (zc f a k g 0) (a + r) v = zc f a k (zu g r v) 0 := by
  funext i
  unfold zu zc
  by_cases e : i = a + r
  · rw [if_pos e, if_pos (by omega)]
    show v = if 0 + (i - a) = r then v else g (0 + (i - a))
    rw [if_pos (by omega)]
  · rw [if_neg e]
    by_cases e2 : a ≤ i ∧ i < a + k
    · rw [if_pos e2, if_pos e2]
      show g (0 + (i - a)) = if 0 + (i - a) = r then v else g (0 + (i - a))
      rw [if_neg (by omega)]
    · rw [if_neg e2, if_neg e2]
theorem zf_zc {f : Int → Int} {a k v : Int} : zf f a k v = zc f a k (fun _ => v) 0 := rfl
theorem lnZ_r {z : ZT} {n0 : Int} {g : Int → Int} (hn : 0 ≤ n0 ∧ n0 < 12) {r : Int} (hr : 0 ≤ r ∧ r < 36) : (zA z 3 (zc (z.2 3) (298 + 36 * n0) 36 g 0)).2 3 (298 + 36 * n0 + r) = g r := by
  show u1 z.2 3 (zc (z.2 3) (298 + 36 * n0) 36 g 0) 3 _ = _
  rw [u1_s, zc_in (by omega)]; congr 1; omega
theorem lnZ_o {z : ZT} {n0 : Int} {g : Int → Int} (hn : 0 ≤ n0 ∧ n0 < 12) {i : Int} (hi : i < 298 + 36 * n0 ∨ 730 ≤ i) : (zA z 3 (zc (z.2 3) (298 + 36 * n0) 36 g 0)).2 3 i = z.2 3 i := by
  show u1 z.2 3 (zc (z.2 3) (298 + 36 * n0) 36 g 0) 3 _ = _
  rw [u1_s, zc_out (by omega)]
set_option maxHeartbeats 4000000 in
theorem lX10_learn {E : ET} {sh : SHT} {nn : Nat × Nat} {T : Nat} {z : ZT} {kn c : Int → Int} {v p sl a h y0 n0 : Int} {m : Nat} (hT : MSh T sh) (hn0 : 0 ≤ n0 ∧ n0 < 12) (h2 : z.2 3 2 = n0) (hv : 0 ≤ v ∧ v < n0) (hsl : R32 sl) (hP : PlZ kn c m) (hm : z.2 3 5 = (m : Int)) (hm2 : m ≤ 12) (hkn : ∀ r, z.2 3 (298 + 36 * v + r) = kn r) (hc : ∀ i, z.2 3 (730 + i) = c i) : ∀ (n j : Nat) (V : VT) (x y : Option Value), m - j < n → j ≤ m → PE T V (zA z 3 (zc (z.2 3) (298 + 36 * n0) 36 (lrZ kn c sl j).1 0)) → TGo E mX10_learn 6 212 [some (.ref T), some (.int (iI v)), some (.int (iI p)), some (.int (iI sl)), some (.int (iI a)), some (.int (iI h)), some (.int (iI y0)), some (.int (iI n0)), some (.int (iI (298 + 36 * n0))), some (.int (iI (lrZ kn c sl (j)).2.1)), some (.int (iI (lrZ kn c sl (j)).2.2)), some (.int (iI (((j) : Nat) : Int))), x, y] [] sh nn V (fun o sh' nn' V' => o = .inl (some (.int (iI n0))) ∧ sh' = sh ∧ nn' = nn ∧ PE T V' (zTell (addZ (zA z 3 (zc (z.2 3) (298 + 36 * n0) 36 (lrZ kn c sl m).1 0)) a p v) n0)) := by
  intro n
  induction n with
  | zero => intro j V x y h; omega
  | succ n ih =>
    intro j V x y hn hj hz
    have hr := lrZ_r (sl := sl) hP j hj
    have hg := hr.1 (6 * (lrZ kn c sl j).2.2 + c (j : Int))
    refine TGo.il dX10_learn_212 rfl ?_
    refine TGo.al0 dX10_learn_214 rfl ?_
    refine TGo.getS (t := 18) 3 3 (T + 2) (hT 0 (by decide)) rfl fgX10_13_10 dX10_learn_215 rfl rfl rfl ?_
    refine TGo.ic5 dX10_learn_218 ?_
    refine TGo.iald dX10_learn_219 (hT 2 (by decide)) (by omega) rfl ?_
    refine TGo.toz (m : Int) (((hz.2.1 3 (by decide) _).trans (lnZ_o hn0 (by omega))).trans hm) ?_
    refine TGo.icmp_ge 322 dX10_learn_220 (by decide) (by omega) (fun h220 => ?_) (fun h220 => ?_)
    · have e36 : lrZ kn c sl m = lrZ kn c sl j := by
        rcases Nat.eq_or_lt_of_le hj with e | e
        · rw [e]
        · exact lrZ_stay (by omega) m hj
      have e2 : (zA z 3 (zc (z.2 3) (298 + 36 * n0) 36 (lrZ kn c sl j).1 0)).2 3 2 = n0 := (lnZ_o hn0 (by omega)).trans h2
      refine TGo.al0 dX10_learn_322 rfl ?_
      refine TGo.il dX10_learn_323 rfl ?_
      refine TGo.il2 dX10_learn_325 rfl ?_
      refine TGo.il1 dX10_learn_326 rfl ?_
      refine TGo.cS (csV3 (y2 := mX10_add) (t := 18) 2 rfl (hT 0 (by decide)) rfl rfl dX10_learn_327 q2356 q2358 qs82 okX10_add npX10_add rfl rfl) (kX10_add (z := (zA z 3 (zc (z.2 3) (298 + 36 * n0) 36 (lrZ kn c sl j).1 0))) hT hz (by omega)) (fun v327 V327 h327 => ?_)
      obtain ⟨rfl, hz327⟩ := h327
      refine TGo.iret dX10_learn_330 rfl ?_
      exact ⟨rvI e2, rfl, rfl, PE.eq hz327 (by rw [e2, e36])⟩
    · refine TGo.il dX10_learn_223 rfl ?_
      refine TGo.icm1 dX10_learn_225 ?_
      refine TGo.icmp_eq 322 dX10_learn_226 (by decide) (by omega) (fun h226 => ?_) (fun h226 => ?_)
      · have e36 : lrZ kn c sl m = lrZ kn c sl j := by
          rcases Nat.eq_or_lt_of_le hj with e | e
          · rw [e]
          · exact lrZ_stay (by omega) m hj
        have e2 : (zA z 3 (zc (z.2 3) (298 + 36 * n0) 36 (lrZ kn c sl j).1 0)).2 3 2 = n0 := (lnZ_o hn0 (by omega)).trans h2
        refine TGo.al0 dX10_learn_322 rfl ?_
        refine TGo.il dX10_learn_323 rfl ?_
        refine TGo.il2 dX10_learn_325 rfl ?_
        refine TGo.il1 dX10_learn_326 rfl ?_
        refine TGo.cS (csV3 (y2 := mX10_add) (t := 18) 2 rfl (hT 0 (by decide)) rfl rfl dX10_learn_327 q2356 q2358 qs82 okX10_add npX10_add rfl rfl) (kX10_add (z := (zA z 3 (zc (z.2 3) (298 + 36 * n0) 36 (lrZ kn c sl j).1 0))) hT hz (by omega)) (fun v327 V327 h327 => ?_)
        obtain ⟨rfl, hz327⟩ := h327
        refine TGo.iret dX10_learn_330 rfl ?_
        exact ⟨rvI e2, rfl, rfl, PE.eq hz327 (by rw [e2, e36])⟩
      · have hc2 := hP.2 (j : Int) (by omega) (by omega)
        have hk2 := hP.1 (6 * (lrZ kn c sl j).2.2 + c (j : Int)) (by omega) (by omega)
        have hn2 := nZ_r hk2
        refine TGo.bip 6 dX10_learn_229 (by decide) ?_
        refine TGo.il dX10_learn_231 rfl ?_
        refine TGo.imul dX10_learn_233 ?_
        refine TGo.al0 dX10_learn_234 rfl ?_
        refine TGo.getS (t := 18) 3 3 (T + 2) (hT 0 (by decide)) rfl fgX10_13_10 dX10_learn_235 rfl rfl rfl ?_
        refine TGo.sip 730 dX10_learn_238 (by decide) ?_
        refine TGo.il dX10_learn_241 rfl ?_
        refine TGo.iadd dX10_learn_243 ?_
        refine TGo.iald dX10_learn_244 (hT 2 (by decide)) (by omega) rfl ?_
        refine TGo.toz (c (j : Int)) (((hz.2.1 3 (by decide) _).trans (lnZ_o hn0 (by omega))).trans (hc _)) ?_
        refine TGo.iadd dX10_learn_245 ?_
        refine TGo.is dX10_learn_246 rfl rfl ?_
        refine TGo.al0 dX10_learn_248 rfl ?_
        refine TGo.il1 dX10_learn_249 rfl ?_
        refine TGo.il dX10_learn_250 rfl ?_
        refine TGo.cF (csV2 (y2 := mX10_ruleOf) (t := 18) 1 rfl (hT 0 (by decide)) rfl rfl dX10_learn_252 q2372 q2374 qs85 okX10_ruleOf npX10_ruleOf rfl rfl) (kX10_ruleOf (z := (zA z 3 (zc (z.2 3) (298 + 36 * n0) 36 (lrZ kn c sl j).1 0))) hT hz (by omega) (by omega)) ?_
        refine TGo.toz (kn (6 * (lrZ kn c sl j).2.2 + c (j : Int))) ((lnZ_o hn0 (by omega)).trans (hkn _)) ?_
        refine TGo.is dX10_learn_255 rfl rfl ?_
        refine TGo.il dX10_learn_257 rfl ?_
        refine TGo.icm1 dX10_learn_259 ?_
        refine TGo.icmp_eq 309 dX10_learn_260 (by decide) (by omega) (fun h260 => ?_) (fun h260 => ?_)
        · refine TGo.il dX10_learn_309 rfl ?_
          refine TGo.cF (csS1 (y2 := mX10_nextOf) 1 rfl dX10_learn_311 q2087 q2088 okX10_nextOf npX10_nextOf rfl rfl) (kX10_nextOf (by omega)) ?_
          refine TGo.is dX10_learn_314 rfl rfl ?_
          refine TGo.iinc dX10_learn_316 rfl rfl rfl ?_
          refine TGo.goto 212 dX10_learn_319 (by decide) ?_
          first | (exfalso; omega) | exact TGo.seq [some (.ref T), some (.int (iI v)), some (.int (iI p)), some (.int (iI sl)), some (.int (iI a)), some (.int (iI h)), some (.int (iI y0)), some (.int (iI n0)), some (.int (iI (298 + 36 * n0))), some (.int (iI (lrZ kn c sl ((j + 1))).2.1)), some (.int (iI (lrZ kn c sl ((j + 1))).2.2)), some (.int (iI ((((j + 1)) : Nat) : Int))), _, _] [] _ (by first | (rw [lrZ, if_neg (by omega), if_neg (by omega)]; rfl) | (rw [lrZ, if_neg (by omega), if_pos (by omega)]; rfl)) rfl rfl (ih (j + 1) _ _ _ (by omega) (by omega) (PE.eq hz (by first | (rw [lrZ, if_neg (by omega), if_neg (by omega)]) | (rw [lrZ, if_neg (by omega), if_pos (by omega)]; first | (rw [if_pos (by omega), zAu, zc_zu (by omega)]) | (rw [if_neg (by omega), zAu, zc_zu (by omega)])))))
        · refine TGo.al0 dX10_learn_263 rfl ?_
          refine TGo.getS (t := 18) 3 3 (T + 2) (hT 0 (by decide)) rfl fgX10_13_10 dX10_learn_264 rfl rfl rfl ?_
          refine TGo.il dX10_learn_267 rfl ?_
          refine TGo.il dX10_learn_269 rfl ?_
          refine TGo.iadd dX10_learn_271 ?_
          refine TGo.iald dX10_learn_272 (hT 2 (by decide)) (by omega) rfl ?_
          refine TGo.toz ((lrZ kn c sl j).1 (6 * (lrZ kn c sl j).2.2 + c (j : Int))) ((hz.2.1 3 (by decide) _).trans (lnZ_r hn0 (by omega))) ?_
          refine TGo.icm1 dX10_learn_273 ?_
          refine TGo.icmp_ne 309 dX10_learn_274 (by decide) (by omega) (fun h274 => ?_) (fun h274 => ?_)
          · refine TGo.il dX10_learn_309 rfl ?_
            refine TGo.cF (csS1 (y2 := mX10_nextOf) 1 rfl dX10_learn_311 q2087 q2088 okX10_nextOf npX10_nextOf rfl rfl) (kX10_nextOf (by omega)) ?_
            refine TGo.is dX10_learn_314 rfl rfl ?_
            refine TGo.iinc dX10_learn_316 rfl rfl rfl ?_
            refine TGo.goto 212 dX10_learn_319 (by decide) ?_
            first | (exfalso; omega) | exact TGo.seq [some (.ref T), some (.int (iI v)), some (.int (iI p)), some (.int (iI sl)), some (.int (iI a)), some (.int (iI h)), some (.int (iI y0)), some (.int (iI n0)), some (.int (iI (298 + 36 * n0))), some (.int (iI (lrZ kn c sl ((j + 1))).2.1)), some (.int (iI (lrZ kn c sl ((j + 1))).2.2)), some (.int (iI ((((j + 1)) : Nat) : Int))), _, _] [] _ (by first | (rw [lrZ, if_neg (by omega), if_neg (by omega)]; rfl) | (rw [lrZ, if_neg (by omega), if_pos (by omega)]; rfl)) rfl rfl (ih (j + 1) _ _ _ (by omega) (by omega) (PE.eq hz (by first | (rw [lrZ, if_neg (by omega), if_neg (by omega)]) | (rw [lrZ, if_neg (by omega), if_pos (by omega)]; first | (rw [if_pos (by omega), zAu, zc_zu (by omega)]) | (rw [if_neg (by omega), zAu, zc_zu (by omega)])))))
          · refine TGo.al0 dX10_learn_277 rfl ?_
            refine TGo.getS (t := 18) 3 3 (T + 2) (hT 0 (by decide)) rfl fgX10_13_10 dX10_learn_278 rfl rfl rfl ?_
            refine TGo.il dX10_learn_281 rfl ?_
            refine TGo.il dX10_learn_283 rfl ?_
            refine TGo.iadd dX10_learn_285 ?_
            refine TGo.il dX10_learn_286 rfl ?_
            refine TGo.il3 dX10_learn_288 rfl ?_
            refine TGo.icmp_ne 303 dX10_learn_289 (by decide) (by omega) (fun h289 => ?_) (fun h289 => ?_)
            · refine TGo.il dX10_learn_303 rfl ?_
              refine TGo.iast dX10_learn_305 (hT 2 (by decide)) (by omega) rfl ?_
              refine TGo.iinc dX10_learn_306 rfl rfl rfl ?_
              refine TGo.il dX10_learn_309 rfl ?_
              refine TGo.cF (csS1 (y2 := mX10_nextOf) 1 rfl dX10_learn_311 q2087 q2088 okX10_nextOf npX10_nextOf rfl rfl) (kX10_nextOf (by omega)) ?_
              refine TGo.is dX10_learn_314 rfl rfl ?_
              refine TGo.iinc dX10_learn_316 rfl rfl rfl ?_
              refine TGo.goto 212 dX10_learn_319 (by decide) ?_
              first | (exfalso; omega) | exact TGo.seq [some (.ref T), some (.int (iI v)), some (.int (iI p)), some (.int (iI sl)), some (.int (iI a)), some (.int (iI h)), some (.int (iI y0)), some (.int (iI n0)), some (.int (iI (298 + 36 * n0))), some (.int (iI (lrZ kn c sl ((j + 1))).2.1)), some (.int (iI (lrZ kn c sl ((j + 1))).2.2)), some (.int (iI ((((j + 1)) : Nat) : Int))), _, _] [] _ (by first | (rw [lrZ, if_neg (by omega), if_neg (by omega)]; rfl) | (rw [lrZ, if_neg (by omega), if_pos (by omega)]; rfl)) rfl rfl (ih (j + 1) _ _ _ (by omega) (by omega) (PE.eq (hz.a 3 rfl rfl) (by first | (rw [lrZ, if_neg (by omega), if_neg (by omega)]) | (rw [lrZ, if_neg (by omega), if_pos (by omega)]; first | (rw [if_pos (by omega), zAu, zc_zu (by omega)]) | (rw [if_neg (by omega), zAu, zc_zu (by omega)])))))
            · refine TGo.il dX10_learn_292 rfl ?_
              refine TGo.bip 6 dX10_learn_294 (by decide) ?_
              refine TGo.iadd dX10_learn_296 ?_
              refine TGo.bip 60 dX10_learn_297 (by decide) ?_
              refine TGo.irem dX10_learn_299 (by omega) ?_
              refine TGo.goto 305 dX10_learn_300 (by decide) ?_
              refine TGo.iast dX10_learn_305 (hT 2 (by decide)) (by omega) rfl ?_
              refine TGo.iinc dX10_learn_306 rfl rfl rfl ?_
              refine TGo.il dX10_learn_309 rfl ?_
              refine TGo.cF (csS1 (y2 := mX10_nextOf) 1 rfl dX10_learn_311 q2087 q2088 okX10_nextOf npX10_nextOf rfl rfl) (kX10_nextOf (by omega)) ?_
              refine TGo.is dX10_learn_314 rfl rfl ?_
              refine TGo.iinc dX10_learn_316 rfl rfl rfl ?_
              refine TGo.goto 212 dX10_learn_319 (by decide) ?_
              first | (exfalso; omega) | exact TGo.seq [some (.ref T), some (.int (iI v)), some (.int (iI p)), some (.int (iI sl)), some (.int (iI a)), some (.int (iI h)), some (.int (iI y0)), some (.int (iI n0)), some (.int (iI (298 + 36 * n0))), some (.int (iI (lrZ kn c sl ((j + 1))).2.1)), some (.int (iI (lrZ kn c sl ((j + 1))).2.2)), some (.int (iI ((((j + 1)) : Nat) : Int))), _, _] [] _ (by first | (rw [lrZ, if_neg (by omega), if_neg (by omega)]; rfl) | (rw [lrZ, if_neg (by omega), if_pos (by omega)]; rfl)) rfl rfl (ih (j + 1) _ _ _ (by omega) (by omega) (PE.eq (hz.a 3 rfl rfl) (by first | (rw [lrZ, if_neg (by omega), if_neg (by omega)]) | (rw [lrZ, if_neg (by omega), if_pos (by omega)]; first | (rw [if_pos (by omega), zAu, zc_zu (by omega)]) | (rw [if_neg (by omega), zAu, zc_zu (by omega)])))))
set_option maxHeartbeats 4000000 in
theorem zX10_learn {E : ET} {sh : SHT} {nn : Nat × Nat} {T : Nat} {z : ZT} {kn c : Int → Int} {v p sl a h y0 n0 : Int} {m : Nat} (hT : MSh T sh) (hn0 : 0 ≤ n0 ∧ n0 < 12) (h2 : z.2 3 2 = n0) (hv : 0 ≤ v ∧ v < n0) (hsl : R32 sl) (hP : PlZ kn c m) (hm : z.2 3 5 = (m : Int)) (hm2 : m ≤ 12) (hkn : ∀ r, z.2 3 (298 + 36 * v + r) = kn r) (hc : ∀ i, z.2 3 (730 + i) = c i) : ∀ (n j : Nat) (V : VT), 36 - j < n → j ≤ 36 → PE T V (zA z 3 (zf (z.2 3) (298 + 36 * n0) ((j : Int)) (-1))) → TGo E mX10_learn 6 179 [some (.ref T), some (.int (iI v)), some (.int (iI p)), some (.int (iI sl)), some (.int (iI a)), some (.int (iI h)), some (.int (iI y0)), some (.int (iI n0)), some (.int (iI (298 + 36 * n0))), some (.int (iI (((j) : Nat) : Int))), none, none, none, none] [] sh nn V (fun o sh' nn' V' => o = .inl (some (.int (iI n0))) ∧ sh' = sh ∧ nn' = nn ∧ PE T V' (zTell (addZ (zA z 3 (zc (z.2 3) (298 + 36 * n0) 36 (lrZ kn c sl m).1 0)) a p v) n0)) := by
  intro n
  induction n with
  | zero => intro j V h; omega
  | succ n ih =>
    intro j V hn hj hz
    refine TGo.il dX10_learn_179 rfl ?_
    refine TGo.bip 36 dX10_learn_181 (by decide) ?_
    refine TGo.icmp_ge 203 dX10_learn_183 (by decide) (by omega) (fun h183 => ?_) (fun h183 => ?_)
    · refine TGo.ic0 dX10_learn_203 ?_
      refine TGo.is dX10_learn_204 rfl rfl ?_
      refine TGo.ic0 dX10_learn_206 ?_
      refine TGo.is dX10_learn_207 rfl rfl ?_
      refine TGo.ic0 dX10_learn_209 ?_
      refine TGo.is dX10_learn_210 rfl rfl ?_
      obtain rfl : j = 36 := by omega
      exact TGo.seq [some (.ref T), some (.int (iI v)), some (.int (iI p)), some (.int (iI sl)), some (.int (iI a)), some (.int (iI h)), some (.int (iI y0)), some (.int (iI n0)), some (.int (iI (298 + 36 * n0))), some (.int (iI (lrZ kn c sl (0)).2.1)), some (.int (iI (lrZ kn c sl (0)).2.2)), some (.int (iI (((0) : Nat) : Int))), none, none] [] _ rfl rfl rfl (lX10_learn hT hn0 h2 hv hsl hP hm hm2 hkn hc (m + 1) 0 _ _ _ (by omega) (by omega) (PE.eq hz rfl))
    · refine TGo.al0 dX10_learn_186 rfl ?_
      refine TGo.getS (t := 18) 3 3 (T + 2) (hT 0 (by decide)) rfl fgX10_13_10 dX10_learn_187 rfl rfl rfl ?_
      refine TGo.il dX10_learn_190 rfl ?_
      refine TGo.il dX10_learn_192 rfl ?_
      refine TGo.iadd dX10_learn_194 ?_
      refine TGo.icm1 dX10_learn_195 ?_
      refine TGo.iast dX10_learn_196 (hT 2 (by decide)) (by omega) rfl ?_
      refine TGo.iinc dX10_learn_197 rfl rfl rfl ?_
      refine TGo.goto 179 dX10_learn_200 (by decide) ?_
      exact TGo.seq [some (.ref T), some (.int (iI v)), some (.int (iI p)), some (.int (iI sl)), some (.int (iI a)), some (.int (iI h)), some (.int (iI y0)), some (.int (iI n0)), some (.int (iI (298 + 36 * n0))), some (.int (iI ((((j + 1)) : Nat) : Int))), none, none, none, none] [] _ (rfl) rfl rfl (ih (j + 1) _ (by omega) (by omega) (PE.eq (hz.a 3 rfl rfl) zAf))
def zp_learn (z : ZT) (v p sl : Int) : Int × ZT := if sl < -1 then ((-1), zTell z (-1)) else if ¬ ((0 ≤ v ∧ v < z.2 3 2) ∧ (0 ≤ p ∧ p < z.2 3 1)) then ((-2), zTell z (-2))
  else if (z.2 3 (262 + 3 * v + 1)) = p ∨ ¬ (z.2 3 (238 + 3 * (z.2 3 (262 + 3 * v + 1))) ≤ z.2 3 7 ∧ z.2 3 7 < z.2 3 (238 + 3 * (z.2 3 (262 + 3 * v + 1)) + 1)) ∨ ¬ (z.2 3 (238 + 3 * p) ≤ z.2 3 7 ∧ z.2 3 7 < z.2 3 (238 + 3 * p + 1)) ∨ tellZ (z.2 3) 2 p (z.2 3 (262 + 3 * v)) (z.2 3 (262 + 3 * v + 1)) (z.2 3 7) 0 = 1 ∨ (min (z.2 3 (238 + 3 * p + 1)) (z.2 3 (238 + 3 * (z.2 3 (262 + 3 * v + 1)) + 1)) - max (z.2 3 (238 + 3 * p)) (z.2 3 (238 + 3 * (z.2 3 (262 + 3 * v + 1))))) < hourZ (z.2 3) p (z.2 3 (262 + 3 * v)) (z.2 3 (262 + 3 * v + 1)) (z.2 3 7) then ((-3), zTell z (-3)) else if z.2 3 2 = 12 then ((-5), zTell z (-5))
  else (z.2 3 2, zTell (addZ (zA z 3 (zc (z.2 3) (298 + 36 * z.2 3 2) 36 (lrZ (fun r => z.2 3 (298 + 36 * v + r)) (fun i => z.2 3 (730 + i)) sl (z.2 3 5).toNat).1 0)) (z.2 3 (262 + 3 * v)) p v) (z.2 3 2))
theorem hourZ_r (f : Int → Int) (p a t y : Int) : 0 ≤ hourZ f p a t y ∧ hourZ f p a t y ≤ 99 := by
  unfold hourZ wiZ
  repeat' split
  all_goals omega
theorem slipZ_r (f : Int → Int) (p a t y : Int) : 0 ≤ slipZ f p a t y ∧ slipZ f p a t y ≤ 100 := by
  unfold slipZ wiZ
  repeat' split
  all_goals omega
set_option maxHeartbeats 4000000 in
theorem kX10_learn {E : ET} {sh : SHT} {nn : Nat × Nat} {V : VT} {T : Nat} {z : ZT} {v p sl : Int} (hT : MSh T sh) (hz : PE T V z) (W : RWZ (z.2 3)) (WL : LawsZ (z.2 3)) (h15 : z.1 15 = 0) (rv : R32 v) (rp : R32 p) (rs : R32 sl) : TC E mX10_learn 6 [.ref T, .int (iI v), .int (iI p), .int (iI sl)] sh nn V (ZP T sh nn (zp_learn z v p sl)) := by
  have w0 := W.1.1
  have w1 := W.1.2.1
  have w2 := W.1.2.2.1
  have w5 := W.1.2.2.2.2.2.1
  have w7 := W.1.2.2.2.2.2.2.2.1
  refine TC.intro [some (.ref T), some (.int (iI v)), some (.int (iI p)), some (.int (iI sl)), none, none, none, none, none, none, none, none, none, none] rfl ?_
  refine TGo.al0 dX10_learn_0 rfl ?_
  refine TGo.ic0 dX10_learn_1 ?_
  refine TGo.putI (t := 18) 0 0 (hT 0 (by decide)) rfl fpX10_163_10 dX10_learn_2 rfl rfl rfl ?_
  refine TGo.il3 dX10_learn_5 rfl ?_
  refine TGo.icm1 dX10_learn_6 ?_
  refine TGo.icmp_ge 16 dX10_learn_7 (by decide) (by omega) (fun h7 => ?_) (fun h7 => ?_)
  · refine TGo.al0 dX10_learn_16 rfl ?_
    refine TGo.il1 dX10_learn_17 rfl ?_
    refine TGo.cF (csV1 (y2 := mX10_isVersion) (t := 18) 2 rfl (hT 0 (by decide)) rfl rfl dX10_learn_18 q2364 q2366 qs83 okX10_isVersion npX10_isVersion rfl rfl) (kX10_isVersion hT (hz.s rfl) w2 (by omega)) ?_
    refine TGo.ifb_eq 32 dX10_learn_21 (by decide) (fun h21 => ?_) (fun h21 => ?_)
    · refine TGo.al0 dX10_learn_32 rfl ?_
      refine TGo.bip (-2) dX10_learn_33 (by decide) ?_
      refine TGo.cS (csV1 (y2 := mX10_tell) (t := 18) 1 rfl (hT 0 (by decide)) rfl rfl dX10_learn_35 q2035 q2037 qs39 okX10_tell npX10_tell rfl rfl) (kX10_tell hT (hz.s rfl) (by omega)) (fun v35 V35 h35 => ?_)
      obtain ⟨rfl, hz35⟩ := h35
      refine TGo.iret dX10_learn_38 rfl ?_
      first
      | (exfalso; omega)
      | (refine leafZ hz35 ?_
         unfold zp_learn
         (repeat (first | rw [if_pos (by first | rfl | assumption | omega)] | rw [if_neg (by first | decide | assumption | omega)]))
         (try first | rfl | rw [bZ_t (by first | assumption | omega)] | rw [bZ_f (by first | assumption | omega)]))
    · refine TGo.al0 dX10_learn_24 rfl ?_
      refine TGo.il2 dX10_learn_25 rfl ?_
      refine TGo.cF (csV1 (y2 := mX10_isPerson) (t := 18) 2 rfl (hT 0 (by decide)) rfl rfl dX10_learn_26 q2109 q2111 qs44 okX10_isPerson npX10_isPerson rfl rfl) (kX10_isPerson hT (hz.s rfl) w1 (by omega)) ?_
      refine TGo.ifb_ne 39 dX10_learn_29 (by decide) (fun h29 => ?_) (fun h29 => ?_)
      · have wv := W.2.2.2.2.1 v (by omega) (by omega)
        refine TGo.al0 dX10_learn_39 rfl ?_
        refine TGo.getS (t := 18) 3 3 (T + 2) (hT 0 (by decide)) rfl fgX10_13_10 dX10_learn_40 rfl rfl rfl ?_
        refine TGo.sip 262 dX10_learn_43 (by decide) ?_
        refine TGo.ic3 dX10_learn_46 ?_
        refine TGo.il1 dX10_learn_47 rfl ?_
        refine TGo.imul dX10_learn_48 ?_
        refine TGo.iadd dX10_learn_49 ?_
        refine TGo.iald dX10_learn_50 (hT 2 (by decide)) (by omega) rfl ?_
        refine TGo.toz _ ((u2_n (Or.inl (by omega))).trans (hz.2.1 3 (by decide) _)) ?_
        refine TGo.is dX10_learn_51 rfl rfl ?_
        refine TGo.al0 dX10_learn_53 rfl ?_
        refine TGo.getS (t := 18) 3 3 (T + 2) (hT 0 (by decide)) rfl fgX10_13_10 dX10_learn_54 rfl rfl rfl ?_
        refine TGo.sip 262 dX10_learn_57 (by decide) ?_
        refine TGo.ic3 dX10_learn_60 ?_
        refine TGo.il1 dX10_learn_61 rfl ?_
        refine TGo.imul dX10_learn_62 ?_
        refine TGo.iadd dX10_learn_63 ?_
        refine TGo.ic1 dX10_learn_64 ?_
        refine TGo.iadd dX10_learn_65 ?_
        refine TGo.iald dX10_learn_66 (hT 2 (by decide)) (by omega) rfl ?_
        refine TGo.toz _ ((u2_n (Or.inl (by omega))).trans (hz.2.1 3 (by decide) _)) ?_
        refine TGo.is dX10_learn_67 rfl rfl ?_
        refine TGo.al0 dX10_learn_69 rfl ?_
        refine TGo.getS (t := 18) 3 3 (T + 2) (hT 0 (by decide)) rfl fgX10_13_10 dX10_learn_70 rfl rfl rfl ?_
        refine TGo.bip 7 dX10_learn_73 (by decide) ?_
        refine TGo.iald dX10_learn_75 (hT 2 (by decide)) (by omega) rfl ?_
        refine TGo.toz _ ((u2_n (Or.inl (by omega))).trans (hz.2.1 3 (by decide) _)) ?_
        refine TGo.is dX10_learn_76 rfl rfl ?_
        refine TGo.il dX10_learn_78 rfl ?_
        refine TGo.il2 dX10_learn_80 rfl ?_
        refine TGo.icmp_eq 136 dX10_learn_81 (by decide) (by omega) (fun h81 => ?_) (fun h81 => ?_)
        · refine TGo.al0 dX10_learn_136 rfl ?_
          refine TGo.bip (-3) dX10_learn_137 (by decide) ?_
          refine TGo.cS (csV1 (y2 := mX10_tell) (t := 18) 1 rfl (hT 0 (by decide)) rfl rfl dX10_learn_139 q2035 q2037 qs39 okX10_tell npX10_tell rfl rfl) (kX10_tell hT (hz.s rfl) (by omega)) (fun v139 V139 h139 => ?_)
          obtain ⟨rfl, hz139⟩ := h139
          refine TGo.iret dX10_learn_142 rfl ?_
          first
          | (exfalso; omega)
          | (refine leafZ hz139 ?_
             unfold zp_learn
             (repeat (first | rw [if_pos (by first | rfl | assumption | omega)] | rw [if_neg (by first | decide | assumption | omega)]))
             (try first | rfl | rw [bZ_t (by first | assumption | omega)] | rw [bZ_f (by first | assumption | omega)]))
        · refine TGo.al0 dX10_learn_84 rfl ?_
          refine TGo.il dX10_learn_85 rfl ?_
          refine TGo.cF (csV1 (y2 := mX10_isAlive) (t := 18) 2 rfl (hT 0 (by decide)) rfl rfl dX10_learn_87 q2121 q2123 qs46 okX10_isAlive npX10_isAlive rfl rfl) (kX10_isAlive hT (hz.s rfl) W (by omega)) ?_
          refine TGo.ifb_eq 136 dX10_learn_90 (by decide) (fun h90 => ?_) (fun h90 => ?_)
          · refine TGo.al0 dX10_learn_136 rfl ?_
            refine TGo.bip (-3) dX10_learn_137 (by decide) ?_
            refine TGo.cS (csV1 (y2 := mX10_tell) (t := 18) 1 rfl (hT 0 (by decide)) rfl rfl dX10_learn_139 q2035 q2037 qs39 okX10_tell npX10_tell rfl rfl) (kX10_tell hT (hz.s rfl) (by omega)) (fun v139 V139 h139 => ?_)
            obtain ⟨rfl, hz139⟩ := h139
            refine TGo.iret dX10_learn_142 rfl ?_
            first
            | (exfalso; omega)
            | (refine leafZ hz139 ?_
               unfold zp_learn
               (repeat (first | rw [if_pos (by first | rfl | assumption | omega)] | rw [if_neg (by first | decide | assumption | omega)]))
               (try first | rfl | rw [bZ_t (by first | assumption | omega)] | rw [bZ_f (by first | assumption | omega)]))
          · refine TGo.al0 dX10_learn_93 rfl ?_
            refine TGo.il2 dX10_learn_94 rfl ?_
            refine TGo.cF (csV1 (y2 := mX10_isAlive) (t := 18) 2 rfl (hT 0 (by decide)) rfl rfl dX10_learn_95 q2121 q2123 qs46 okX10_isAlive npX10_isAlive rfl rfl) (kX10_isAlive hT (hz.s rfl) W (by omega)) ?_
            refine TGo.ifb_eq 136 dX10_learn_98 (by decide) (fun h98 => ?_) (fun h98 => ?_)
            · refine TGo.al0 dX10_learn_136 rfl ?_
              refine TGo.bip (-3) dX10_learn_137 (by decide) ?_
              refine TGo.cS (csV1 (y2 := mX10_tell) (t := 18) 1 rfl (hT 0 (by decide)) rfl rfl dX10_learn_139 q2035 q2037 qs39 okX10_tell npX10_tell rfl rfl) (kX10_tell hT (hz.s rfl) (by omega)) (fun v139 V139 h139 => ?_)
              obtain ⟨rfl, hz139⟩ := h139
              refine TGo.iret dX10_learn_142 rfl ?_
              first
              | (exfalso; omega)
              | (refine leafZ hz139 ?_
                 unfold zp_learn
                 (repeat (first | rw [if_pos (by first | rfl | assumption | omega)] | rw [if_neg (by first | decide | assumption | omega)]))
                 (try first | rfl | rw [bZ_t (by first | assumption | omega)] | rw [bZ_f (by first | assumption | omega)]))
            · refine TGo.al0 dX10_learn_101 rfl ?_
              refine TGo.il2 dX10_learn_102 rfl ?_
              refine TGo.il dX10_learn_103 rfl ?_
              refine TGo.il dX10_learn_105 rfl ?_
              refine TGo.il dX10_learn_107 rfl ?_
              refine TGo.cS (csV4 (y2 := mX10_isBarred) (t := 18) 5 rfl (hT 0 (by decide)) rfl rfl dX10_learn_109 q2314 q2316 qs77 okX10_isBarred npX10_isBarred rfl rfl) (kX10_isBarred hT (hz.s rfl) W WL h15 (by omega) (by omega) (by omega) (by omega)) (fun v109 V109 h109 => ?_)
              obtain ⟨rfl, hz109, hf109⟩ := h109
              refine TGo.ifb_ne 136 dX10_learn_112 (by decide) (fun h112 => ?_) (fun h112 => ?_)
              · refine TGo.al0 dX10_learn_136 rfl ?_
                refine TGo.bip (-3) dX10_learn_137 (by decide) ?_
                refine TGo.cS (csV1 (y2 := mX10_tell) (t := 18) 1 rfl (hT 0 (by decide)) rfl rfl dX10_learn_139 q2035 q2037 qs39 okX10_tell npX10_tell rfl rfl) (kX10_tell hT hz109 (by omega)) (fun v139 V139 h139 => ?_)
                obtain ⟨rfl, hz139⟩ := h139
                refine TGo.iret dX10_learn_142 rfl ?_
                first
                | (exfalso; omega)
                | (refine leafZ hz139 ?_
                   unfold zp_learn
                   (repeat (first | rw [if_pos (by first | rfl | assumption | omega)] | rw [if_neg (by first | decide | assumption | omega)]))
                   (try first | rfl | rw [bZ_t (by first | assumption | omega)] | rw [bZ_f (by first | assumption | omega)]))
              · have wp := W.2.2.2.1 p (by omega) (by omega)
                have wh := W.2.2.2.1 (z.2 3 (262 + 3 * v + 1)) (by omega) (by omega)
                have hh := hourZ_r (z.2 3) p (z.2 3 (262 + 3 * v)) (z.2 3 (262 + 3 * v + 1)) (z.2 3 7)
                refine TGo.al0 dX10_learn_115 rfl ?_
                refine TGo.il2 dX10_learn_116 rfl ?_
                refine TGo.il dX10_learn_117 rfl ?_
                refine TGo.cF (csV2 (y2 := mX10_together) (t := 18) 2 rfl (hT 0 (by decide)) rfl rfl dX10_learn_119 q2368 q2370 qs84 okX10_together npX10_together rfl rfl) (kX10_together hT hz109 W (by omega) (by omega)) ?_
                refine TGo.al0 dX10_learn_122 rfl ?_
                refine TGo.il2 dX10_learn_123 rfl ?_
                refine TGo.il dX10_learn_124 rfl ?_
                refine TGo.il dX10_learn_126 rfl ?_
                refine TGo.il dX10_learn_128 rfl ?_
                refine TGo.cS (csV4 (y2 := mX10_hoursOf) (t := 18) 5 rfl (hT 0 (by decide)) rfl rfl dX10_learn_130 q2310 q2312 qs76 okX10_hoursOf npX10_hoursOf rfl rfl) (kX10_hoursOf hT hz109 W WL h15 (by omega) (by omega) (by omega) (by omega)) (fun v130 V130 h130 => ?_)
                obtain ⟨rfl, hz130, hf130⟩ := h130
                refine TGo.icmp_ge 143 dX10_learn_133 (by decide) (by omega) (fun h133 => ?_) (fun h133 => ?_)
                · refine TGo.al0 dX10_learn_143 rfl ?_
                  refine TGo.getS (t := 18) 3 3 (T + 2) (hT 0 (by decide)) rfl fgX10_13_10 dX10_learn_144 rfl rfl rfl ?_
                  refine TGo.ic2 dX10_learn_147 ?_
                  refine TGo.iald dX10_learn_148 (hT 2 (by decide)) (by omega) rfl ?_
                  refine TGo.toz _ (hz130.2.1 3 (by decide) _) ?_
                  refine TGo.is dX10_learn_149 rfl rfl ?_
                  refine TGo.il dX10_learn_151 rfl ?_
                  refine TGo.bip 12 dX10_learn_153 (by decide) ?_
                  refine TGo.icmp_ne 165 dX10_learn_155 (by decide) (by omega) (fun h155 => ?_) (fun h155 => ?_)
                  · refine TGo.sip 298 dX10_learn_165 (by decide) ?_
                    refine TGo.bip 36 dX10_learn_168 (by decide) ?_
                    refine TGo.il dX10_learn_170 rfl ?_
                    refine TGo.imul dX10_learn_172 ?_
                    refine TGo.iadd dX10_learn_173 ?_
                    refine TGo.is dX10_learn_174 rfl rfl ?_
                    refine TGo.ic0 dX10_learn_176 ?_
                    refine TGo.is dX10_learn_177 rfl rfl ?_
                    first
                    | (exfalso; omega)
                    | (refine (zX10_learn (kn := fun r => z.2 3 (298 + 36 * v + r)) (c := fun i => z.2 3 (730 + i)) (m := (z.2 3 5).toNat) hT (by omega) rfl (by omega) (by omega) (WPl W (by omega)) (by omega) (by omega) (fun _ => rfl) (fun _ => rfl) 37 0 _ (by omega) (by omega) (PE.eq hz130 (by rw [show ((0 : Nat) : Int) = 0 from rfl, zf_0, zA_0]))).mono ?_
                       rintro o sh' nn' V' ⟨ho, hs, hn, hp⟩
                       unfold zp_learn
                       rw [if_neg (by omega), if_neg (by omega), if_neg (by omega), if_neg (by omega)]
                       exact ⟨ho, hs, hn, hp⟩)
                  · refine TGo.al0 dX10_learn_158 rfl ?_
                    refine TGo.bip (-5) dX10_learn_159 (by decide) ?_
                    refine TGo.cS (csV1 (y2 := mX10_tell) (t := 18) 1 rfl (hT 0 (by decide)) rfl rfl dX10_learn_161 q2035 q2037 qs39 okX10_tell npX10_tell rfl rfl) (kX10_tell hT hz130 (by omega)) (fun v161 V161 h161 => ?_)
                    obtain ⟨rfl, hz161⟩ := h161
                    refine TGo.iret dX10_learn_164 rfl ?_
                    first
                    | (exfalso; omega)
                    | (refine leafZ hz161 ?_
                       unfold zp_learn
                       (repeat (first | rw [if_pos (by first | rfl | assumption | omega)] | rw [if_neg (by first | decide | assumption | omega)]))
                       (try first | rfl | rw [bZ_t (by first | assumption | omega)] | rw [bZ_f (by first | assumption | omega)]))
                · refine TGo.al0 dX10_learn_136 rfl ?_
                  refine TGo.bip (-3) dX10_learn_137 (by decide) ?_
                  refine TGo.cS (csV1 (y2 := mX10_tell) (t := 18) 1 rfl (hT 0 (by decide)) rfl rfl dX10_learn_139 q2035 q2037 qs39 okX10_tell npX10_tell rfl rfl) (kX10_tell hT hz130 (by omega)) (fun v139 V139 h139 => ?_)
                  obtain ⟨rfl, hz139⟩ := h139
                  refine TGo.iret dX10_learn_142 rfl ?_
                  first
                  | (exfalso; omega)
                  | (refine leafZ hz139 ?_
                     unfold zp_learn
                     (repeat (first | rw [if_pos (by first | rfl | assumption | omega)] | rw [if_neg (by first | decide | assumption | omega)]))
                     (try first | rfl | rw [bZ_t (by first | assumption | omega)] | rw [bZ_f (by first | assumption | omega)]))
      · refine TGo.al0 dX10_learn_32 rfl ?_
        refine TGo.bip (-2) dX10_learn_33 (by decide) ?_
        refine TGo.cS (csV1 (y2 := mX10_tell) (t := 18) 1 rfl (hT 0 (by decide)) rfl rfl dX10_learn_35 q2035 q2037 qs39 okX10_tell npX10_tell rfl rfl) (kX10_tell hT (hz.s rfl) (by omega)) (fun v35 V35 h35 => ?_)
        obtain ⟨rfl, hz35⟩ := h35
        refine TGo.iret dX10_learn_38 rfl ?_
        first
        | (exfalso; omega)
        | (refine leafZ hz35 ?_
           unfold zp_learn
           (repeat (first | rw [if_pos (by first | rfl | assumption | omega)] | rw [if_neg (by first | decide | assumption | omega)]))
           (try first | rfl | rw [bZ_t (by first | assumption | omega)] | rw [bZ_f (by first | assumption | omega)]))
  · refine TGo.al0 dX10_learn_10 rfl ?_
    refine TGo.icm1 dX10_learn_11 ?_
    refine TGo.cS (csV1 (y2 := mX10_tell) (t := 18) 1 rfl (hT 0 (by decide)) rfl rfl dX10_learn_12 q2035 q2037 qs39 okX10_tell npX10_tell rfl rfl) (kX10_tell hT (hz.s rfl) (by omega)) (fun v12 V12 h12 => ?_)
    obtain ⟨rfl, hz12⟩ := h12
    refine TGo.iret dX10_learn_15 rfl ?_
    first
    | (exfalso; omega)
    | (refine leafZ hz12 ?_
       unfold zp_learn
       (repeat (first | rw [if_pos (by first | rfl | assumption | omega)] | rw [if_neg (by first | decide | assumption | omega)]))
       (try first | rfl | rw [bZ_t (by first | assumption | omega)] | rw [bZ_f (by first | assumption | omega)]))
