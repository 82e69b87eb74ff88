/-! THE MODEL's plain operations -/
set_option maxRecDepth 100000
def zp_rule (z : ZT) (p a b w n : Int) : Int × ZT :=
  if ¬ (((0 ≤ a ∧ a ≤ 5) ∧ 0 ≤ b ∧ b ≤ 5) ∧ (0 ≤ w ∧ w ≤ 9) ∧ 0 ≤ n ∧ n ≤ 5) then ((-1), zTell z (-1)) else if ¬ (0 ≤ p ∧ p < z.2 3 0) then ((-2), zTell z (-2)) else (wZ (z.2 3 (22 + 36 * p + (6 * a + b))), zi (za z 3 (22 + 36 * p + (6 * a + b)) (6 * w + n)) 1 0)
set_option maxHeartbeats 4000000 in
theorem kX10_rule {E : ET} {sh : SHT} {nn : Nat × Nat} {V : VT} {T : Nat} {z : ZT} {p a b w n : Int} (hT : MSh T sh) (hz : PE T V z) (W : RWZ (z.2 3)) (rp : R32 p) (ra : R32 a) (rb : R32 b) (rw : R32 w) (rn : R32 n) : TC E mX10_rule 3 [.ref T, .int (iI p), .int (iI a), .int (iI b), .int (iI w), .int (iI n)] sh nn V (ZP T sh nn (zp_rule z p a b w n)) := by
  have w0 := W.1.1
  refine TC.intro [some (.ref T), some (.int (iI p)), some (.int (iI a)), some (.int (iI b)), some (.int (iI w)), some (.int (iI n))] rfl ?_
  refine TGo.al0 dX10_rule_0 rfl ?_
  refine TGo.ic0 dX10_rule_1 ?_
  refine TGo.putI (t := 18) 0 0 (hT 0 (by decide)) rfl fpX10_163_10 dX10_rule_2 rfl rfl rfl ?_
  refine TGo.il2 dX10_rule_5 rfl ?_
  refine TGo.il3 dX10_rule_6 rfl ?_
  refine TGo.cF (csS2 (y2 := mX10_isPlace) 2 rfl dX10_rule_7 q2053 q2054 okX10_isPlace npX10_isPlace rfl rfl) (kX10_isPlace (by omega) (by omega)) ?_
  refine TGo.ifb_eq 34 dX10_rule_10 (by decide) (fun h10 => ?_) (fun h10 => ?_)
  · refine TGo.al0 dX10_rule_34 rfl ?_
    refine TGo.icm1 dX10_rule_35 ?_
    refine TGo.cS (csV1 (y2 := mX10_tell) (t := 18) 1 rfl (hT 0 (by decide)) rfl rfl dX10_rule_36 q2035 q2037 qs39 okX10_tell npX10_tell rfl rfl) (kX10_tell hT (hz.s rfl) (by omega)) (fun v36 V36 h36 => ?_)
    obtain ⟨rfl, hz36⟩ := h36
    refine TGo.iret dX10_rule_39 rfl ?_
    first
    | (exfalso; omega)
    | (refine leafZ hz36 ?_
       unfold zp_rule
       (repeat (first | rw [if_pos (by first | rfl | assumption | omega)] | rw [if_neg (by first | decide | assumption | omega)]))
       (try first | rfl | rw [bZ_t (by first | assumption | omega)] | rw [bZ_f (by first | assumption | omega)]))
  · refine TGo.il dX10_rule_13 rfl ?_
    refine TGo.cF (csS1 (y2 := mX10_isSaid) 2 rfl dX10_rule_15 q2057 q2058 okX10_isSaid npX10_isSaid rfl rfl) (kX10_isSaid (by omega)) ?_
    refine TGo.ifb_eq 34 dX10_rule_18 (by decide) (fun h18 => ?_) (fun h18 => ?_)
    · refine TGo.al0 dX10_rule_34 rfl ?_
      refine TGo.icm1 dX10_rule_35 ?_
      refine TGo.cS (csV1 (y2 := mX10_tell) (t := 18) 1 rfl (hT 0 (by decide)) rfl rfl dX10_rule_36 q2035 q2037 qs39 okX10_tell npX10_tell rfl rfl) (kX10_tell hT (hz.s rfl) (by omega)) (fun v36 V36 h36 => ?_)
      obtain ⟨rfl, hz36⟩ := h36
      refine TGo.iret dX10_rule_39 rfl ?_
      first
      | (exfalso; omega)
      | (refine leafZ hz36 ?_
         unfold zp_rule
         (repeat (first | rw [if_pos (by first | rfl | assumption | omega)] | rw [if_neg (by first | decide | assumption | omega)]))
         (try first | rfl | rw [bZ_t (by first | assumption | omega)] | rw [bZ_f (by first | assumption | omega)]))
    · refine TGo.il dX10_rule_21 rfl ?_
      refine TGo.i2l dX10_rule_23 (by omega) ?_
      refine TGo.lc0 dX10_rule_24 ?_
      refine TGo.ldc2 5 dX10_rule_25 q2056 (by decide) ?_
      refine TGo.cF (csS3 (y2 := mX10_in) 1 rfl dX10_rule_28 q2032 q2033 okX10_in npX10_in rfl rfl) (kX10_in (by omega) (by omega) (by omega)) ?_
      refine TGo.ifb_ne 40 dX10_rule_31 (by decide) (fun h31 => ?_) (fun h31 => ?_)
      · refine TGo.al0 dX10_rule_40 rfl ?_
        refine TGo.il1 dX10_rule_41 rfl ?_
        refine TGo.cF (csV1 (y2 := mX10_isPart) (t := 18) 2 rfl (hT 0 (by decide)) rfl rfl dX10_rule_42 q2061 q2063 qs40 okX10_isPart npX10_isPart rfl rfl) (kX10_isPart hT (hz.s rfl) w0 (by omega)) ?_
        refine TGo.ifb_eq 70 dX10_rule_45 (by decide) (fun h45 => ?_) (fun h45 => ?_)
        · refine TGo.al0 dX10_rule_70 rfl ?_
          refine TGo.bip (-2) dX10_rule_71 (by decide) ?_
          refine TGo.cS (csV1 (y2 := mX10_tell) (t := 18) 1 rfl (hT 0 (by decide)) rfl rfl dX10_rule_73 q2035 q2037 qs39 okX10_tell npX10_tell rfl rfl) (kX10_tell hT (hz.s rfl) (by omega)) (fun v73 V73 h73 => ?_)
          obtain ⟨rfl, hz73⟩ := h73
          refine TGo.iret dX10_rule_76 rfl ?_
          first
          | (exfalso; omega)
          | (refine leafZ hz73 ?_
             unfold zp_rule
             (repeat (first | rw [if_pos (by first | rfl | assumption | omega)] | rw [if_neg (by first | decide | assumption | omega)]))
             (try first | rfl | rw [bZ_t (by first | assumption | omega)] | rw [bZ_f (by first | assumption | omega)]))
        · refine TGo.al0 dX10_rule_48 rfl ?_
          refine TGo.il1 dX10_rule_49 rfl ?_
          refine TGo.bip 6 dX10_rule_50 (by decide) ?_
          refine TGo.il2 dX10_rule_52 rfl ?_
          refine TGo.imul dX10_rule_53 ?_
          refine TGo.il3 dX10_rule_54 rfl ?_
          refine TGo.iadd dX10_rule_55 ?_
          refine TGo.bip 6 dX10_rule_56 (by decide) ?_
          refine TGo.il dX10_rule_58 rfl ?_
          refine TGo.imul dX10_rule_60 ?_
          refine TGo.il dX10_rule_61 rfl ?_
          refine TGo.iadd dX10_rule_63 ?_
          refine TGo.cS (csV3 (y2 := mX10_changeRule) (t := 18) 2 rfl (hT 0 (by decide)) rfl rfl dX10_rule_64 q2065 q2067 qs41 okX10_changeRule npX10_changeRule rfl rfl) (kX10_changeRule hT (hz.s rfl) (by omega) (by omega) (by omega) (W.2.2.1 p (6 * a + b) (by omega) (by omega) (by omega) (by omega))) (fun v64 V64 h64 => ?_)
          obtain ⟨rfl, hz64⟩ := h64
          refine TGo.goto 76 dX10_rule_67 (by decide) ?_
          refine TGo.iret dX10_rule_76 rfl ?_
          first
          | (exfalso; omega)
          | (refine leafZ hz64 ?_
             unfold zp_rule
             (repeat (first | rw [if_pos (by first | rfl | assumption | omega)] | rw [if_neg (by first | decide | assumption | omega)]))
             (try first | rfl | rw [bZ_t (by first | assumption | omega)] | rw [bZ_f (by first | assumption | omega)]))
      · refine TGo.al0 dX10_rule_34 rfl ?_
        refine TGo.icm1 dX10_rule_35 ?_
        refine TGo.cS (csV1 (y2 := mX10_tell) (t := 18) 1 rfl (hT 0 (by decide)) rfl rfl dX10_rule_36 q2035 q2037 qs39 okX10_tell npX10_tell rfl rfl) (kX10_tell hT (hz.s rfl) (by omega)) (fun v36 V36 h36 => ?_)
        obtain ⟨rfl, hz36⟩ := h36
        refine TGo.iret dX10_rule_39 rfl ?_
        first
        | (exfalso; omega)
        | (refine leafZ hz36 ?_
           unfold zp_rule
           (repeat (first | rw [if_pos (by first | rfl | assumption | omega)] | rw [if_neg (by first | decide | assumption | omega)]))
           (try first | rfl | rw [bZ_t (by first | assumption | omega)] | rw [bZ_f (by first | assumption | omega)]))
def zp_hush (z : ZT) (p a b : Int) : Int × ZT :=
  if ¬ ((0 ≤ a ∧ a ≤ 5) ∧ 0 ≤ b ∧ b ≤ 5) then ((-1), zTell z (-1)) else if ¬ (0 ≤ p ∧ p < z.2 3 0) then ((-2), zTell z (-2)) else (wZ (z.2 3 (22 + 36 * p + (6 * a + b))), zi (za z 3 (22 + 36 * p + (6 * a + b)) (-1)) 1 0)
set_option maxHeartbeats 4000000 in
theorem kX10_hush {E : ET} {sh : SHT} {nn : Nat × Nat} {V : VT} {T : Nat} {z : ZT} {p a b : Int} (hT : MSh T sh) (hz : PE T V z) (W : RWZ (z.2 3)) (rp : R32 p) (ra : R32 a) (rb : R32 b) : TC E mX10_hush 3 [.ref T, .int (iI p), .int (iI a), .int (iI b)] sh nn V (ZP T sh nn (zp_hush z p a b)) := by
  have w0 := W.1.1
  refine TC.intro [some (.ref T), some (.int (iI p)), some (.int (iI a)), some (.int (iI b))] rfl ?_
  refine TGo.al0 dX10_hush_0 rfl ?_
  refine TGo.ic0 dX10_hush_1 ?_
  refine TGo.putI (t := 18) 0 0 (hT 0 (by decide)) rfl fpX10_163_10 dX10_hush_2 rfl rfl rfl ?_
  refine TGo.il2 dX10_hush_5 rfl ?_
  refine TGo.il3 dX10_hush_6 rfl ?_
  refine TGo.cF (csS2 (y2 := mX10_isPlace) 2 rfl dX10_hush_7 q2053 q2054 okX10_isPlace npX10_isPlace rfl rfl) (kX10_isPlace (by omega) (by omega)) ?_
  refine TGo.ifb_ne 19 dX10_hush_10 (by decide) (fun h10 => ?_) (fun h10 => ?_)
  · refine TGo.al0 dX10_hush_19 rfl ?_
    refine TGo.il1 dX10_hush_20 rfl ?_
    refine TGo.cF (csV1 (y2 := mX10_isPart) (t := 18) 2 rfl (hT 0 (by decide)) rfl rfl dX10_hush_21 q2061 q2063 qs40 okX10_isPart npX10_isPart rfl rfl) (kX10_isPart hT (hz.s rfl) w0 (by omega)) ?_
    refine TGo.ifb_eq 42 dX10_hush_24 (by decide) (fun h24 => ?_) (fun h24 => ?_)
    · refine TGo.al0 dX10_hush_42 rfl ?_
      refine TGo.bip (-2) dX10_hush_43 (by decide) ?_
      refine TGo.cS (csV1 (y2 := mX10_tell) (t := 18) 1 rfl (hT 0 (by decide)) rfl rfl dX10_hush_45 q2035 q2037 qs39 okX10_tell npX10_tell rfl rfl) (kX10_tell hT (hz.s rfl) (by omega)) (fun v45 V45 h45 => ?_)
      obtain ⟨rfl, hz45⟩ := h45
      refine TGo.iret dX10_hush_48 rfl ?_
      first
      | (exfalso; omega)
      | (refine leafZ hz45 ?_
         unfold zp_hush
         (repeat (first | rw [if_pos (by first | rfl | assumption | omega)] | rw [if_neg (by first | decide | assumption | omega)]))
         (try first | rfl | rw [bZ_t (by first | assumption | omega)] | rw [bZ_f (by first | assumption | omega)]))
    · refine TGo.al0 dX10_hush_27 rfl ?_
      refine TGo.il1 dX10_hush_28 rfl ?_
      refine TGo.bip 6 dX10_hush_29 (by decide) ?_
      refine TGo.il2 dX10_hush_31 rfl ?_
      refine TGo.imul dX10_hush_32 ?_
      refine TGo.il3 dX10_hush_33 rfl ?_
      refine TGo.iadd dX10_hush_34 ?_
      refine TGo.icm1 dX10_hush_35 ?_
      refine TGo.cS (csV3 (y2 := mX10_changeRule) (t := 18) 2 rfl (hT 0 (by decide)) rfl rfl dX10_hush_36 q2065 q2067 qs41 okX10_changeRule npX10_changeRule rfl rfl) (kX10_changeRule hT (hz.s rfl) (by omega) (by omega) (by omega) (W.2.2.1 p (6 * a + b) (by omega) (by omega) (by omega) (by omega))) (fun v36 V36 h36 => ?_)
      obtain ⟨rfl, hz36⟩ := h36
      refine TGo.goto 48 dX10_hush_39 (by decide) ?_
      refine TGo.iret dX10_hush_48 rfl ?_
      first
      | (exfalso; omega)
      | (refine leafZ hz36 ?_
         unfold zp_hush
         (repeat (first | rw [if_pos (by first | rfl | assumption | omega)] | rw [if_neg (by first | decide | assumption | omega)]))
         (try first | rfl | rw [bZ_t (by first | assumption | omega)] | rw [bZ_f (by first | assumption | omega)]))
  · refine TGo.al0 dX10_hush_13 rfl ?_
    refine TGo.icm1 dX10_hush_14 ?_
    refine TGo.cS (csV1 (y2 := mX10_tell) (t := 18) 1 rfl (hT 0 (by decide)) rfl rfl dX10_hush_15 q2035 q2037 qs39 okX10_tell npX10_tell rfl rfl) (kX10_tell hT (hz.s rfl) (by omega)) (fun v15 V15 h15 => ?_)
    obtain ⟨rfl, hz15⟩ := h15
    refine TGo.iret dX10_hush_18 rfl ?_
    first
    | (exfalso; omega)
    | (refine leafZ hz15 ?_
       unfold zp_hush
       (repeat (first | rw [if_pos (by first | rfl | assumption | omega)] | rw [if_neg (by first | decide | assumption | omega)]))
       (try first | rfl | rw [bZ_t (by first | assumption | omega)] | rw [bZ_f (by first | assumption | omega)]))
def zp_of (z : ZT) (p a b w : Int) : Int × ZT :=
  if (0 ≤ p ∧ p < z.2 3 0) ∧ ((0 ≤ a ∧ a ≤ 5) ∧ 0 ≤ b ∧ b ≤ 5) ∧ 0 ≤ w ∧ w ≤ 1 then (ofZ (z.2 3 (22 + 36 * p + 6 * a + b)) w, z) else (-1, z)
set_option maxHeartbeats 4000000 in
theorem kX10_of {E : ET} {sh : SHT} {nn : Nat × Nat} {V : VT} {T : Nat} {z : ZT} {p a b w : Int} (hT : MSh T sh) (hz : PE T V z) (W : RWZ (z.2 3)) (rp : R32 p) (ra : R32 a) (rb : R32 b) (rw : R32 w) : TC E mX10_of 3 [.ref T, .int (iI p), .int (iI a), .int (iI b), .int (iI w)] sh nn V (ZP T sh nn (zp_of z p a b w)) := by
  have w0 := W.1.1
  refine TC.intro [some (.ref T), some (.int (iI p)), some (.int (iI a)), some (.int (iI b)), some (.int (iI w))] rfl ?_
  refine TGo.al0 dX10_of_0 rfl ?_
  refine TGo.ic0 dX10_of_1 ?_
  refine TGo.putI (t := 18) 0 0 (hT 0 (by decide)) rfl fpX10_163_10 dX10_of_2 rfl rfl rfl ?_
  refine TGo.al0 dX10_of_5 rfl ?_
  refine TGo.il1 dX10_of_6 rfl ?_
  refine TGo.cF (csV1 (y2 := mX10_isPart) (t := 18) 2 rfl (hT 0 (by decide)) rfl rfl dX10_of_7 q2061 q2063 qs40 okX10_isPart npX10_isPart rfl rfl) (kX10_isPart hT (hz.s rfl) w0 (by omega)) ?_
  refine TGo.ifb_eq 59 dX10_of_10 (by decide) (fun h10 => ?_) (fun h10 => ?_)
  · refine TGo.icm1 dX10_of_59 ?_
    refine TGo.iret dX10_of_60 rfl ?_
    first
    | (exfalso; omega)
    | (refine leafZ (hz.s rfl) ?_
       unfold zp_of
       (repeat (first | rw [if_pos (by first | rfl | assumption | omega)] | rw [if_neg (by first | decide | assumption | omega)]))
       (try first | rfl | rw [bZ_t (by first | assumption | omega)] | rw [bZ_f (by first | assumption | omega)]))
  · refine TGo.il2 dX10_of_13 rfl ?_
    refine TGo.il3 dX10_of_14 rfl ?_
    refine TGo.cF (csS2 (y2 := mX10_isPlace) 2 rfl dX10_of_15 q2053 q2054 okX10_isPlace npX10_isPlace rfl rfl) (kX10_isPlace (by omega) (by omega)) ?_
    refine TGo.ifb_eq 59 dX10_of_18 (by decide) (fun h18 => ?_) (fun h18 => ?_)
    · refine TGo.icm1 dX10_of_59 ?_
      refine TGo.iret dX10_of_60 rfl ?_
      first
      | (exfalso; omega)
      | (refine leafZ (hz.s rfl) ?_
         unfold zp_of
         (repeat (first | rw [if_pos (by first | rfl | assumption | omega)] | rw [if_neg (by first | decide | assumption | omega)]))
         (try first | rfl | rw [bZ_t (by first | assumption | omega)] | rw [bZ_f (by first | assumption | omega)]))
    · refine TGo.il dX10_of_21 rfl ?_
      refine TGo.i2l dX10_of_23 (by omega) ?_
      refine TGo.lc0 dX10_of_24 ?_
      refine TGo.lc1 dX10_of_25 ?_
      refine TGo.cF (csS3 (y2 := mX10_in) 1 rfl dX10_of_26 q2032 q2033 okX10_in npX10_in rfl rfl) (kX10_in (by omega) (by omega) (by omega)) ?_
      refine TGo.ifb_eq 59 dX10_of_29 (by decide) (fun h29 => ?_) (fun h29 => ?_)
      · refine TGo.icm1 dX10_of_59 ?_
        refine TGo.iret dX10_of_60 rfl ?_
        first
        | (exfalso; omega)
        | (refine leafZ (hz.s rfl) ?_
           unfold zp_of
           (repeat (first | rw [if_pos (by first | rfl | assumption | omega)] | rw [if_neg (by first | decide | assumption | omega)]))
           (try first | rfl | rw [bZ_t (by first | assumption | omega)] | rw [bZ_f (by first | assumption | omega)]))
      · refine TGo.al0 dX10_of_32 rfl ?_
        refine TGo.getS (t := 18) 3 3 (T + 2) (hT 0 (by decide)) rfl fgX10_13_10 dX10_of_33 rfl rfl rfl ?_
        refine TGo.bip 22 dX10_of_36 (by decide) ?_
        refine TGo.bip 36 dX10_of_38 (by decide) ?_
        refine TGo.il1 dX10_of_40 rfl ?_
        refine TGo.imul dX10_of_41 ?_
        refine TGo.iadd dX10_of_42 ?_
        refine TGo.bip 6 dX10_of_43 (by decide) ?_
        refine TGo.il2 dX10_of_45 rfl ?_
        refine TGo.imul dX10_of_46 ?_
        refine TGo.iadd dX10_of_47 ?_
        refine TGo.il3 dX10_of_48 rfl ?_
        refine TGo.iadd dX10_of_49 ?_
        refine TGo.iald dX10_of_50 (hT 2 (by decide)) (by omega) rfl ?_
        refine TGo.toz _ ((u2_n (Or.inl (by omega))).trans (hz.2.1 3 (by decide) _)) ?_
        refine TGo.il dX10_of_51 rfl ?_
        refine TGo.cF (csS2 (y2 := mX10_ofRule) 2 rfl dX10_of_53 q2084 q2085 okX10_ofRule npX10_ofRule rfl rfl) (kX10_ofRule (by have := W.2.2.1 p (6 * a + b) (by omega) (by omega) (by omega) (by omega); rw [← Int.add_assoc] at this; exact this) (by omega)) ?_
        refine TGo.goto 60 dX10_of_56 (by decide) ?_
        refine TGo.iret dX10_of_60 rfl ?_
        first
        | (exfalso; omega)
        | (refine leafZ (hz.s rfl) ?_
           unfold zp_of
           (repeat (first | rw [if_pos (by first | rfl | assumption | omega)] | rw [if_neg (by first | decide | assumption | omega)]))
           (try first | rfl | rw [bZ_t (by first | assumption | omega)] | rw [bZ_f (by first | assumption | omega)]))
def zp_person (z : ZT) (b d m : Int) : Int × ZT :=
  if ¬ ((0 ≤ b ∧ b ≤ 200) ∧ (b + 1 ≤ d ∧ d ≤ 300) ∧ 1 ≤ m ∧ m ≤ 9) then ((-1), zTell z (-1)) else if z.2 3 1 = 8 then ((-5), zTell z (-5)) else (z.2 3 1, zTell (za (za (za (za z 3 (238 + 3 * z.2 3 1) b) 3 (238 + 3 * z.2 3 1 + 1) d) 3 (238 + 3 * z.2 3 1 + 2) m) 3 1 (z.2 3 1 + 1)) (z.2 3 1))
set_option maxHeartbeats 4000000 in
theorem kX10_person {E : ET} {sh : SHT} {nn : Nat × Nat} {V : VT} {T : Nat} {z : ZT} {b d m : Int} (hT : MSh T sh) (hz : PE T V z) (W : RWZ (z.2 3)) (rb : R32 b) (rd : R32 d) (rm : R32 m) : TC E mX10_person 2 [.ref T, .int (iI b), .int (iI d), .int (iI m)] sh nn V (ZP T sh nn (zp_person z b d m)) := by
  have w1 := W.1.2.1
  refine TC.intro [some (.ref T), some (.int (iI b)), some (.int (iI d)), some (.int (iI m)), none] rfl ?_
  refine TGo.al0 dX10_person_0 rfl ?_
  refine TGo.ic0 dX10_person_1 ?_
  refine TGo.putI (t := 18) 0 0 (hT 0 (by decide)) rfl fpX10_163_10 dX10_person_2 rfl rfl rfl ?_
  refine TGo.il1 dX10_person_5 rfl ?_
  refine TGo.i2l dX10_person_6 (by omega) ?_
  refine TGo.lc0 dX10_person_7 ?_
  refine TGo.ldc2 200 dX10_person_8 q2103 (by decide) ?_
  refine TGo.cF (csS3 (y2 := mX10_in) 1 rfl dX10_person_11 q2032 q2033 okX10_in npX10_in rfl rfl) (kX10_in (by omega) (by omega) (by omega)) ?_
  refine TGo.ifb_eq 44 dX10_person_14 (by decide) (fun h14 => ?_) (fun h14 => ?_)
  · refine TGo.al0 dX10_person_44 rfl ?_
    refine TGo.icm1 dX10_person_45 ?_
    refine TGo.cS (csV1 (y2 := mX10_tell) (t := 18) 1 rfl (hT 0 (by decide)) rfl rfl dX10_person_46 q2035 q2037 qs39 okX10_tell npX10_tell rfl rfl) (kX10_tell hT (hz.s rfl) (by omega)) (fun v46 V46 h46 => ?_)
    obtain ⟨rfl, hz46⟩ := h46
    refine TGo.iret dX10_person_49 rfl ?_
    first
    | (exfalso; omega)
    | (refine leafZ hz46 ?_
       unfold zp_person
       (repeat (first | rw [if_pos (by first | rfl | assumption | omega)] | rw [if_neg (by first | decide | assumption | omega)]))
       (try first | rfl | rw [bZ_t (by first | assumption | omega)] | rw [bZ_f (by first | assumption | omega)]))
  · refine TGo.il2 dX10_person_17 rfl ?_
    refine TGo.i2l dX10_person_18 (by omega) ?_
    refine TGo.il1 dX10_person_19 rfl ?_
    refine TGo.i2l dX10_person_20 (by omega) ?_
    refine TGo.lc1 dX10_person_21 ?_
    refine TGo.ladd dX10_person_22 ?_
    refine TGo.ldc2 300 dX10_person_23 q2104 (by decide) ?_
    refine TGo.cF (csS3 (y2 := mX10_in) 1 rfl dX10_person_26 q2032 q2033 okX10_in npX10_in rfl rfl) (kX10_in (by omega) (by omega) (by omega)) ?_
    refine TGo.ifb_eq 44 dX10_person_29 (by decide) (fun h29 => ?_) (fun h29 => ?_)
    · refine TGo.al0 dX10_person_44 rfl ?_
      refine TGo.icm1 dX10_person_45 ?_
      refine TGo.cS (csV1 (y2 := mX10_tell) (t := 18) 1 rfl (hT 0 (by decide)) rfl rfl dX10_person_46 q2035 q2037 qs39 okX10_tell npX10_tell rfl rfl) (kX10_tell hT (hz.s rfl) (by omega)) (fun v46 V46 h46 => ?_)
      obtain ⟨rfl, hz46⟩ := h46
      refine TGo.iret dX10_person_49 rfl ?_
      first
      | (exfalso; omega)
      | (refine leafZ hz46 ?_
         unfold zp_person
         (repeat (first | rw [if_pos (by first | rfl | assumption | omega)] | rw [if_neg (by first | decide | assumption | omega)]))
         (try first | rfl | rw [bZ_t (by first | assumption | omega)] | rw [bZ_f (by first | assumption | omega)]))
    · refine TGo.il3 dX10_person_32 rfl ?_
      refine TGo.i2l dX10_person_33 (by omega) ?_
      refine TGo.lc1 dX10_person_34 ?_
      refine TGo.ldc2 9 dX10_person_35 q2060 (by decide) ?_
      refine TGo.cF (csS3 (y2 := mX10_in) 1 rfl dX10_person_38 q2032 q2033 okX10_in npX10_in rfl rfl) (kX10_in (by omega) (by omega) (by omega)) ?_
      refine TGo.ifb_ne 50 dX10_person_41 (by decide) (fun h41 => ?_) (fun h41 => ?_)
      · refine TGo.al0 dX10_person_50 rfl ?_
        refine TGo.getS (t := 18) 3 3 (T + 2) (hT 0 (by decide)) rfl fgX10_13_10 dX10_person_51 rfl rfl rfl ?_
        refine TGo.ic1 dX10_person_54 ?_
        refine TGo.iald dX10_person_55 (hT 2 (by decide)) (by omega) rfl ?_
        refine TGo.toz _ ((u2_n (Or.inl (by omega))).trans (hz.2.1 3 (by decide) _)) ?_
        refine TGo.is dX10_person_56 rfl rfl ?_
        refine TGo.il dX10_person_58 rfl ?_
        refine TGo.bip 8 dX10_person_60 (by decide) ?_
        refine TGo.icmp_ne 72 dX10_person_62 (by decide) (by omega) (fun h62 => ?_) (fun h62 => ?_)
        · refine TGo.al0 dX10_person_72 rfl ?_
          refine TGo.getS (t := 18) 3 3 (T + 2) (hT 0 (by decide)) rfl fgX10_13_10 dX10_person_73 rfl rfl rfl ?_
          refine TGo.sip 238 dX10_person_76 (by decide) ?_
          refine TGo.ic3 dX10_person_79 ?_
          refine TGo.il dX10_person_80 rfl ?_
          refine TGo.imul dX10_person_82 ?_
          refine TGo.iadd dX10_person_83 ?_
          refine TGo.il1 dX10_person_84 rfl ?_
          refine TGo.iast dX10_person_85 (hT 2 (by decide)) (by omega) rfl ?_
          refine TGo.al0 dX10_person_86 rfl ?_
          refine TGo.getS (t := 18) 3 3 (T + 2) (hT 0 (by decide)) rfl fgX10_13_10 dX10_person_87 rfl rfl rfl ?_
          refine TGo.sip 238 dX10_person_90 (by decide) ?_
          refine TGo.ic3 dX10_person_93 ?_
          refine TGo.il dX10_person_94 rfl ?_
          refine TGo.imul dX10_person_96 ?_
          refine TGo.iadd dX10_person_97 ?_
          refine TGo.ic1 dX10_person_98 ?_
          refine TGo.iadd dX10_person_99 ?_
          refine TGo.il2 dX10_person_100 rfl ?_
          refine TGo.iast dX10_person_101 (hT 2 (by decide)) (by omega) rfl ?_
          refine TGo.al0 dX10_person_102 rfl ?_
          refine TGo.getS (t := 18) 3 3 (T + 2) (hT 0 (by decide)) rfl fgX10_13_10 dX10_person_103 rfl rfl rfl ?_
          refine TGo.sip 238 dX10_person_106 (by decide) ?_
          refine TGo.ic3 dX10_person_109 ?_
          refine TGo.il dX10_person_110 rfl ?_
          refine TGo.imul dX10_person_112 ?_
          refine TGo.iadd dX10_person_113 ?_
          refine TGo.ic2 dX10_person_114 ?_
          refine TGo.iadd dX10_person_115 ?_
          refine TGo.il3 dX10_person_116 rfl ?_
          refine TGo.iast dX10_person_117 (hT 2 (by decide)) (by omega) rfl ?_
          refine TGo.al0 dX10_person_118 rfl ?_
          refine TGo.getS (t := 18) 3 3 (T + 2) (hT 0 (by decide)) rfl fgX10_13_10 dX10_person_119 rfl rfl rfl ?_
          refine TGo.ic1 dX10_person_122 ?_
          refine TGo.dup2 dX10_person_123 rfl rfl ?_
          refine TGo.iald dX10_person_124 (hT 2 (by decide)) (by omega) rfl ?_
          refine TGo.toz _ ((u2_n (Or.inr (by omega))).trans ((u2_n (Or.inr (by omega))).trans ((u2_n (Or.inr (by omega))).trans ((u2_n (Or.inl (by omega))).trans (hz.2.1 3 (by decide) _))))) ?_
          refine TGo.ic1 dX10_person_125 ?_
          refine TGo.iadd dX10_person_126 ?_
          refine TGo.iast dX10_person_127 (hT 2 (by decide)) (by omega) rfl ?_
          refine TGo.al0 dX10_person_128 rfl ?_
          refine TGo.il dX10_person_129 rfl ?_
          refine TGo.cS (csV1 (y2 := mX10_tell) (t := 18) 1 rfl (hT 0 (by decide)) rfl rfl dX10_person_131 q2035 q2037 qs39 okX10_tell npX10_tell rfl rfl) (kX10_tell hT (((((hz.s rfl).a 3 rfl rfl).a 3 rfl rfl).a 3 rfl rfl).a 3 rfl rfl) (by omega)) (fun v131 V131 h131 => ?_)
          obtain ⟨rfl, hz131⟩ := h131
          refine TGo.iret dX10_person_134 rfl ?_
          first
          | (exfalso; omega)
          | (refine leafZ hz131 ?_
             unfold zp_person
             (repeat (first | rw [if_pos (by first | rfl | assumption | omega)] | rw [if_neg (by first | decide | assumption | omega)]))
             (try first | rfl | rw [bZ_t (by first | assumption | omega)] | rw [bZ_f (by first | assumption | omega)]))
        · refine TGo.al0 dX10_person_65 rfl ?_
          refine TGo.bip (-5) dX10_person_66 (by decide) ?_
          refine TGo.cS (csV1 (y2 := mX10_tell) (t := 18) 1 rfl (hT 0 (by decide)) rfl rfl dX10_person_68 q2035 q2037 qs39 okX10_tell npX10_tell rfl rfl) (kX10_tell hT (hz.s rfl) (by omega)) (fun v68 V68 h68 => ?_)
          obtain ⟨rfl, hz68⟩ := h68
          refine TGo.iret dX10_person_71 rfl ?_
          first
          | (exfalso; omega)
          | (refine leafZ hz68 ?_
             unfold zp_person
             (repeat (first | rw [if_pos (by first | rfl | assumption | omega)] | rw [if_neg (by first | decide | assumption | omega)]))
             (try first | rfl | rw [bZ_t (by first | assumption | omega)] | rw [bZ_f (by first | assumption | omega)]))
      · refine TGo.al0 dX10_person_44 rfl ?_
        refine TGo.icm1 dX10_person_45 ?_
        refine TGo.cS (csV1 (y2 := mX10_tell) (t := 18) 1 rfl (hT 0 (by decide)) rfl rfl dX10_person_46 q2035 q2037 qs39 okX10_tell npX10_tell rfl rfl) (kX10_tell hT (hz.s rfl) (by omega)) (fun v46 V46 h46 => ?_)
        obtain ⟨rfl, hz46⟩ := h46
        refine TGo.iret dX10_person_49 rfl ?_
        first
        | (exfalso; omega)
        | (refine leafZ hz46 ?_
           unfold zp_person
           (repeat (first | rw [if_pos (by first | rfl | assumption | omega)] | rw [if_neg (by first | decide | assumption | omega)]))
           (try first | rfl | rw [bZ_t (by first | assumption | omega)] | rw [bZ_f (by first | assumption | omega)]))
def zp_put (z : ZT) (p w v : Int) : Int × ZT :=
  if ¬ ((w = 0 ∧ 0 ≤ v ∧ v ≤ 300) ∨ (w = 1 ∧ 1 ≤ v ∧ v ≤ 9)) then ((-1), zTell z (-1)) else if ¬ (0 ≤ p ∧ p < z.2 3 1) then ((-2), zTell z (-2)) else if w = 0 ∧ v ≤ z.2 3 (238 + 3 * p) then ((-1), zTell z (-1)) else (z.2 3 (238 + 3 * p + 1 + w), zi (za z 3 (238 + 3 * p + 1 + w) v) 1 0)
set_option maxHeartbeats 4000000 in
theorem kX10_put {E : ET} {sh : SHT} {nn : Nat × Nat} {V : VT} {T : Nat} {z : ZT} {p w v : Int} (hT : MSh T sh) (hz : PE T V z) (W : RWZ (z.2 3)) (rp : R32 p) (rw : R32 w) (rv : R32 v) : TC E mX10_put 3 [.ref T, .int (iI p), .int (iI w), .int (iI v)] sh nn V (ZP T sh nn (zp_put z p w v)) := by
  have w1 := W.1.2.1
  refine TC.intro [some (.ref T), some (.int (iI p)), some (.int (iI w)), some (.int (iI v)), none, none, none] rfl ?_
  refine TGo.al0 dX10_put_0 rfl ?_
  refine TGo.ic0 dX10_put_1 ?_
  refine TGo.putI (t := 18) 0 0 (hT 0 (by decide)) rfl fpX10_163_10 dX10_put_2 rfl rfl rfl ?_
  refine TGo.il2 dX10_put_5 rfl ?_
  refine TGo.if_ne 21 dX10_put_6 (by decide) (by omega) (fun h6 => ?_) (fun h6 => ?_)
  · refine TGo.il2 dX10_put_21 rfl ?_
    refine TGo.ic1 dX10_put_22 ?_
    refine TGo.icmp_ne 42 dX10_put_23 (by decide) (by omega) (fun h23 => ?_) (fun h23 => ?_)
    · refine TGo.ic0 dX10_put_42 ?_
      refine TGo.is dX10_put_43 rfl rfl ?_
      refine TGo.il dX10_put_45 rfl ?_
      refine TGo.if_ne 56 dX10_put_47 (by decide) (by decide) (fun h => absurd h (by decide)) (fun _ => ?_)
      refine TGo.al0 dX10_put_50 rfl ?_
      refine TGo.icm1 dX10_put_51 ?_
      refine TGo.cS (csV1 (y2 := mX10_tell) (t := 18) 1 rfl (hT 0 (by decide)) rfl rfl dX10_put_52 q2035 q2037 qs39 okX10_tell npX10_tell rfl rfl) (kX10_tell hT (hz.s rfl) (by omega)) (fun v52 V52 h52 => ?_)
      obtain ⟨rfl, hz52⟩ := h52
      refine TGo.iret dX10_put_55 rfl ?_
      first
      | (exfalso; omega)
      | (refine leafZ hz52 ?_
         unfold zp_put
         (repeat (first | rw [if_pos (by first | rfl | assumption | omega)] | rw [if_neg (by first | decide | assumption | omega)]))
         (try first | rfl | rw [bZ_t (by first | assumption | omega)] | rw [bZ_f (by first | assumption | omega)]))
    · refine TGo.il3 dX10_put_26 rfl ?_
      refine TGo.i2l dX10_put_27 (by omega) ?_
      refine TGo.lc1 dX10_put_28 ?_
      refine TGo.ldc2 9 dX10_put_29 q2060 (by decide) ?_
      refine TGo.cF (csS3 (y2 := mX10_in) 1 rfl dX10_put_32 q2032 q2033 okX10_in npX10_in rfl rfl) (kX10_in (by omega) (by omega) (by omega)) ?_
      refine TGo.ifb_eq 42 dX10_put_35 (by decide) (fun h35 => ?_) (fun h35 => ?_)
      · refine TGo.ic0 dX10_put_42 ?_
        refine TGo.is dX10_put_43 rfl rfl ?_
        refine TGo.il dX10_put_45 rfl ?_
        refine TGo.if_ne 56 dX10_put_47 (by decide) (by decide) (fun h => absurd h (by decide)) (fun _ => ?_)
        refine TGo.al0 dX10_put_50 rfl ?_
        refine TGo.icm1 dX10_put_51 ?_
        refine TGo.cS (csV1 (y2 := mX10_tell) (t := 18) 1 rfl (hT 0 (by decide)) rfl rfl dX10_put_52 q2035 q2037 qs39 okX10_tell npX10_tell rfl rfl) (kX10_tell hT (hz.s rfl) (by omega)) (fun v52 V52 h52 => ?_)
        obtain ⟨rfl, hz52⟩ := h52
        refine TGo.iret dX10_put_55 rfl ?_
        first
        | (exfalso; omega)
        | (refine leafZ hz52 ?_
           unfold zp_put
           (repeat (first | rw [if_pos (by first | rfl | assumption | omega)] | rw [if_neg (by first | decide | assumption | omega)]))
           (try first | rfl | rw [bZ_t (by first | assumption | omega)] | rw [bZ_f (by first | assumption | omega)]))
      · refine TGo.ic1 dX10_put_38 ?_
        refine TGo.goto 43 dX10_put_39 (by decide) ?_
        refine TGo.is dX10_put_43 rfl rfl ?_
        refine TGo.il dX10_put_45 rfl ?_
        refine TGo.if_ne 56 dX10_put_47 (by decide) (by decide) (fun _ => ?_) (fun h => absurd h (by decide))
        refine TGo.al0 dX10_put_56 rfl ?_
        refine TGo.il1 dX10_put_57 rfl ?_
        refine TGo.cF (csV1 (y2 := mX10_isPerson) (t := 18) 2 rfl (hT 0 (by decide)) rfl rfl dX10_put_58 q2109 q2111 qs44 okX10_isPerson npX10_isPerson rfl rfl) (kX10_isPerson hT (hz.s rfl) w1 (by omega)) ?_
        refine TGo.ifb_ne 71 dX10_put_61 (by decide) (fun h61 => ?_) (fun h61 => ?_)
        · have wp := W.2.2.2.1 p (by omega) (by omega)
          refine TGo.il2 dX10_put_71 rfl ?_
          refine TGo.if_ne 90 dX10_put_72 (by decide) (by omega) (fun h72 => ?_) (fun h72 => ?_)
          · refine TGo.sip 238 dX10_put_90 (by decide) ?_
            refine TGo.ic3 dX10_put_93 ?_
            refine TGo.il1 dX10_put_94 rfl ?_
            refine TGo.imul dX10_put_95 ?_
            refine TGo.iadd dX10_put_96 ?_
            refine TGo.ic1 dX10_put_97 ?_
            refine TGo.iadd dX10_put_98 ?_
            refine TGo.il2 dX10_put_99 rfl ?_
            refine TGo.iadd dX10_put_100 ?_
            refine TGo.is dX10_put_101 rfl rfl ?_
            refine TGo.al0 dX10_put_103 rfl ?_
            refine TGo.getS (t := 18) 3 3 (T + 2) (hT 0 (by decide)) rfl fgX10_13_10 dX10_put_104 rfl rfl rfl ?_
            refine TGo.il dX10_put_107 rfl ?_
            refine TGo.iald dX10_put_109 (hT 2 (by decide)) (by omega) rfl ?_
            refine TGo.toz _ ((u2_n (Or.inl (by omega))).trans (hz.2.1 3 (by decide) _)) ?_
            refine TGo.is dX10_put_110 rfl rfl ?_
            refine TGo.al0 dX10_put_112 rfl ?_
            refine TGo.getS (t := 18) 3 3 (T + 2) (hT 0 (by decide)) rfl fgX10_13_10 dX10_put_113 rfl rfl rfl ?_
            refine TGo.il dX10_put_116 rfl ?_
            refine TGo.il3 dX10_put_118 rfl ?_
            refine TGo.iast dX10_put_119 (hT 2 (by decide)) (by omega) rfl ?_
            refine TGo.al0 dX10_put_120 rfl ?_
            refine TGo.il dX10_put_121 rfl ?_
            refine TGo.cS (csV1 (y2 := mX10_was) (t := 18) 1 rfl (hT 0 (by decide)) rfl rfl dX10_put_123 q2072 q2074 qs42 okX10_was npX10_was rfl rfl) (kX10_was hT ((hz.s rfl).a 3 rfl rfl)) (fun v123 V123 h123 => ?_)
            obtain ⟨rfl, hz123⟩ := h123
            refine TGo.iret dX10_put_126 rfl ?_
            first
            | (exfalso; omega)
            | (refine leafZ hz123 ?_
               unfold zp_put
               (repeat (first | rw [if_pos (by first | rfl | assumption | omega)] | rw [if_neg (by first | decide | assumption | omega)]))
               (try first | rfl | rw [bZ_t (by first | assumption | omega)] | rw [bZ_f (by first | assumption | omega)]))
          · refine TGo.il3 dX10_put_75 rfl ?_
            refine TGo.al0 dX10_put_76 rfl ?_
            refine TGo.il1 dX10_put_77 rfl ?_
            refine TGo.cF (csV1 (y2 := mX10_born) (t := 18) 1 rfl (hT 0 (by decide)) rfl rfl dX10_put_78 q2113 q2115 qs45 okX10_born npX10_born rfl rfl) (kX10_born hT (hz.s rfl) (by omega)) ?_
            refine TGo.icmp_gt 90 dX10_put_81 (by decide) (by omega) (fun h81 => ?_) (fun h81 => ?_)
            · refine TGo.sip 238 dX10_put_90 (by decide) ?_
              refine TGo.ic3 dX10_put_93 ?_
              refine TGo.il1 dX10_put_94 rfl ?_
              refine TGo.imul dX10_put_95 ?_
              refine TGo.iadd dX10_put_96 ?_
              refine TGo.ic1 dX10_put_97 ?_
              refine TGo.iadd dX10_put_98 ?_
              refine TGo.il2 dX10_put_99 rfl ?_
              refine TGo.iadd dX10_put_100 ?_
              refine TGo.is dX10_put_101 rfl rfl ?_
              refine TGo.al0 dX10_put_103 rfl ?_
              refine TGo.getS (t := 18) 3 3 (T + 2) (hT 0 (by decide)) rfl fgX10_13_10 dX10_put_104 rfl rfl rfl ?_
              refine TGo.il dX10_put_107 rfl ?_
              refine TGo.iald dX10_put_109 (hT 2 (by decide)) (by omega) rfl ?_
              refine TGo.toz _ ((u2_n (Or.inl (by omega))).trans (hz.2.1 3 (by decide) _)) ?_
              refine TGo.is dX10_put_110 rfl rfl ?_
              refine TGo.al0 dX10_put_112 rfl ?_
              refine TGo.getS (t := 18) 3 3 (T + 2) (hT 0 (by decide)) rfl fgX10_13_10 dX10_put_113 rfl rfl rfl ?_
              refine TGo.il dX10_put_116 rfl ?_
              refine TGo.il3 dX10_put_118 rfl ?_
              refine TGo.iast dX10_put_119 (hT 2 (by decide)) (by omega) rfl ?_
              refine TGo.al0 dX10_put_120 rfl ?_
              refine TGo.il dX10_put_121 rfl ?_
              refine TGo.cS (csV1 (y2 := mX10_was) (t := 18) 1 rfl (hT 0 (by decide)) rfl rfl dX10_put_123 q2072 q2074 qs42 okX10_was npX10_was rfl rfl) (kX10_was hT ((hz.s rfl).a 3 rfl rfl)) (fun v123 V123 h123 => ?_)
              obtain ⟨rfl, hz123⟩ := h123
              refine TGo.iret dX10_put_126 rfl ?_
              first
              | (exfalso; omega)
              | (refine leafZ hz123 ?_
                 unfold zp_put
                 (repeat (first | rw [if_pos (by first | rfl | assumption | omega)] | rw [if_neg (by first | decide | assumption | omega)]))
                 (try first | rfl | rw [bZ_t (by first | assumption | omega)] | rw [bZ_f (by first | assumption | omega)]))
            · refine TGo.al0 dX10_put_84 rfl ?_
              refine TGo.icm1 dX10_put_85 ?_
              refine TGo.cS (csV1 (y2 := mX10_tell) (t := 18) 1 rfl (hT 0 (by decide)) rfl rfl dX10_put_86 q2035 q2037 qs39 okX10_tell npX10_tell rfl rfl) (kX10_tell hT (hz.s rfl) (by omega)) (fun v86 V86 h86 => ?_)
              obtain ⟨rfl, hz86⟩ := h86
              refine TGo.iret dX10_put_89 rfl ?_
              first
              | (exfalso; omega)
              | (refine leafZ hz86 ?_
                 unfold zp_put
                 (repeat (first | rw [if_pos (by first | rfl | assumption | omega)] | rw [if_neg (by first | decide | assumption | omega)]))
                 (try first | rfl | rw [bZ_t (by first | assumption | omega)] | rw [bZ_f (by first | assumption | omega)]))
        · refine TGo.al0 dX10_put_64 rfl ?_
          refine TGo.bip (-2) dX10_put_65 (by decide) ?_
          refine TGo.cS (csV1 (y2 := mX10_tell) (t := 18) 1 rfl (hT 0 (by decide)) rfl rfl dX10_put_67 q2035 q2037 qs39 okX10_tell npX10_tell rfl rfl) (kX10_tell hT (hz.s rfl) (by omega)) (fun v67 V67 h67 => ?_)
          obtain ⟨rfl, hz67⟩ := h67
          refine TGo.iret dX10_put_70 rfl ?_
          first
          | (exfalso; omega)
          | (refine leafZ hz67 ?_
             unfold zp_put
             (repeat (first | rw [if_pos (by first | rfl | assumption | omega)] | rw [if_neg (by first | decide | assumption | omega)]))
             (try first | rfl | rw [bZ_t (by first | assumption | omega)] | rw [bZ_f (by first | assumption | omega)]))
  · refine TGo.il3 dX10_put_9 rfl ?_
    refine TGo.i2l dX10_put_10 (by omega) ?_
    refine TGo.lc0 dX10_put_11 ?_
    refine TGo.ldc2 300 dX10_put_12 q2104 (by decide) ?_
    refine TGo.cF (csS3 (y2 := mX10_in) 1 rfl dX10_put_15 q2032 q2033 okX10_in npX10_in rfl rfl) (kX10_in (by omega) (by omega) (by omega)) ?_
    refine TGo.goto 43 dX10_put_18 (by decide) ?_
    refine TGo.is dX10_put_43 rfl rfl ?_
    refine TGo.il dX10_put_45 rfl ?_
    refine TGo.ifb_ne 56 dX10_put_47 (by decide) (fun h47 => ?_) (fun h47 => ?_)
    · refine TGo.al0 dX10_put_56 rfl ?_
      refine TGo.il1 dX10_put_57 rfl ?_
      refine TGo.cF (csV1 (y2 := mX10_isPerson) (t := 18) 2 rfl (hT 0 (by decide)) rfl rfl dX10_put_58 q2109 q2111 qs44 okX10_isPerson npX10_isPerson rfl rfl) (kX10_isPerson hT (hz.s rfl) w1 (by omega)) ?_
      refine TGo.ifb_ne 71 dX10_put_61 (by decide) (fun h61 => ?_) (fun h61 => ?_)
      · have wp := W.2.2.2.1 p (by omega) (by omega)
        refine TGo.il2 dX10_put_71 rfl ?_
        refine TGo.if_ne 90 dX10_put_72 (by decide) (by omega) (fun h72 => ?_) (fun h72 => ?_)
        · refine TGo.sip 238 dX10_put_90 (by decide) ?_
          refine TGo.ic3 dX10_put_93 ?_
          refine TGo.il1 dX10_put_94 rfl ?_
          refine TGo.imul dX10_put_95 ?_
          refine TGo.iadd dX10_put_96 ?_
          refine TGo.ic1 dX10_put_97 ?_
          refine TGo.iadd dX10_put_98 ?_
          refine TGo.il2 dX10_put_99 rfl ?_
          refine TGo.iadd dX10_put_100 ?_
          refine TGo.is dX10_put_101 rfl rfl ?_
          refine TGo.al0 dX10_put_103 rfl ?_
          refine TGo.getS (t := 18) 3 3 (T + 2) (hT 0 (by decide)) rfl fgX10_13_10 dX10_put_104 rfl rfl rfl ?_
          refine TGo.il dX10_put_107 rfl ?_
          refine TGo.iald dX10_put_109 (hT 2 (by decide)) (by omega) rfl ?_
          refine TGo.toz _ ((u2_n (Or.inl (by omega))).trans (hz.2.1 3 (by decide) _)) ?_
          refine TGo.is dX10_put_110 rfl rfl ?_
          refine TGo.al0 dX10_put_112 rfl ?_
          refine TGo.getS (t := 18) 3 3 (T + 2) (hT 0 (by decide)) rfl fgX10_13_10 dX10_put_113 rfl rfl rfl ?_
          refine TGo.il dX10_put_116 rfl ?_
          refine TGo.il3 dX10_put_118 rfl ?_
          refine TGo.iast dX10_put_119 (hT 2 (by decide)) (by omega) rfl ?_
          refine TGo.al0 dX10_put_120 rfl ?_
          refine TGo.il dX10_put_121 rfl ?_
          refine TGo.cS (csV1 (y2 := mX10_was) (t := 18) 1 rfl (hT 0 (by decide)) rfl rfl dX10_put_123 q2072 q2074 qs42 okX10_was npX10_was rfl rfl) (kX10_was hT ((hz.s rfl).a 3 rfl rfl)) (fun v123 V123 h123 => ?_)
          obtain ⟨rfl, hz123⟩ := h123
          refine TGo.iret dX10_put_126 rfl ?_
          first
          | (exfalso; omega)
          | (refine leafZ hz123 ?_
             unfold zp_put
             (repeat (first | rw [if_pos (by first | rfl | assumption | omega)] | rw [if_neg (by first | decide | assumption | omega)]))
             (try first | rfl | rw [bZ_t (by first | assumption | omega)] | rw [bZ_f (by first | assumption | omega)]))
        · refine TGo.il3 dX10_put_75 rfl ?_
          refine TGo.al0 dX10_put_76 rfl ?_
          refine TGo.il1 dX10_put_77 rfl ?_
          refine TGo.cF (csV1 (y2 := mX10_born) (t := 18) 1 rfl (hT 0 (by decide)) rfl rfl dX10_put_78 q2113 q2115 qs45 okX10_born npX10_born rfl rfl) (kX10_born hT (hz.s rfl) (by omega)) ?_
          refine TGo.icmp_gt 90 dX10_put_81 (by decide) (by omega) (fun h81 => ?_) (fun h81 => ?_)
          · refine TGo.sip 238 dX10_put_90 (by decide) ?_
            refine TGo.ic3 dX10_put_93 ?_
            refine TGo.il1 dX10_put_94 rfl ?_
            refine TGo.imul dX10_put_95 ?_
            refine TGo.iadd dX10_put_96 ?_
            refine TGo.ic1 dX10_put_97 ?_
            refine TGo.iadd dX10_put_98 ?_
            refine TGo.il2 dX10_put_99 rfl ?_
            refine TGo.iadd dX10_put_100 ?_
            refine TGo.is dX10_put_101 rfl rfl ?_
            refine TGo.al0 dX10_put_103 rfl ?_
            refine TGo.getS (t := 18) 3 3 (T + 2) (hT 0 (by decide)) rfl fgX10_13_10 dX10_put_104 rfl rfl rfl ?_
            refine TGo.il dX10_put_107 rfl ?_
            refine TGo.iald dX10_put_109 (hT 2 (by decide)) (by omega) rfl ?_
            refine TGo.toz _ ((u2_n (Or.inl (by omega))).trans (hz.2.1 3 (by decide) _)) ?_
            refine TGo.is dX10_put_110 rfl rfl ?_
            refine TGo.al0 dX10_put_112 rfl ?_
            refine TGo.getS (t := 18) 3 3 (T + 2) (hT 0 (by decide)) rfl fgX10_13_10 dX10_put_113 rfl rfl rfl ?_
            refine TGo.il dX10_put_116 rfl ?_
            refine TGo.il3 dX10_put_118 rfl ?_
            refine TGo.iast dX10_put_119 (hT 2 (by decide)) (by omega) rfl ?_
            refine TGo.al0 dX10_put_120 rfl ?_
            refine TGo.il dX10_put_121 rfl ?_
            refine TGo.cS (csV1 (y2 := mX10_was) (t := 18) 1 rfl (hT 0 (by decide)) rfl rfl dX10_put_123 q2072 q2074 qs42 okX10_was npX10_was rfl rfl) (kX10_was hT ((hz.s rfl).a 3 rfl rfl)) (fun v123 V123 h123 => ?_)
            obtain ⟨rfl, hz123⟩ := h123
            refine TGo.iret dX10_put_126 rfl ?_
            first
            | (exfalso; omega)
            | (refine leafZ hz123 ?_
               unfold zp_put
               (repeat (first | rw [if_pos (by first | rfl | assumption | omega)] | rw [if_neg (by first | decide | assumption | omega)]))
               (try first | rfl | rw [bZ_t (by first | assumption | omega)] | rw [bZ_f (by first | assumption | omega)]))
          · refine TGo.al0 dX10_put_84 rfl ?_
            refine TGo.icm1 dX10_put_85 ?_
            refine TGo.cS (csV1 (y2 := mX10_tell) (t := 18) 1 rfl (hT 0 (by decide)) rfl rfl dX10_put_86 q2035 q2037 qs39 okX10_tell npX10_tell rfl rfl) (kX10_tell hT (hz.s rfl) (by omega)) (fun v86 V86 h86 => ?_)
            obtain ⟨rfl, hz86⟩ := h86
            refine TGo.iret dX10_put_89 rfl ?_
            first
            | (exfalso; omega)
            | (refine leafZ hz86 ?_
               unfold zp_put
               (repeat (first | rw [if_pos (by first | rfl | assumption | omega)] | rw [if_neg (by first | decide | assumption | omega)]))
               (try first | rfl | rw [bZ_t (by first | assumption | omega)] | rw [bZ_f (by first | assumption | omega)]))
      · refine TGo.al0 dX10_put_64 rfl ?_
        refine TGo.bip (-2) dX10_put_65 (by decide) ?_
        refine TGo.cS (csV1 (y2 := mX10_tell) (t := 18) 1 rfl (hT 0 (by decide)) rfl rfl dX10_put_67 q2035 q2037 qs39 okX10_tell npX10_tell rfl rfl) (kX10_tell hT (hz.s rfl) (by omega)) (fun v67 V67 h67 => ?_)
        obtain ⟨rfl, hz67⟩ := h67
        refine TGo.iret dX10_put_70 rfl ?_
        first
        | (exfalso; omega)
        | (refine leafZ hz67 ?_
           unfold zp_put
           (repeat (first | rw [if_pos (by first | rfl | assumption | omega)] | rw [if_neg (by first | decide | assumption | omega)]))
           (try first | rfl | rw [bZ_t (by first | assumption | omega)] | rw [bZ_f (by first | assumption | omega)]))
    · refine TGo.al0 dX10_put_50 rfl ?_
      refine TGo.icm1 dX10_put_51 ?_
      refine TGo.cS (csV1 (y2 := mX10_tell) (t := 18) 1 rfl (hT 0 (by decide)) rfl rfl dX10_put_52 q2035 q2037 qs39 okX10_tell npX10_tell rfl rfl) (kX10_tell hT (hz.s rfl) (by omega)) (fun v52 V52 h52 => ?_)
      obtain ⟨rfl, hz52⟩ := h52
      refine TGo.iret dX10_put_55 rfl ?_
      first
      | (exfalso; omega)
      | (refine leafZ hz52 ?_
         unfold zp_put
         (repeat (first | rw [if_pos (by first | rfl | assumption | omega)] | rw [if_neg (by first | decide | assumption | omega)]))
         (try first | rfl | rw [bZ_t (by first | assumption | omega)] | rw [bZ_f (by first | assumption | omega)]))
def zp_fact (z : ZT) (p w : Int) : Int × ZT :=
  if ¬ ((0 ≤ p ∧ p < z.2 3 1) ∧ 0 ≤ w ∧ w ≤ 3) then (-1, z) else if w < 3 then (z.2 3 (238 + 3 * p + w), z) else (bZ (z.2 3 (238 + 3 * p) ≤ z.2 3 7 ∧ z.2 3 7 < z.2 3 (238 + 3 * p + 1)), z)
set_option maxHeartbeats 4000000 in
theorem kX10_fact {E : ET} {sh : SHT} {nn : Nat × Nat} {V : VT} {T : Nat} {z : ZT} {p w : Int} (hT : MSh T sh) (hz : PE T V z) (W : RWZ (z.2 3)) (rp : R32 p) (rw : R32 w) : TC E mX10_fact 3 [.ref T, .int (iI p), .int (iI w)] sh nn V (ZP T sh nn (zp_fact z p w)) := by
  have w1 := W.1.2.1
  refine TC.intro [some (.ref T), some (.int (iI p)), some (.int (iI w))] rfl ?_
  refine TGo.al0 dX10_fact_0 rfl ?_
  refine TGo.ic0 dX10_fact_1 ?_
  refine TGo.putI (t := 18) 0 0 (hT 0 (by decide)) rfl fpX10_163_10 dX10_fact_2 rfl rfl rfl ?_
  refine TGo.al0 dX10_fact_5 rfl ?_
  refine TGo.il1 dX10_fact_6 rfl ?_
  refine TGo.cF (csV1 (y2 := mX10_isPerson) (t := 18) 2 rfl (hT 0 (by decide)) rfl rfl dX10_fact_7 q2109 q2111 qs44 okX10_isPerson npX10_isPerson rfl rfl) (kX10_isPerson hT (hz.s rfl) w1 (by omega)) ?_
  refine TGo.ifb_eq 25 dX10_fact_10 (by decide) (fun h10 => ?_) (fun h10 => ?_)
  · refine TGo.icm1 dX10_fact_25 ?_
    refine TGo.iret dX10_fact_26 rfl ?_
    first
    | (exfalso; omega)
    | (refine leafZ (hz.s rfl) ?_
       unfold zp_fact
       (repeat (first | rw [if_pos (by first | rfl | assumption | omega)] | rw [if_neg (by first | decide | assumption | omega)]))
       (try first | rfl | rw [bZ_t (by first | assumption | omega)] | rw [bZ_f (by first | assumption | omega)]))
  · refine TGo.il2 dX10_fact_13 rfl ?_
    refine TGo.i2l dX10_fact_14 (by omega) ?_
    refine TGo.lc0 dX10_fact_15 ?_
    refine TGo.ldc2 3 dX10_fact_16 q2094 (by decide) ?_
    refine TGo.cF (csS3 (y2 := mX10_in) 1 rfl dX10_fact_19 q2032 q2033 okX10_in npX10_in rfl rfl) (kX10_in (by omega) (by omega) (by omega)) ?_
    refine TGo.ifb_ne 27 dX10_fact_22 (by decide) (fun h22 => ?_) (fun h22 => ?_)
    · refine TGo.il2 dX10_fact_27 rfl ?_
      refine TGo.ic3 dX10_fact_28 ?_
      refine TGo.icmp_ge 49 dX10_fact_29 (by decide) (by omega) (fun h29 => ?_) (fun h29 => ?_)
      · refine TGo.al0 dX10_fact_49 rfl ?_
        refine TGo.il1 dX10_fact_50 rfl ?_
        refine TGo.cF (csV1 (y2 := mX10_isAlive) (t := 18) 2 rfl (hT 0 (by decide)) rfl rfl dX10_fact_51 q2121 q2123 qs46 okX10_isAlive npX10_isAlive rfl rfl) (kX10_isAlive hT (hz.s rfl) W (by omega)) ?_
        refine TGo.ifb_eq 61 dX10_fact_54 (by decide) (fun h54 => ?_) (fun h54 => ?_)
        · refine TGo.ic0 dX10_fact_61 ?_
          refine TGo.iret dX10_fact_62 rfl ?_
          first
          | (exfalso; omega)
          | (refine leafZ (hz.s rfl) ?_
             unfold zp_fact
             (repeat (first | rw [if_pos (by first | rfl | assumption | omega)] | rw [if_neg (by first | decide | assumption | omega)]))
             (try first | rfl | rw [bZ_t (by first | assumption | omega)] | rw [bZ_f (by first | assumption | omega)]))
        · refine TGo.ic1 dX10_fact_57 ?_
          refine TGo.goto 62 dX10_fact_58 (by decide) ?_
          refine TGo.iret dX10_fact_62 rfl ?_
          first
          | (exfalso; omega)
          | (refine leafZ (hz.s rfl) ?_
             unfold zp_fact
             (repeat (first | rw [if_pos (by first | rfl | assumption | omega)] | rw [if_neg (by first | decide | assumption | omega)]))
             (try first | rfl | rw [bZ_t (by first | assumption | omega)] | rw [bZ_f (by first | assumption | omega)]))
      · refine TGo.al0 dX10_fact_32 rfl ?_
        refine TGo.getS (t := 18) 3 3 (T + 2) (hT 0 (by decide)) rfl fgX10_13_10 dX10_fact_33 rfl rfl rfl ?_
        refine TGo.sip 238 dX10_fact_36 (by decide) ?_
        refine TGo.ic3 dX10_fact_39 ?_
        refine TGo.il1 dX10_fact_40 rfl ?_
        refine TGo.imul dX10_fact_41 ?_
        refine TGo.iadd dX10_fact_42 ?_
        refine TGo.il2 dX10_fact_43 rfl ?_
        refine TGo.iadd dX10_fact_44 ?_
        refine TGo.iald dX10_fact_45 (hT 2 (by decide)) (by omega) rfl ?_
        refine TGo.toz _ ((u2_n (Or.inl (by omega))).trans (hz.2.1 3 (by decide) _)) ?_
        refine TGo.goto 62 dX10_fact_46 (by decide) ?_
        refine TGo.iret dX10_fact_62 rfl ?_
        first
        | (exfalso; omega)
        | (refine leafZ (hz.s rfl) ?_
           unfold zp_fact
           (repeat (first | rw [if_pos (by first | rfl | assumption | omega)] | rw [if_neg (by first | decide | assumption | omega)]))
           (try first | rfl | rw [bZ_t (by first | assumption | omega)] | rw [bZ_f (by first | assumption | omega)]))
    · refine TGo.icm1 dX10_fact_25 ?_
      refine TGo.iret dX10_fact_26 rfl ?_
      first
      | (exfalso; omega)
      | (refine leafZ (hz.s rfl) ?_
         unfold zp_fact
         (repeat (first | rw [if_pos (by first | rfl | assumption | omega)] | rw [if_neg (by first | decide | assumption | omega)]))
         (try first | rfl | rw [bZ_t (by first | assumption | omega)] | rw [bZ_f (by first | assumption | omega)]))
def zp_terms (z : ZT) (w v : Int) : Int × ZT :=
  if ¬ ((w = 0 ∧ 0 ≤ v ∧ v ≤ 300) ∨ (w = 1 ∧ 0 ≤ v ∧ v ≤ 9) ∨ (w = 2 ∧ 0 ≤ v ∧ v ≤ 100)) then ((-1), zTell z (-1)) else (z.2 3 (7 + w), zi (za z 3 (7 + w) v) 1 0)
set_option maxHeartbeats 4000000 in
theorem kX10_terms {E : ET} {sh : SHT} {nn : Nat × Nat} {V : VT} {T : Nat} {z : ZT} {w v : Int} (hT : MSh T sh) (hz : PE T V z) (W : RWZ (z.2 3)) (rw : R32 w) (rv : R32 v) : TC E mX10_terms 2 [.ref T, .int (iI w), .int (iI v)] sh nn V (ZP T sh nn (zp_terms z w v)) := by
  have w7 := W.1.2.2.2.2.2.2.2.1
  have w8 := W.1.2.2.2.2.2.2.2.2.1
  have w9 := W.1.2.2.2.2.2.2.2.2.2
  refine TC.intro [some (.ref T), some (.int (iI w)), some (.int (iI v)), none, none] rfl ?_
  refine TGo.al0 dX10_terms_0 rfl ?_
  refine TGo.ic0 dX10_terms_1 ?_
  refine TGo.putI (t := 18) 0 0 (hT 0 (by decide)) rfl fpX10_163_10 dX10_terms_2 rfl rfl rfl ?_
  refine TGo.il1 dX10_terms_5 rfl ?_
  refine TGo.if_ne 21 dX10_terms_6 (by decide) (by omega) (fun h6 => ?_) (fun h6 => ?_)
  · refine TGo.il1 dX10_terms_21 rfl ?_
    refine TGo.ic1 dX10_terms_22 ?_
    refine TGo.icmp_ne 38 dX10_terms_23 (by decide) (by omega) (fun h23 => ?_) (fun h23 => ?_)
    · refine TGo.il1 dX10_terms_38 rfl ?_
      refine TGo.ic2 dX10_terms_39 ?_
      refine TGo.icmp_ne 59 dX10_terms_40 (by decide) (by omega) (fun h40 => ?_) (fun h40 => ?_)
      · refine TGo.ic0 dX10_terms_59 ?_
        refine TGo.is3 dX10_terms_60 rfl rfl ?_
        refine TGo.il3 dX10_terms_61 rfl ?_
        refine TGo.if_ne 71 dX10_terms_62 (by decide) (by decide) (fun h => absurd h (by decide)) (fun _ => ?_)
        refine TGo.al0 dX10_terms_65 rfl ?_
        refine TGo.icm1 dX10_terms_66 ?_
        refine TGo.cS (csV1 (y2 := mX10_tell) (t := 18) 1 rfl (hT 0 (by decide)) rfl rfl dX10_terms_67 q2035 q2037 qs39 okX10_tell npX10_tell rfl rfl) (kX10_tell hT (hz.s rfl) (by omega)) (fun v67 V67 h67 => ?_)
        obtain ⟨rfl, hz67⟩ := h67
        refine TGo.iret dX10_terms_70 rfl ?_
        first
        | (exfalso; omega)
        | (refine leafZ hz67 ?_
           unfold zp_terms
           (repeat (first | rw [if_pos (by first | rfl | assumption | omega)] | rw [if_neg (by first | decide | assumption | omega)]))
           (try first | rfl | rw [bZ_t (by first | assumption | omega)] | rw [bZ_f (by first | assumption | omega)]))
      · refine TGo.il2 dX10_terms_43 rfl ?_
        refine TGo.i2l dX10_terms_44 (by omega) ?_
        refine TGo.lc0 dX10_terms_45 ?_
        refine TGo.ldc2 100 dX10_terms_46 q2133 (by decide) ?_
        refine TGo.cF (csS3 (y2 := mX10_in) 1 rfl dX10_terms_49 q2032 q2033 okX10_in npX10_in rfl rfl) (kX10_in (by omega) (by omega) (by omega)) ?_
        refine TGo.ifb_eq 59 dX10_terms_52 (by decide) (fun h52 => ?_) (fun h52 => ?_)
        · refine TGo.ic0 dX10_terms_59 ?_
          refine TGo.is3 dX10_terms_60 rfl rfl ?_
          refine TGo.il3 dX10_terms_61 rfl ?_
          refine TGo.if_ne 71 dX10_terms_62 (by decide) (by decide) (fun h => absurd h (by decide)) (fun _ => ?_)
          refine TGo.al0 dX10_terms_65 rfl ?_
          refine TGo.icm1 dX10_terms_66 ?_
          refine TGo.cS (csV1 (y2 := mX10_tell) (t := 18) 1 rfl (hT 0 (by decide)) rfl rfl dX10_terms_67 q2035 q2037 qs39 okX10_tell npX10_tell rfl rfl) (kX10_tell hT (hz.s rfl) (by omega)) (fun v67 V67 h67 => ?_)
          obtain ⟨rfl, hz67⟩ := h67
          refine TGo.iret dX10_terms_70 rfl ?_
          first
          | (exfalso; omega)
          | (refine leafZ hz67 ?_
             unfold zp_terms
             (repeat (first | rw [if_pos (by first | rfl | assumption | omega)] | rw [if_neg (by first | decide | assumption | omega)]))
             (try first | rfl | rw [bZ_t (by first | assumption | omega)] | rw [bZ_f (by first | assumption | omega)]))
        · refine TGo.ic1 dX10_terms_55 ?_
          refine TGo.goto 60 dX10_terms_56 (by decide) ?_
          refine TGo.is3 dX10_terms_60 rfl rfl ?_
          refine TGo.il3 dX10_terms_61 rfl ?_
          refine TGo.if_ne 71 dX10_terms_62 (by decide) (by decide) (fun _ => ?_) (fun h => absurd h (by decide))
          refine TGo.al0 dX10_terms_71 rfl ?_
          refine TGo.getS (t := 18) 3 3 (T + 2) (hT 0 (by decide)) rfl fgX10_13_10 dX10_terms_72 rfl rfl rfl ?_
          refine TGo.bip 7 dX10_terms_75 (by decide) ?_
          refine TGo.il1 dX10_terms_77 rfl ?_
          refine TGo.iadd dX10_terms_78 ?_
          refine TGo.iald dX10_terms_79 (hT 2 (by decide)) (by omega) rfl ?_
          refine TGo.toz _ ((u2_n (Or.inl (by omega))).trans (hz.2.1 3 (by decide) _)) ?_
          refine TGo.is dX10_terms_80 rfl rfl ?_
          refine TGo.al0 dX10_terms_82 rfl ?_
          refine TGo.getS (t := 18) 3 3 (T + 2) (hT 0 (by decide)) rfl fgX10_13_10 dX10_terms_83 rfl rfl rfl ?_
          refine TGo.bip 7 dX10_terms_86 (by decide) ?_
          refine TGo.il1 dX10_terms_88 rfl ?_
          refine TGo.iadd dX10_terms_89 ?_
          refine TGo.il2 dX10_terms_90 rfl ?_
          refine TGo.iast dX10_terms_91 (hT 2 (by decide)) (by omega) rfl ?_
          refine TGo.al0 dX10_terms_92 rfl ?_
          refine TGo.il dX10_terms_93 rfl ?_
          refine TGo.cS (csV1 (y2 := mX10_was) (t := 18) 1 rfl (hT 0 (by decide)) rfl rfl dX10_terms_95 q2072 q2074 qs42 okX10_was npX10_was rfl rfl) (kX10_was hT ((hz.s rfl).a 3 rfl rfl)) (fun v95 V95 h95 => ?_)
          obtain ⟨rfl, hz95⟩ := h95
          refine TGo.iret dX10_terms_98 rfl ?_
          first
          | (exfalso; omega)
          | (refine leafZ hz95 ?_
             unfold zp_terms
             (repeat (first | rw [if_pos (by first | rfl | assumption | omega)] | rw [if_neg (by first | decide | assumption | omega)]))
             (try first | rfl | rw [bZ_t (by first | assumption | omega)] | rw [bZ_f (by first | assumption | omega)]))
    · refine TGo.il2 dX10_terms_26 rfl ?_
      refine TGo.i2l dX10_terms_27 (by omega) ?_
      refine TGo.lc0 dX10_terms_28 ?_
      refine TGo.ldc2 9 dX10_terms_29 q2060 (by decide) ?_
      refine TGo.cF (csS3 (y2 := mX10_in) 1 rfl dX10_terms_32 q2032 q2033 okX10_in npX10_in rfl rfl) (kX10_in (by omega) (by omega) (by omega)) ?_
      refine TGo.goto 60 dX10_terms_35 (by decide) ?_
      refine TGo.is3 dX10_terms_60 rfl rfl ?_
      refine TGo.il3 dX10_terms_61 rfl ?_
      refine TGo.ifb_ne 71 dX10_terms_62 (by decide) (fun h62 => ?_) (fun h62 => ?_)
      · refine TGo.al0 dX10_terms_71 rfl ?_
        refine TGo.getS (t := 18) 3 3 (T + 2) (hT 0 (by decide)) rfl fgX10_13_10 dX10_terms_72 rfl rfl rfl ?_
        refine TGo.bip 7 dX10_terms_75 (by decide) ?_
        refine TGo.il1 dX10_terms_77 rfl ?_
        refine TGo.iadd dX10_terms_78 ?_
        refine TGo.iald dX10_terms_79 (hT 2 (by decide)) (by omega) rfl ?_
        refine TGo.toz _ ((u2_n (Or.inl (by omega))).trans (hz.2.1 3 (by decide) _)) ?_
        refine TGo.is dX10_terms_80 rfl rfl ?_
        refine TGo.al0 dX10_terms_82 rfl ?_
        refine TGo.getS (t := 18) 3 3 (T + 2) (hT 0 (by decide)) rfl fgX10_13_10 dX10_terms_83 rfl rfl rfl ?_
        refine TGo.bip 7 dX10_terms_86 (by decide) ?_
        refine TGo.il1 dX10_terms_88 rfl ?_
        refine TGo.iadd dX10_terms_89 ?_
        refine TGo.il2 dX10_terms_90 rfl ?_
        refine TGo.iast dX10_terms_91 (hT 2 (by decide)) (by omega) rfl ?_
        refine TGo.al0 dX10_terms_92 rfl ?_
        refine TGo.il dX10_terms_93 rfl ?_
        refine TGo.cS (csV1 (y2 := mX10_was) (t := 18) 1 rfl (hT 0 (by decide)) rfl rfl dX10_terms_95 q2072 q2074 qs42 okX10_was npX10_was rfl rfl) (kX10_was hT ((hz.s rfl).a 3 rfl rfl)) (fun v95 V95 h95 => ?_)
        obtain ⟨rfl, hz95⟩ := h95
        refine TGo.iret dX10_terms_98 rfl ?_
        first
        | (exfalso; omega)
        | (refine leafZ hz95 ?_
           unfold zp_terms
           (repeat (first | rw [if_pos (by first | rfl | assumption | omega)] | rw [if_neg (by first | decide | assumption | omega)]))
           (try first | rfl | rw [bZ_t (by first | assumption | omega)] | rw [bZ_f (by first | assumption | omega)]))
      · refine TGo.al0 dX10_terms_65 rfl ?_
        refine TGo.icm1 dX10_terms_66 ?_
        refine TGo.cS (csV1 (y2 := mX10_tell) (t := 18) 1 rfl (hT 0 (by decide)) rfl rfl dX10_terms_67 q2035 q2037 qs39 okX10_tell npX10_tell rfl rfl) (kX10_tell hT (hz.s rfl) (by omega)) (fun v67 V67 h67 => ?_)
        obtain ⟨rfl, hz67⟩ := h67
        refine TGo.iret dX10_terms_70 rfl ?_
        first
        | (exfalso; omega)
        | (refine leafZ hz67 ?_
           unfold zp_terms
           (repeat (first | rw [if_pos (by first | rfl | assumption | omega)] | rw [if_neg (by first | decide | assumption | omega)]))
           (try first | rfl | rw [bZ_t (by first | assumption | omega)] | rw [bZ_f (by first | assumption | omega)]))
  · refine TGo.il2 dX10_terms_9 rfl ?_
    refine TGo.i2l dX10_terms_10 (by omega) ?_
    refine TGo.lc0 dX10_terms_11 ?_
    refine TGo.ldc2 300 dX10_terms_12 q2104 (by decide) ?_
    refine TGo.cF (csS3 (y2 := mX10_in) 1 rfl dX10_terms_15 q2032 q2033 okX10_in npX10_in rfl rfl) (kX10_in (by omega) (by omega) (by omega)) ?_
    refine TGo.goto 60 dX10_terms_18 (by decide) ?_
    refine TGo.is3 dX10_terms_60 rfl rfl ?_
    refine TGo.il3 dX10_terms_61 rfl ?_
    refine TGo.ifb_ne 71 dX10_terms_62 (by decide) (fun h62 => ?_) (fun h62 => ?_)
    · refine TGo.al0 dX10_terms_71 rfl ?_
      refine TGo.getS (t := 18) 3 3 (T + 2) (hT 0 (by decide)) rfl fgX10_13_10 dX10_terms_72 rfl rfl rfl ?_
      refine TGo.bip 7 dX10_terms_75 (by decide) ?_
      refine TGo.il1 dX10_terms_77 rfl ?_
      refine TGo.iadd dX10_terms_78 ?_
      refine TGo.iald dX10_terms_79 (hT 2 (by decide)) (by omega) rfl ?_
      refine TGo.toz _ ((u2_n (Or.inl (by omega))).trans (hz.2.1 3 (by decide) _)) ?_
      refine TGo.is dX10_terms_80 rfl rfl ?_
      refine TGo.al0 dX10_terms_82 rfl ?_
      refine TGo.getS (t := 18) 3 3 (T + 2) (hT 0 (by decide)) rfl fgX10_13_10 dX10_terms_83 rfl rfl rfl ?_
      refine TGo.bip 7 dX10_terms_86 (by decide) ?_
      refine TGo.il1 dX10_terms_88 rfl ?_
      refine TGo.iadd dX10_terms_89 ?_
      refine TGo.il2 dX10_terms_90 rfl ?_
      refine TGo.iast dX10_terms_91 (hT 2 (by decide)) (by omega) rfl ?_
      refine TGo.al0 dX10_terms_92 rfl ?_
      refine TGo.il dX10_terms_93 rfl ?_
      refine TGo.cS (csV1 (y2 := mX10_was) (t := 18) 1 rfl (hT 0 (by decide)) rfl rfl dX10_terms_95 q2072 q2074 qs42 okX10_was npX10_was rfl rfl) (kX10_was hT ((hz.s rfl).a 3 rfl rfl)) (fun v95 V95 h95 => ?_)
      obtain ⟨rfl, hz95⟩ := h95
      refine TGo.iret dX10_terms_98 rfl ?_
      first
      | (exfalso; omega)
      | (refine leafZ hz95 ?_
         unfold zp_terms
         (repeat (first | rw [if_pos (by first | rfl | assumption | omega)] | rw [if_neg (by first | decide | assumption | omega)]))
         (try first | rfl | rw [bZ_t (by first | assumption | omega)] | rw [bZ_f (by first | assumption | omega)]))
    · refine TGo.al0 dX10_terms_65 rfl ?_
      refine TGo.icm1 dX10_terms_66 ?_
      refine TGo.cS (csV1 (y2 := mX10_tell) (t := 18) 1 rfl (hT 0 (by decide)) rfl rfl dX10_terms_67 q2035 q2037 qs39 okX10_tell npX10_tell rfl rfl) (kX10_tell hT (hz.s rfl) (by omega)) (fun v67 V67 h67 => ?_)
      obtain ⟨rfl, hz67⟩ := h67
      refine TGo.iret dX10_terms_70 rfl ?_
      first
      | (exfalso; omega)
      | (refine leafZ hz67 ?_
         unfold zp_terms
         (repeat (first | rw [if_pos (by first | rfl | assumption | omega)] | rw [if_neg (by first | decide | assumption | omega)]))
         (try first | rfl | rw [bZ_t (by first | assumption | omega)] | rw [bZ_f (by first | assumption | omega)]))
def zp_prattle (z : ZT) : Int × ZT :=
  (z.1 6, z)
set_option maxHeartbeats 4000000 in
theorem kX10_prattle {E : ET} {sh : SHT} {nn : Nat × Nat} {V : VT} {T : Nat} {z : ZT} (hT : MSh T sh) (hz : PE T V z)   : TC E mX10_prattle 1 [.ref T] sh nn V (ZP T sh nn (zp_prattle z)) := by
  refine TC.intro [some (.ref T)] rfl ?_
  refine TGo.al0 dX10_prattle_0 rfl ?_
  refine TGo.ic0 dX10_prattle_1 ?_
  refine TGo.putI (t := 18) 0 0 (hT 0 (by decide)) rfl fpX10_163_10 dX10_prattle_2 rfl rfl rfl ?_
  refine TGo.al0 dX10_prattle_5 rfl ?_
  refine TGo.getI (t := 18) 6 6 (hT 0 (by decide)) rfl fgX10_239_10 dX10_prattle_6 rfl rfl rfl ?_
  refine TGo.toz _ ((u2_n (Or.inr (by decide))).trans (hz.1 6 rfl)) ?_
  refine TGo.iret dX10_prattle_9 rfl ?_
  first
  | (exfalso; omega)
  | (refine leafZ (hz.s rfl) ?_
     unfold zp_prattle
     (repeat (first | rw [if_pos (by first | rfl | assumption | omega)] | rw [if_neg (by first | decide | assumption | omega)]))
     (try first | rfl | rw [bZ_t (by first | assumption | omega)] | rw [bZ_f (by first | assumption | omega)]))
def zp_fault (z : ZT) : Int × ZT :=
  (z.1 13, z)
set_option maxHeartbeats 4000000 in
theorem kX10_fault {E : ET} {sh : SHT} {nn : Nat × Nat} {V : VT} {T : Nat} {z : ZT} (hT : MSh T sh) (hz : PE T V z)   : TC E mX10_fault 1 [.ref T] sh nn V (ZP T sh nn (zp_fault z)) := by
  refine TC.intro [some (.ref T)] rfl ?_
  refine TGo.al0 dX10_fault_0 rfl ?_
  refine TGo.ic0 dX10_fault_1 ?_
  refine TGo.putI (t := 18) 0 0 (hT 0 (by decide)) rfl fpX10_163_10 dX10_fault_2 rfl rfl rfl ?_
  refine TGo.al0 dX10_fault_5 rfl ?_
  refine TGo.getI (t := 18) 13 13 (hT 0 (by decide)) rfl fgX10_26_10 dX10_fault_6 rfl rfl rfl ?_
  refine TGo.toz _ ((u2_n (Or.inr (by decide))).trans (hz.1 13 rfl)) ?_
  refine TGo.iret dX10_fault_9 rfl ?_
  first
  | (exfalso; omega)
  | (refine leafZ (hz.s rfl) ?_
     unfold zp_fault
     (repeat (first | rw [if_pos (by first | rfl | assumption | omega)] | rw [if_neg (by first | decide | assumption | omega)]))
     (try first | rfl | rw [bZ_t (by first | assumption | omega)] | rw [bZ_f (by first | assumption | omega)]))
def zp_status (z : ZT) : Int × ZT :=
  (z.1 1, z)
set_option maxHeartbeats 4000000 in
theorem kX10_status {E : ET} {sh : SHT} {nn : Nat × Nat} {V : VT} {T : Nat} {z : ZT} (hT : MSh T sh) (hz : PE T V z)   : TC E mX10_status 1 [.ref T] sh nn V (ZP T sh nn (zp_status z)) := by
  refine TC.intro [some (.ref T)] rfl ?_
  refine TGo.al0 dX10_status_0 rfl ?_
  refine TGo.ic0 dX10_status_1 ?_
  refine TGo.putI (t := 18) 0 0 (hT 0 (by decide)) rfl fpX10_163_10 dX10_status_2 rfl rfl rfl ?_
  refine TGo.al0 dX10_status_5 rfl ?_
  refine TGo.getI (t := 18) 1 1 (hT 0 (by decide)) rfl fgX10_166_10 dX10_status_6 rfl rfl rfl ?_
  refine TGo.toz _ ((u2_n (Or.inr (by decide))).trans (hz.1 1 rfl)) ?_
  refine TGo.iret dX10_status_9 rfl ?_
  first
  | (exfalso; omega)
  | (refine leafZ (hz.s rfl) ?_
     unfold zp_status
     (repeat (first | rw [if_pos (by first | rfl | assumption | omega)] | rw [if_neg (by first | decide | assumption | omega)]))
     (try first | rfl | rw [bZ_t (by first | assumption | omega)] | rw [bZ_f (by first | assumption | omega)]))
def zp_end (z : ZT) (n : Int) : Int × ZT :=
  if n < 0 ∨ z.1 8 < n then (-1, z) else (n, zi z 8 n)
set_option maxHeartbeats 4000000 in
theorem kX10_end {E : ET} {sh : SHT} {nn : Nat × Nat} {V : VT} {T : Nat} {z : ZT} {n : Int} (hT : MSh T sh) (hz : PE T V z) (wt : 0 ≤ z.1 8 ∧ z.1 8 ≤ 400) (rn : R32 n) : TC E mX10_end 1 [.ref T, .int (iI n)] sh nn V (ZP T sh nn (zp_end z n)) := by
  refine TC.intro [some (.ref T), some (.int (iI n))] rfl ?_
  refine TGo.al0 dX10_end_0 rfl ?_
  refine TGo.ic0 dX10_end_1 ?_
  refine TGo.putI (t := 18) 0 0 (hT 0 (by decide)) rfl fpX10_163_10 dX10_end_2 rfl rfl rfl ?_
  refine TGo.il1 dX10_end_5 rfl ?_
  refine TGo.if_lt 17 dX10_end_6 (by decide) (by omega) (fun h6 => ?_) (fun h6 => ?_)
  · refine TGo.icm1 dX10_end_17 ?_
    refine TGo.iret dX10_end_18 rfl ?_
    first
    | (exfalso; omega)
    | (refine leafZ (hz.s rfl) ?_
       unfold zp_end
       (repeat (first | rw [if_pos (by first | rfl | assumption | omega)] | rw [if_neg (by first | decide | assumption | omega)]))
       (try first | rfl | rw [bZ_t (by first | assumption | omega)] | rw [bZ_f (by first | assumption | omega)]))
  · refine TGo.il1 dX10_end_9 rfl ?_
    refine TGo.al0 dX10_end_10 rfl ?_
    refine TGo.getI (t := 18) 8 8 (hT 0 (by decide)) rfl fgX10_236_10 dX10_end_11 rfl rfl rfl ?_
    refine TGo.toz _ ((u2_n (Or.inr (by decide))).trans (hz.1 8 rfl)) ?_
    refine TGo.icmp_le 19 dX10_end_14 (by decide) (by omega) (fun h14 => ?_) (fun h14 => ?_)
    · refine TGo.al0 dX10_end_19 rfl ?_
      refine TGo.il1 dX10_end_20 rfl ?_
      refine TGo.putI (t := 18) 8 8 (hT 0 (by decide)) rfl fpX10_236_10 dX10_end_21 rfl rfl rfl ?_
      refine TGo.il1 dX10_end_24 rfl ?_
      refine TGo.iret dX10_end_25 rfl ?_
      first
      | (exfalso; omega)
      | (refine leafZ ((hz.s rfl).i rfl) ?_
         unfold zp_end
         (repeat (first | rw [if_pos (by first | rfl | assumption | omega)] | rw [if_neg (by first | decide | assumption | omega)]))
         (try first | rfl | rw [bZ_t (by first | assumption | omega)] | rw [bZ_f (by first | assumption | omega)]))
    · refine TGo.icm1 dX10_end_17 ?_
      refine TGo.iret dX10_end_18 rfl ?_
      first
      | (exfalso; omega)
      | (refine leafZ (hz.s rfl) ?_
         unfold zp_end
         (repeat (first | rw [if_pos (by first | rfl | assumption | omega)] | rw [if_neg (by first | decide | assumption | omega)]))
         (try first | rfl | rw [bZ_t (by first | assumption | omega)] | rw [bZ_f (by first | assumption | omega)]))
def zp_force (z : ZT) (l : Int) : Int × ZT :=
  if l ≠ -1 ∧ ¬ (0 ≤ l ∧ l < z.2 3 3) then ((-2), zTell z (-2)) else (z.2 3 4, zi (za z 3 4 l) 1 0)
set_option maxHeartbeats 4000000 in
theorem kX10_force {E : ET} {sh : SHT} {nn : Nat × Nat} {V : VT} {T : Nat} {z : ZT} {l : Int} (hT : MSh T sh) (hz : PE T V z) (W : RWZ (z.2 3)) (rl : R32 l) : TC E mX10_force 2 [.ref T, .int (iI l)] sh nn V (ZP T sh nn (zp_force z l)) := by
  have w3 := W.1.2.2.2.1
  have w4 := W.1.2.2.2.2.1
  refine TC.intro [some (.ref T), some (.int (iI l)), none] rfl ?_
  refine TGo.al0 dX10_force_0 rfl ?_
  refine TGo.ic0 dX10_force_1 ?_
  refine TGo.putI (t := 18) 0 0 (hT 0 (by decide)) rfl fpX10_163_10 dX10_force_2 rfl rfl rfl ?_
  refine TGo.il1 dX10_force_5 rfl ?_
  refine TGo.icm1 dX10_force_6 ?_
  refine TGo.icmp_eq 35 dX10_force_7 (by decide) (by omega) (fun h7 => ?_) (fun h7 => ?_)
  · refine TGo.al0 dX10_force_35 rfl ?_
    refine TGo.getS (t := 18) 3 3 (T + 2) (hT 0 (by decide)) rfl fgX10_13_10 dX10_force_36 rfl rfl rfl ?_
    refine TGo.ic4 dX10_force_39 ?_
    refine TGo.iald dX10_force_40 (hT 2 (by decide)) (by omega) rfl ?_
    refine TGo.toz _ ((u2_n (Or.inl (by omega))).trans (hz.2.1 3 (by decide) _)) ?_
    refine TGo.is2 dX10_force_41 rfl rfl ?_
    refine TGo.al0 dX10_force_42 rfl ?_
    refine TGo.getS (t := 18) 3 3 (T + 2) (hT 0 (by decide)) rfl fgX10_13_10 dX10_force_43 rfl rfl rfl ?_
    refine TGo.ic4 dX10_force_46 ?_
    refine TGo.il1 dX10_force_47 rfl ?_
    refine TGo.iast dX10_force_48 (hT 2 (by decide)) (by omega) rfl ?_
    refine TGo.al0 dX10_force_49 rfl ?_
    refine TGo.il2 dX10_force_50 rfl ?_
    refine TGo.cS (csV1 (y2 := mX10_was) (t := 18) 1 rfl (hT 0 (by decide)) rfl rfl dX10_force_51 q2072 q2074 qs42 okX10_was npX10_was rfl rfl) (kX10_was hT ((hz.s rfl).a 3 rfl rfl)) (fun v51 V51 h51 => ?_)
    obtain ⟨rfl, hz51⟩ := h51
    refine TGo.iret dX10_force_54 rfl ?_
    first
    | (exfalso; omega)
    | (refine leafZ hz51 ?_
       unfold zp_force
       (repeat (first | rw [if_pos (by first | rfl | assumption | omega)] | rw [if_neg (by first | decide | assumption | omega)]))
       (try first | rfl | rw [bZ_t (by first | assumption | omega)] | rw [bZ_f (by first | assumption | omega)]))
  · refine TGo.il1 dX10_force_10 rfl ?_
    refine TGo.i2l dX10_force_11 (by omega) ?_
    refine TGo.lc0 dX10_force_12 ?_
    refine TGo.al0 dX10_force_13 rfl ?_
    refine TGo.getS (t := 18) 3 3 (T + 2) (hT 0 (by decide)) rfl fgX10_13_10 dX10_force_14 rfl rfl rfl ?_
    refine TGo.ic3 dX10_force_17 ?_
    refine TGo.iald dX10_force_18 (hT 2 (by decide)) (by omega) rfl ?_
    refine TGo.toz _ ((u2_n (Or.inl (by omega))).trans (hz.2.1 3 (by decide) _)) ?_
    refine TGo.i2l dX10_force_19 (by omega) ?_
    refine TGo.lc1 dX10_force_20 ?_
    refine TGo.lsub dX10_force_21 ?_
    refine TGo.cF (csS3 (y2 := mX10_in) 1 rfl dX10_force_22 q2032 q2033 okX10_in npX10_in rfl rfl) (kX10_in (by omega) (by omega) (by omega)) ?_
    refine TGo.ifb_ne 35 dX10_force_25 (by decide) (fun h25 => ?_) (fun h25 => ?_)
    · refine TGo.al0 dX10_force_35 rfl ?_
      refine TGo.getS (t := 18) 3 3 (T + 2) (hT 0 (by decide)) rfl fgX10_13_10 dX10_force_36 rfl rfl rfl ?_
      refine TGo.ic4 dX10_force_39 ?_
      refine TGo.iald dX10_force_40 (hT 2 (by decide)) (by omega) rfl ?_
      refine TGo.toz _ ((u2_n (Or.inl (by omega))).trans (hz.2.1 3 (by decide) _)) ?_
      refine TGo.is2 dX10_force_41 rfl rfl ?_
      refine TGo.al0 dX10_force_42 rfl ?_
      refine TGo.getS (t := 18) 3 3 (T + 2) (hT 0 (by decide)) rfl fgX10_13_10 dX10_force_43 rfl rfl rfl ?_
      refine TGo.ic4 dX10_force_46 ?_
      refine TGo.il1 dX10_force_47 rfl ?_
      refine TGo.iast dX10_force_48 (hT 2 (by decide)) (by omega) rfl ?_
      refine TGo.al0 dX10_force_49 rfl ?_
      refine TGo.il2 dX10_force_50 rfl ?_
      refine TGo.cS (csV1 (y2 := mX10_was) (t := 18) 1 rfl (hT 0 (by decide)) rfl rfl dX10_force_51 q2072 q2074 qs42 okX10_was npX10_was rfl rfl) (kX10_was hT ((hz.s rfl).a 3 rfl rfl)) (fun v51 V51 h51 => ?_)
      obtain ⟨rfl, hz51⟩ := h51
      refine TGo.iret dX10_force_54 rfl ?_
      first
      | (exfalso; omega)
      | (refine leafZ hz51 ?_
         unfold zp_force
         (repeat (first | rw [if_pos (by first | rfl | assumption | omega)] | rw [if_neg (by first | decide | assumption | omega)]))
         (try first | rfl | rw [bZ_t (by first | assumption | omega)] | rw [bZ_f (by first | assumption | omega)]))
    · refine TGo.al0 dX10_force_28 rfl ?_
      refine TGo.bip (-2) dX10_force_29 (by decide) ?_
      refine TGo.cS (csV1 (y2 := mX10_tell) (t := 18) 1 rfl (hT 0 (by decide)) rfl rfl dX10_force_31 q2035 q2037 qs39 okX10_tell npX10_tell rfl rfl) (kX10_tell hT (hz.s rfl) (by omega)) (fun v31 V31 h31 => ?_)
      obtain ⟨rfl, hz31⟩ := h31
      refine TGo.iret dX10_force_34 rfl ?_
      first
      | (exfalso; omega)
      | (refine leafZ hz31 ?_
         unfold zp_force
         (repeat (first | rw [if_pos (by first | rfl | assumption | omega)] | rw [if_neg (by first | decide | assumption | omega)]))
         (try first | rfl | rw [bZ_t (by first | assumption | omega)] | rw [bZ_f (by first | assumption | omega)]))
def zp_cue (z : ZT) (c : Int) : Int × ZT :=
  if ¬ (0 ≤ c ∧ c ≤ 5) then ((-1), zTell z (-1)) else if z.2 3 5 = 12 then ((-5), zTell z (-5)) else (z.2 3 5 + 1, zTell (za (za z 3 (730 + z.2 3 5) c) 3 5 (z.2 3 5 + 1)) (z.2 3 5 + 1))
set_option maxHeartbeats 4000000 in
theorem kX10_cue {E : ET} {sh : SHT} {nn : Nat × Nat} {V : VT} {T : Nat} {z : ZT} {c : Int} (hT : MSh T sh) (hz : PE T V z) (W : RWZ (z.2 3)) (rc : R32 c) : TC E mX10_cue 2 [.ref T, .int (iI c)] sh nn V (ZP T sh nn (zp_cue z c)) := by
  have w5 := W.1.2.2.2.2.2.1
  refine TC.intro [some (.ref T), some (.int (iI c)), none] rfl ?_
  refine TGo.al0 dX10_cue_0 rfl ?_
  refine TGo.ic0 dX10_cue_1 ?_
  refine TGo.putI (t := 18) 0 0 (hT 0 (by decide)) rfl fpX10_163_10 dX10_cue_2 rfl rfl rfl ?_
  refine TGo.il1 dX10_cue_5 rfl ?_
  refine TGo.i2l dX10_cue_6 (by omega) ?_
  refine TGo.lc0 dX10_cue_7 ?_
  refine TGo.ldc2 5 dX10_cue_8 q2056 (by decide) ?_
  refine TGo.cF (csS3 (y2 := mX10_in) 1 rfl dX10_cue_11 q2032 q2033 okX10_in npX10_in rfl rfl) (kX10_in (by omega) (by omega) (by omega)) ?_
  refine TGo.ifb_ne 23 dX10_cue_14 (by decide) (fun h14 => ?_) (fun h14 => ?_)
  · refine TGo.al0 dX10_cue_23 rfl ?_
    refine TGo.getS (t := 18) 3 3 (T + 2) (hT 0 (by decide)) rfl fgX10_13_10 dX10_cue_24 rfl rfl rfl ?_
    refine TGo.ic5 dX10_cue_27 ?_
    refine TGo.iald dX10_cue_28 (hT 2 (by decide)) (by omega) rfl ?_
    refine TGo.toz _ ((u2_n (Or.inl (by omega))).trans (hz.2.1 3 (by decide) _)) ?_
    refine TGo.is2 dX10_cue_29 rfl rfl ?_
    refine TGo.il2 dX10_cue_30 rfl ?_
    refine TGo.bip 12 dX10_cue_31 (by decide) ?_
    refine TGo.icmp_ne 43 dX10_cue_33 (by decide) (by omega) (fun h33 => ?_) (fun h33 => ?_)
    · refine TGo.al0 dX10_cue_43 rfl ?_
      refine TGo.getS (t := 18) 3 3 (T + 2) (hT 0 (by decide)) rfl fgX10_13_10 dX10_cue_44 rfl rfl rfl ?_
      refine TGo.sip 730 dX10_cue_47 (by decide) ?_
      refine TGo.il2 dX10_cue_50 rfl ?_
      refine TGo.iadd dX10_cue_51 ?_
      refine TGo.il1 dX10_cue_52 rfl ?_
      refine TGo.iast dX10_cue_53 (hT 2 (by decide)) (by omega) rfl ?_
      refine TGo.al0 dX10_cue_54 rfl ?_
      refine TGo.getS (t := 18) 3 3 (T + 2) (hT 0 (by decide)) rfl fgX10_13_10 dX10_cue_55 rfl rfl rfl ?_
      refine TGo.ic5 dX10_cue_58 ?_
      refine TGo.dup2 dX10_cue_59 rfl rfl ?_
      refine TGo.iald dX10_cue_60 (hT 2 (by decide)) (by omega) rfl ?_
      refine TGo.toz _ ((u2_n (Or.inr (by omega))).trans ((u2_n (Or.inl (by omega))).trans (hz.2.1 3 (by decide) _))) ?_
      refine TGo.ic1 dX10_cue_61 ?_
      refine TGo.iadd dX10_cue_62 ?_
      refine TGo.iast dX10_cue_63 (hT 2 (by decide)) (by omega) rfl ?_
      refine TGo.al0 dX10_cue_64 rfl ?_
      refine TGo.il2 dX10_cue_65 rfl ?_
      refine TGo.ic1 dX10_cue_66 ?_
      refine TGo.iadd dX10_cue_67 ?_
      refine TGo.cS (csV1 (y2 := mX10_tell) (t := 18) 1 rfl (hT 0 (by decide)) rfl rfl dX10_cue_68 q2035 q2037 qs39 okX10_tell npX10_tell rfl rfl) (kX10_tell hT (((hz.s rfl).a 3 rfl rfl).a 3 rfl rfl) (by omega)) (fun v68 V68 h68 => ?_)
      obtain ⟨rfl, hz68⟩ := h68
      refine TGo.iret dX10_cue_71 rfl ?_
      first
      | (exfalso; omega)
      | (refine leafZ hz68 ?_
         unfold zp_cue
         (repeat (first | rw [if_pos (by first | rfl | assumption | omega)] | rw [if_neg (by first | decide | assumption | omega)]))
         (try first | rfl | rw [bZ_t (by first | assumption | omega)] | rw [bZ_f (by first | assumption | omega)]))
    · refine TGo.al0 dX10_cue_36 rfl ?_
      refine TGo.bip (-5) dX10_cue_37 (by decide) ?_
      refine TGo.cS (csV1 (y2 := mX10_tell) (t := 18) 1 rfl (hT 0 (by decide)) rfl rfl dX10_cue_39 q2035 q2037 qs39 okX10_tell npX10_tell rfl rfl) (kX10_tell hT (hz.s rfl) (by omega)) (fun v39 V39 h39 => ?_)
      obtain ⟨rfl, hz39⟩ := h39
      refine TGo.iret dX10_cue_42 rfl ?_
      first
      | (exfalso; omega)
      | (refine leafZ hz39 ?_
         unfold zp_cue
         (repeat (first | rw [if_pos (by first | rfl | assumption | omega)] | rw [if_neg (by first | decide | assumption | omega)]))
         (try first | rfl | rw [bZ_t (by first | assumption | omega)] | rw [bZ_f (by first | assumption | omega)]))
  · refine TGo.al0 dX10_cue_17 rfl ?_
    refine TGo.icm1 dX10_cue_18 ?_
    refine TGo.cS (csV1 (y2 := mX10_tell) (t := 18) 1 rfl (hT 0 (by decide)) rfl rfl dX10_cue_19 q2035 q2037 qs39 okX10_tell npX10_tell rfl rfl) (kX10_tell hT (hz.s rfl) (by omega)) (fun v19 V19 h19 => ?_)
    obtain ⟨rfl, hz19⟩ := h19
    refine TGo.iret dX10_cue_22 rfl ?_
    first
    | (exfalso; omega)
    | (refine leafZ hz19 ?_
       unfold zp_cue
       (repeat (first | rw [if_pos (by first | rfl | assumption | omega)] | rw [if_neg (by first | decide | assumption | omega)]))
       (try first | rfl | rw [bZ_t (by first | assumption | omega)] | rw [bZ_f (by first | assumption | omega)]))
def zp_still (z : ZT) : Int × ZT :=
  (z.2 3 5, za z 3 5 0)
set_option maxHeartbeats 4000000 in
theorem kX10_still {E : ET} {sh : SHT} {nn : Nat × Nat} {V : VT} {T : Nat} {z : ZT} (hT : MSh T sh) (hz : PE T V z) (W : RWZ (z.2 3))  : TC E mX10_still 1 [.ref T] sh nn V (ZP T sh nn (zp_still z)) := by
  have w5 := W.1.2.2.2.2.2.1
  refine TC.intro [some (.ref T), none] rfl ?_
  refine TGo.al0 dX10_still_0 rfl ?_
  refine TGo.ic0 dX10_still_1 ?_
  refine TGo.putI (t := 18) 0 0 (hT 0 (by decide)) rfl fpX10_163_10 dX10_still_2 rfl rfl rfl ?_
  refine TGo.al0 dX10_still_5 rfl ?_
  refine TGo.getS (t := 18) 3 3 (T + 2) (hT 0 (by decide)) rfl fgX10_13_10 dX10_still_6 rfl rfl rfl ?_
  refine TGo.ic5 dX10_still_9 ?_
  refine TGo.iald dX10_still_10 (hT 2 (by decide)) (by omega) rfl ?_
  refine TGo.toz _ ((u2_n (Or.inl (by omega))).trans (hz.2.1 3 (by decide) _)) ?_
  refine TGo.is1 dX10_still_11 rfl rfl ?_
  refine TGo.al0 dX10_still_12 rfl ?_
  refine TGo.getS (t := 18) 3 3 (T + 2) (hT 0 (by decide)) rfl fgX10_13_10 dX10_still_13 rfl rfl rfl ?_
  refine TGo.ic5 dX10_still_16 ?_
  refine TGo.ic0 dX10_still_17 ?_
  refine TGo.iast dX10_still_18 (hT 2 (by decide)) (by omega) rfl ?_
  refine TGo.il1 dX10_still_19 rfl ?_
  refine TGo.iret dX10_still_20 rfl ?_
  first
  | (exfalso; omega)
  | (refine leafZ ((hz.s rfl).a 3 rfl rfl) ?_
     unfold zp_still
     (repeat (first | rw [if_pos (by first | rfl | assumption | omega)] | rw [if_neg (by first | decide | assumption | omega)]))
     (try first | rfl | rw [bZ_t (by first | assumption | omega)] | rw [bZ_f (by first | assumption | omega)]))
def zp_forget (z : ZT) : Int × ZT :=
  (z.2 3 6, za z 3 6 0)
set_option maxHeartbeats 4000000 in
theorem kX10_forget {E : ET} {sh : SHT} {nn : Nat × Nat} {V : VT} {T : Nat} {z : ZT} (hT : MSh T sh) (hz : PE T V z) (W : RWZ (z.2 3))  : TC E mX10_forget 1 [.ref T] sh nn V (ZP T sh nn (zp_forget z)) := by
  have w6 := W.1.2.2.2.2.2.2.1
  refine TC.intro [some (.ref T), none] rfl ?_
  refine TGo.al0 dX10_forget_0 rfl ?_
  refine TGo.ic0 dX10_forget_1 ?_
  refine TGo.putI (t := 18) 0 0 (hT 0 (by decide)) rfl fpX10_163_10 dX10_forget_2 rfl rfl rfl ?_
  refine TGo.al0 dX10_forget_5 rfl ?_
  refine TGo.getS (t := 18) 3 3 (T + 2) (hT 0 (by decide)) rfl fgX10_13_10 dX10_forget_6 rfl rfl rfl ?_
  refine TGo.bip 6 dX10_forget_9 (by decide) ?_
  refine TGo.iald dX10_forget_11 (hT 2 (by decide)) (by omega) rfl ?_
  refine TGo.toz _ ((u2_n (Or.inl (by omega))).trans (hz.2.1 3 (by decide) _)) ?_
  refine TGo.is1 dX10_forget_12 rfl rfl ?_
  refine TGo.al0 dX10_forget_13 rfl ?_
  refine TGo.getS (t := 18) 3 3 (T + 2) (hT 0 (by decide)) rfl fgX10_13_10 dX10_forget_14 rfl rfl rfl ?_
  refine TGo.bip 6 dX10_forget_17 (by decide) ?_
  refine TGo.ic0 dX10_forget_19 ?_
  refine TGo.iast dX10_forget_20 (hT 2 (by decide)) (by omega) rfl ?_
  refine TGo.il1 dX10_forget_21 rfl ?_
  refine TGo.iret dX10_forget_22 rfl ?_
  first
  | (exfalso; omega)
  | (refine leafZ ((hz.s rfl).a 3 rfl rfl) ?_
     unfold zp_forget
     (repeat (first | rw [if_pos (by first | rfl | assumption | omega)] | rw [if_neg (by first | decide | assumption | omega)]))
     (try first | rfl | rw [bZ_t (by first | assumption | omega)] | rw [bZ_f (by first | assumption | omega)]))
def zp_deed (z : ZT) (r c w : Int) : Int × ZT :=
  if ¬ ((0 ≤ r ∧ r ≤ 3) ∧ (0 ≤ c ∧ c ≤ 5) ∧ 0 ≤ w ∧ w ≤ 9) then ((-1), zTell z (-1)) else if z.2 3 6 = 12 then ((-5), zTell z (-5)) else (z.2 3 6 + 1, zTell (za (za (za (za z 3 (742 + 3 * z.2 3 6) r) 3 (742 + 3 * z.2 3 6 + 1) c) 3 (742 + 3 * z.2 3 6 + 2) w) 3 6 (z.2 3 6 + 1)) (z.2 3 6 + 1))
set_option maxHeartbeats 4000000 in
theorem kX10_deed {E : ET} {sh : SHT} {nn : Nat × Nat} {V : VT} {T : Nat} {z : ZT} {r c w : Int} (hT : MSh T sh) (hz : PE T V z) (W : RWZ (z.2 3)) (rr : R32 r) (rc : R32 c) (rw : R32 w) : TC E mX10_deed 3 [.ref T, .int (iI r), .int (iI c), .int (iI w)] sh nn V (ZP T sh nn (zp_deed z r c w)) := by
  have w6 := W.1.2.2.2.2.2.2.1
  refine TC.intro [some (.ref T), some (.int (iI r)), some (.int (iI c)), some (.int (iI w)), none] rfl ?_
  refine TGo.al0 dX10_deed_0 rfl ?_
  refine TGo.ic0 dX10_deed_1 ?_
  refine TGo.putI (t := 18) 0 0 (hT 0 (by decide)) rfl fpX10_163_10 dX10_deed_2 rfl rfl rfl ?_
  refine TGo.il1 dX10_deed_5 rfl ?_
  refine TGo.i2l dX10_deed_6 (by omega) ?_
  refine TGo.lc0 dX10_deed_7 ?_
  refine TGo.ldc2 3 dX10_deed_8 q2094 (by decide) ?_
  refine TGo.cF (csS3 (y2 := mX10_in) 1 rfl dX10_deed_11 q2032 q2033 okX10_in npX10_in rfl rfl) (kX10_in (by omega) (by omega) (by omega)) ?_
  refine TGo.ifb_eq 36 dX10_deed_14 (by decide) (fun h14 => ?_) (fun h14 => ?_)
  · refine TGo.al0 dX10_deed_36 rfl ?_
    refine TGo.icm1 dX10_deed_37 ?_
    refine TGo.cS (csV1 (y2 := mX10_tell) (t := 18) 1 rfl (hT 0 (by decide)) rfl rfl dX10_deed_38 q2035 q2037 qs39 okX10_tell npX10_tell rfl rfl) (kX10_tell hT (hz.s rfl) (by omega)) (fun v38 V38 h38 => ?_)
    obtain ⟨rfl, hz38⟩ := h38
    refine TGo.iret dX10_deed_41 rfl ?_
    first
    | (exfalso; omega)
    | (refine leafZ hz38 ?_
       unfold zp_deed
       (repeat (first | rw [if_pos (by first | rfl | assumption | omega)] | rw [if_neg (by first | decide | assumption | omega)]))
       (try first | rfl | rw [bZ_t (by first | assumption | omega)] | rw [bZ_f (by first | assumption | omega)]))
  · refine TGo.il2 dX10_deed_17 rfl ?_
    refine TGo.i2l dX10_deed_18 (by omega) ?_
    refine TGo.lc0 dX10_deed_19 ?_
    refine TGo.ldc2 5 dX10_deed_20 q2056 (by decide) ?_
    refine TGo.cF (csS3 (y2 := mX10_in) 1 rfl dX10_deed_23 q2032 q2033 okX10_in npX10_in rfl rfl) (kX10_in (by omega) (by omega) (by omega)) ?_
    refine TGo.ifb_eq 36 dX10_deed_26 (by decide) (fun h26 => ?_) (fun h26 => ?_)
    · refine TGo.al0 dX10_deed_36 rfl ?_
      refine TGo.icm1 dX10_deed_37 ?_
      refine TGo.cS (csV1 (y2 := mX10_tell) (t := 18) 1 rfl (hT 0 (by decide)) rfl rfl dX10_deed_38 q2035 q2037 qs39 okX10_tell npX10_tell rfl rfl) (kX10_tell hT (hz.s rfl) (by omega)) (fun v38 V38 h38 => ?_)
      obtain ⟨rfl, hz38⟩ := h38
      refine TGo.iret dX10_deed_41 rfl ?_
      first
      | (exfalso; omega)
      | (refine leafZ hz38 ?_
         unfold zp_deed
         (repeat (first | rw [if_pos (by first | rfl | assumption | omega)] | rw [if_neg (by first | decide | assumption | omega)]))
         (try first | rfl | rw [bZ_t (by first | assumption | omega)] | rw [bZ_f (by first | assumption | omega)]))
    · refine TGo.il3 dX10_deed_29 rfl ?_
      refine TGo.cF (csS1 (y2 := mX10_isSaid) 2 rfl dX10_deed_30 q2057 q2058 okX10_isSaid npX10_isSaid rfl rfl) (kX10_isSaid (by omega)) ?_
      refine TGo.ifb_ne 42 dX10_deed_33 (by decide) (fun h33 => ?_) (fun h33 => ?_)
      · refine TGo.al0 dX10_deed_42 rfl ?_
        refine TGo.getS (t := 18) 3 3 (T + 2) (hT 0 (by decide)) rfl fgX10_13_10 dX10_deed_43 rfl rfl rfl ?_
        refine TGo.bip 6 dX10_deed_46 (by decide) ?_
        refine TGo.iald dX10_deed_48 (hT 2 (by decide)) (by omega) rfl ?_
        refine TGo.toz _ ((u2_n (Or.inl (by omega))).trans (hz.2.1 3 (by decide) _)) ?_
        refine TGo.is dX10_deed_49 rfl rfl ?_
        refine TGo.il dX10_deed_51 rfl ?_
        refine TGo.bip 12 dX10_deed_53 (by decide) ?_
        refine TGo.icmp_ne 65 dX10_deed_55 (by decide) (by omega) (fun h55 => ?_) (fun h55 => ?_)
        · refine TGo.al0 dX10_deed_65 rfl ?_
          refine TGo.getS (t := 18) 3 3 (T + 2) (hT 0 (by decide)) rfl fgX10_13_10 dX10_deed_66 rfl rfl rfl ?_
          refine TGo.sip 742 dX10_deed_69 (by decide) ?_
          refine TGo.ic3 dX10_deed_72 ?_
          refine TGo.il dX10_deed_73 rfl ?_
          refine TGo.imul dX10_deed_75 ?_
          refine TGo.iadd dX10_deed_76 ?_
          refine TGo.il1 dX10_deed_77 rfl ?_
          refine TGo.iast dX10_deed_78 (hT 2 (by decide)) (by omega) rfl ?_
          refine TGo.al0 dX10_deed_79 rfl ?_
          refine TGo.getS (t := 18) 3 3 (T + 2) (hT 0 (by decide)) rfl fgX10_13_10 dX10_deed_80 rfl rfl rfl ?_
          refine TGo.sip 742 dX10_deed_83 (by decide) ?_
          refine TGo.ic3 dX10_deed_86 ?_
          refine TGo.il dX10_deed_87 rfl ?_
          refine TGo.imul dX10_deed_89 ?_
          refine TGo.iadd dX10_deed_90 ?_
          refine TGo.ic1 dX10_deed_91 ?_
          refine TGo.iadd dX10_deed_92 ?_
          refine TGo.il2 dX10_deed_93 rfl ?_
          refine TGo.iast dX10_deed_94 (hT 2 (by decide)) (by omega) rfl ?_
          refine TGo.al0 dX10_deed_95 rfl ?_
          refine TGo.getS (t := 18) 3 3 (T + 2) (hT 0 (by decide)) rfl fgX10_13_10 dX10_deed_96 rfl rfl rfl ?_
          refine TGo.sip 742 dX10_deed_99 (by decide) ?_
          refine TGo.ic3 dX10_deed_102 ?_
          refine TGo.il dX10_deed_103 rfl ?_
          refine TGo.imul dX10_deed_105 ?_
          refine TGo.iadd dX10_deed_106 ?_
          refine TGo.ic2 dX10_deed_107 ?_
          refine TGo.iadd dX10_deed_108 ?_
          refine TGo.il3 dX10_deed_109 rfl ?_
          refine TGo.iast dX10_deed_110 (hT 2 (by decide)) (by omega) rfl ?_
          refine TGo.al0 dX10_deed_111 rfl ?_
          refine TGo.getS (t := 18) 3 3 (T + 2) (hT 0 (by decide)) rfl fgX10_13_10 dX10_deed_112 rfl rfl rfl ?_
          refine TGo.bip 6 dX10_deed_115 (by decide) ?_
          refine TGo.dup2 dX10_deed_117 rfl rfl ?_
          refine TGo.iald dX10_deed_118 (hT 2 (by decide)) (by omega) rfl ?_
          refine TGo.toz _ ((u2_n (Or.inr (by omega))).trans ((u2_n (Or.inr (by omega))).trans ((u2_n (Or.inr (by omega))).trans ((u2_n (Or.inl (by omega))).trans (hz.2.1 3 (by decide) _))))) ?_
          refine TGo.ic1 dX10_deed_119 ?_
          refine TGo.iadd dX10_deed_120 ?_
          refine TGo.iast dX10_deed_121 (hT 2 (by decide)) (by omega) rfl ?_
          refine TGo.al0 dX10_deed_122 rfl ?_
          refine TGo.il dX10_deed_123 rfl ?_
          refine TGo.ic1 dX10_deed_125 ?_
          refine TGo.iadd dX10_deed_126 ?_
          refine TGo.cS (csV1 (y2 := mX10_tell) (t := 18) 1 rfl (hT 0 (by decide)) rfl rfl dX10_deed_127 q2035 q2037 qs39 okX10_tell npX10_tell rfl rfl) (kX10_tell hT (((((hz.s rfl).a 3 rfl rfl).a 3 rfl rfl).a 3 rfl rfl).a 3 rfl rfl) (by omega)) (fun v127 V127 h127 => ?_)
          obtain ⟨rfl, hz127⟩ := h127
          refine TGo.iret dX10_deed_130 rfl ?_
          first
          | (exfalso; omega)
          | (refine leafZ hz127 ?_
             unfold zp_deed
             (repeat (first | rw [if_pos (by first | rfl | assumption | omega)] | rw [if_neg (by first | decide | assumption | omega)]))
             (try first | rfl | rw [bZ_t (by first | assumption | omega)] | rw [bZ_f (by first | assumption | omega)]))
        · refine TGo.al0 dX10_deed_58 rfl ?_
          refine TGo.bip (-5) dX10_deed_59 (by decide) ?_
          refine TGo.cS (csV1 (y2 := mX10_tell) (t := 18) 1 rfl (hT 0 (by decide)) rfl rfl dX10_deed_61 q2035 q2037 qs39 okX10_tell npX10_tell rfl rfl) (kX10_tell hT (hz.s rfl) (by omega)) (fun v61 V61 h61 => ?_)
          obtain ⟨rfl, hz61⟩ := h61
          refine TGo.iret dX10_deed_64 rfl ?_
          first
          | (exfalso; omega)
          | (refine leafZ hz61 ?_
             unfold zp_deed
             (repeat (first | rw [if_pos (by first | rfl | assumption | omega)] | rw [if_neg (by first | decide | assumption | omega)]))
             (try first | rfl | rw [bZ_t (by first | assumption | omega)] | rw [bZ_f (by first | assumption | omega)]))
      · refine TGo.al0 dX10_deed_36 rfl ?_
        refine TGo.icm1 dX10_deed_37 ?_
        refine TGo.cS (csV1 (y2 := mX10_tell) (t := 18) 1 rfl (hT 0 (by decide)) rfl rfl dX10_deed_38 q2035 q2037 qs39 okX10_tell npX10_tell rfl rfl) (kX10_tell hT (hz.s rfl) (by omega)) (fun v38 V38 h38 => ?_)
        obtain ⟨rfl, hz38⟩ := h38
        refine TGo.iret dX10_deed_41 rfl ?_
        first
        | (exfalso; omega)
        | (refine leafZ hz38 ?_
           unfold zp_deed
           (repeat (first | rw [if_pos (by first | rfl | assumption | omega)] | rw [if_neg (by first | decide | assumption | omega)]))
           (try first | rfl | rw [bZ_t (by first | assumption | omega)] | rw [bZ_f (by first | assumption | omega)]))
def zp_knows (z : ZT) (v a b w : Int) : Int × ZT :=
  if (0 ≤ v ∧ v < z.2 3 2) ∧ ((0 ≤ a ∧ a ≤ 5) ∧ 0 ≤ b ∧ b ≤ 5) ∧ 0 ≤ w ∧ w ≤ 1 then (ofZ (z.2 3 (298 + 36 * v + (6 * a + b))) w, z) else (-1, z)
set_option maxHeartbeats 4000000 in
theorem kX10_knows {E : ET} {sh : SHT} {nn : Nat × Nat} {V : VT} {T : Nat} {z : ZT} {v a b w : Int} (hT : MSh T sh) (hz : PE T V z) (W : RWZ (z.2 3)) (rv : R32 v) (ra : R32 a) (rb : R32 b) (rw : R32 w) : TC E mX10_knows 3 [.ref T, .int (iI v), .int (iI a), .int (iI b), .int (iI w)] sh nn V (ZP T sh nn (zp_knows z v a b w)) := by
  have w2 := W.1.2.2.1
  refine TC.intro [some (.ref T), some (.int (iI v)), some (.int (iI a)), some (.int (iI b)), some (.int (iI w))] rfl ?_
  refine TGo.al0 dX10_knows_0 rfl ?_
  refine TGo.ic0 dX10_knows_1 ?_
  refine TGo.putI (t := 18) 0 0 (hT 0 (by decide)) rfl fpX10_163_10 dX10_knows_2 rfl rfl rfl ?_
  refine TGo.al0 dX10_knows_5 rfl ?_
  refine TGo.il1 dX10_knows_6 rfl ?_
  refine TGo.cF (csV1 (y2 := mX10_isVersion) (t := 18) 2 rfl (hT 0 (by decide)) rfl rfl dX10_knows_7 q2364 q2366 qs83 okX10_isVersion npX10_isVersion rfl rfl) (kX10_isVersion hT (hz.s rfl) w2 (by omega)) ?_
  refine TGo.ifb_eq 51 dX10_knows_10 (by decide) (fun h10 => ?_) (fun h10 => ?_)
  · refine TGo.icm1 dX10_knows_51 ?_
    refine TGo.iret dX10_knows_52 rfl ?_
    first
    | (exfalso; omega)
    | (refine leafZ (hz.s rfl) ?_
       unfold zp_knows
       (repeat (first | rw [if_pos (by first | rfl | assumption | omega)] | rw [if_neg (by first | decide | assumption | omega)]))
       (try first | rfl | rw [bZ_t (by first | assumption | omega)] | rw [bZ_f (by first | assumption | omega)]))
  · refine TGo.il2 dX10_knows_13 rfl ?_
    refine TGo.il3 dX10_knows_14 rfl ?_
    refine TGo.cF (csS2 (y2 := mX10_isPlace) 2 rfl dX10_knows_15 q2053 q2054 okX10_isPlace npX10_isPlace rfl rfl) (kX10_isPlace (by omega) (by omega)) ?_
    refine TGo.ifb_eq 51 dX10_knows_18 (by decide) (fun h18 => ?_) (fun h18 => ?_)
    · refine TGo.icm1 dX10_knows_51 ?_
      refine TGo.iret dX10_knows_52 rfl ?_
      first
      | (exfalso; omega)
      | (refine leafZ (hz.s rfl) ?_
         unfold zp_knows
         (repeat (first | rw [if_pos (by first | rfl | assumption | omega)] | rw [if_neg (by first | decide | assumption | omega)]))
         (try first | rfl | rw [bZ_t (by first | assumption | omega)] | rw [bZ_f (by first | assumption | omega)]))
    · refine TGo.il dX10_knows_21 rfl ?_
      refine TGo.i2l dX10_knows_23 (by omega) ?_
      refine TGo.lc0 dX10_knows_24 ?_
      refine TGo.lc1 dX10_knows_25 ?_
      refine TGo.cF (csS3 (y2 := mX10_in) 1 rfl dX10_knows_26 q2032 q2033 okX10_in npX10_in rfl rfl) (kX10_in (by omega) (by omega) (by omega)) ?_
      refine TGo.ifb_eq 51 dX10_knows_29 (by decide) (fun h29 => ?_) (fun h29 => ?_)
      · refine TGo.icm1 dX10_knows_51 ?_
        refine TGo.iret dX10_knows_52 rfl ?_
        first
        | (exfalso; omega)
        | (refine leafZ (hz.s rfl) ?_
           unfold zp_knows
           (repeat (first | rw [if_pos (by first | rfl | assumption | omega)] | rw [if_neg (by first | decide | assumption | omega)]))
           (try first | rfl | rw [bZ_t (by first | assumption | omega)] | rw [bZ_f (by first | assumption | omega)]))
      · refine TGo.al0 dX10_knows_32 rfl ?_
        refine TGo.il1 dX10_knows_33 rfl ?_
        refine TGo.bip 6 dX10_knows_34 (by decide) ?_
        refine TGo.il2 dX10_knows_36 rfl ?_
        refine TGo.imul dX10_knows_37 ?_
        refine TGo.il3 dX10_knows_38 rfl ?_
        refine TGo.iadd dX10_knows_39 ?_
        refine TGo.cF (csV2 (y2 := mX10_ruleOf) (t := 18) 1 rfl (hT 0 (by decide)) rfl rfl dX10_knows_40 q2372 q2374 qs85 okX10_ruleOf npX10_ruleOf rfl rfl) (kX10_ruleOf hT (hz.s rfl) (by omega) (by omega)) ?_
        refine TGo.il dX10_knows_43 rfl ?_
        refine TGo.cF (csS2 (y2 := mX10_ofRule) 2 rfl dX10_knows_45 q2084 q2085 okX10_ofRule npX10_ofRule rfl rfl) (kX10_ofRule (W.2.2.2.2.2.1 v (6 * a + b) (by omega) (by omega) (by omega) (by omega)) (by omega)) ?_
        refine TGo.goto 52 dX10_knows_48 (by decide) ?_
        refine TGo.iret dX10_knows_52 rfl ?_
        first
        | (exfalso; omega)
        | (refine leafZ (hz.s rfl) ?_
           unfold zp_knows
           (repeat (first | rw [if_pos (by first | rfl | assumption | omega)] | rw [if_neg (by first | decide | assumption | omega)]))
           (try first | rfl | rw [bZ_t (by first | assumption | omega)] | rw [bZ_f (by first | assumption | omega)]))
def zp_undo (z : ZT) : Int × ZT :=
  if z.2 3 2 = 0 then ((-3), zTell z (-3)) else (z.2 3 (262 + 3 * (z.2 3 2 - 1) + 1), zTell (za z 3 2 (z.2 3 2 - 1)) (z.2 3 (262 + 3 * (z.2 3 2 - 1) + 1)))
set_option maxHeartbeats 4000000 in
theorem kX10_undo {E : ET} {sh : SHT} {nn : Nat × Nat} {V : VT} {T : Nat} {z : ZT} (hT : MSh T sh) (hz : PE T V z) (W : RWZ (z.2 3))  : TC E mX10_undo 2 [.ref T] sh nn V (ZP T sh nn (zp_undo z)) := by
  have w2 := W.1.2.2.1
  have w1 := W.1.2.1
  have wv := fun h => W.2.2.2.2.1 (z.2 3 2 - 1) h (by omega)
  refine TC.intro [some (.ref T)] rfl ?_
  refine TGo.al0 dX10_undo_0 rfl ?_
  refine TGo.ic0 dX10_undo_1 ?_
  refine TGo.putI (t := 18) 0 0 (hT 0 (by decide)) rfl fpX10_163_10 dX10_undo_2 rfl rfl rfl ?_
  refine TGo.al0 dX10_undo_5 rfl ?_
  refine TGo.getS (t := 18) 3 3 (T + 2) (hT 0 (by decide)) rfl fgX10_13_10 dX10_undo_6 rfl rfl rfl ?_
  refine TGo.ic2 dX10_undo_9 ?_
  refine TGo.iald dX10_undo_10 (hT 2 (by decide)) (by omega) rfl ?_
  refine TGo.toz _ ((u2_n (Or.inl (by omega))).trans (hz.2.1 3 (by decide) _)) ?_
  refine TGo.if_ne 21 dX10_undo_11 (by decide) (by omega) (fun h11 => ?_) (fun h11 => ?_)
  · refine TGo.al0 dX10_undo_21 rfl ?_
    refine TGo.getS (t := 18) 3 3 (T + 2) (hT 0 (by decide)) rfl fgX10_13_10 dX10_undo_22 rfl rfl rfl ?_
    refine TGo.ic2 dX10_undo_25 ?_
    refine TGo.dup2 dX10_undo_26 rfl rfl ?_
    refine TGo.iald dX10_undo_27 (hT 2 (by decide)) (by omega) rfl ?_
    refine TGo.toz _ ((u2_n (Or.inl (by omega))).trans (hz.2.1 3 (by decide) _)) ?_
    refine TGo.ic1 dX10_undo_28 ?_
    refine TGo.isub dX10_undo_29 ?_
    refine TGo.iast dX10_undo_30 (hT 2 (by decide)) (by omega) rfl ?_
    refine TGo.al0 dX10_undo_31 rfl ?_
    refine TGo.al0 dX10_undo_32 rfl ?_
    refine TGo.getS (t := 18) 3 3 (T + 2) (hT 0 (by decide)) rfl fgX10_13_10 dX10_undo_33 rfl rfl rfl ?_
    refine TGo.sip 262 dX10_undo_36 (by decide) ?_
    refine TGo.ic3 dX10_undo_39 ?_
    refine TGo.al0 dX10_undo_40 rfl ?_
    refine TGo.getS (t := 18) 3 3 (T + 2) (hT 0 (by decide)) rfl fgX10_13_10 dX10_undo_41 rfl rfl rfl ?_
    refine TGo.ic2 dX10_undo_44 ?_
    refine TGo.iald dX10_undo_45 (hT 2 (by decide)) (by omega) rfl ?_
    refine TGo.toz _ (u2_s) ?_
    refine TGo.imul dX10_undo_46 ?_
    refine TGo.iadd dX10_undo_47 ?_
    refine TGo.ic1 dX10_undo_48 ?_
    refine TGo.iadd dX10_undo_49 ?_
    refine TGo.iald dX10_undo_50 (hT 2 (by decide)) (by omega) rfl ?_
    refine TGo.toz _ ((u2_n (Or.inr (by omega))).trans ((u2_n (Or.inl (by omega))).trans (hz.2.1 3 (by decide) _))) ?_
    refine TGo.cS (csV1 (y2 := mX10_tell) (t := 18) 1 rfl (hT 0 (by decide)) rfl rfl dX10_undo_51 q2035 q2037 qs39 okX10_tell npX10_tell rfl rfl) (kX10_tell hT ((hz.s rfl).a 3 rfl rfl) (by omega)) (fun v51 V51 h51 => ?_)
    obtain ⟨rfl, hz51⟩ := h51
    refine TGo.iret dX10_undo_54 rfl ?_
    first
    | (exfalso; omega)
    | (refine leafZ hz51 ?_
       unfold zp_undo
       (repeat (first | rw [if_pos (by first | rfl | assumption | omega)] | rw [if_neg (by first | decide | assumption | omega)]))
       (try first | rfl | rw [bZ_t (by first | assumption | omega)] | rw [bZ_f (by first | assumption | omega)]))
  · refine TGo.al0 dX10_undo_14 rfl ?_
    refine TGo.bip (-3) dX10_undo_15 (by decide) ?_
    refine TGo.cS (csV1 (y2 := mX10_tell) (t := 18) 1 rfl (hT 0 (by decide)) rfl rfl dX10_undo_17 q2035 q2037 qs39 okX10_tell npX10_tell rfl rfl) (kX10_tell hT (hz.s rfl) (by omega)) (fun v17 V17 h17 => ?_)
    obtain ⟨rfl, hz17⟩ := h17
    refine TGo.iret dX10_undo_20 rfl ?_
    first
    | (exfalso; omega)
    | (refine leafZ hz17 ?_
       unfold zp_undo
       (repeat (first | rw [if_pos (by first | rfl | assumption | omega)] | rw [if_neg (by first | decide | assumption | omega)]))
       (try first | rfl | rw [bZ_t (by first | assumption | omega)] | rw [bZ_f (by first | assumption | omega)]))
