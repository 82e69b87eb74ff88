/-! THE MODEL: says, stops, judge, votes, drift -/
set_option maxRecDepth 100000
def zp_stops (z : ZT) (v : Int) : Int × ZT :=
  if ¬ (0 ≤ v ∧ v < z.2 3 2) then (-1, z) else (stopZ (fun r => z.2 3 (298 + 36 * v + r)) (fun i => z.2 3 (730 + i)) (z.2 3 5).toNat, z)
set_option maxHeartbeats 4000000 in
theorem kX10_stops {E : ET} {sh : SHT} {nn : Nat × Nat} {V : VT} {T : Nat} {z : ZT} {v : Int} (hT : MSh T sh) (hz : PE T V z) (W : RWZ (z.2 3)) (rv : R32 v) : TC E mX10_stops 3 [.ref T, .int (iI v)] sh nn V (ZP T sh nn (zp_stops z v)) := by
  have w2 := W.1.2.2.1
  have w5 := W.1.2.2.2.2.2.1
  refine TC.intro [some (.ref T), some (.int (iI v))] rfl ?_
  refine TGo.al0 dX10_stops_0 rfl ?_
  refine TGo.ic0 dX10_stops_1 ?_
  refine TGo.putI (t := 18) 0 0 (hT 0 (by decide)) rfl fpX10_163_10 dX10_stops_2 rfl rfl rfl ?_
  refine TGo.al0 dX10_stops_5 rfl ?_
  refine TGo.il1 dX10_stops_6 rfl ?_
  refine TGo.cF (csV1 (y2 := mX10_isVersion) (t := 18) 2 rfl (hT 0 (by decide)) rfl rfl dX10_stops_7 q2364 q2366 qs83 okX10_isVersion npX10_isVersion rfl rfl) (kX10_isVersion hT (hz.s rfl) w2 (by omega)) ?_
  refine TGo.ifb_ne 15 dX10_stops_10 (by decide) (fun h10 => ?_) (fun h10 => ?_)
  · refine TGo.al0 dX10_stops_15 rfl ?_
    refine TGo.il1 dX10_stops_16 rfl ?_
    refine TGo.cN (csV1 (y2 := mX10_playCues) (t := 18) 2 rfl (hT 0 (by decide)) rfl rfl dX10_stops_17 q2393 q2395 qs86 okX10_playCues npX10_playCues rfl rfl) (kX10_playCues hT (hz.s rfl) W (by omega)) (fun V17 h17 => ?_)
    obtain ⟨hz17, hf17, ha17, hb17⟩ := h17
    refine TGo.al0 dX10_stops_20 rfl ?_
    refine TGo.getI (t := 18) 37 37 (hT 0 (by decide)) rfl fgX10_483_10 dX10_stops_21 rfl rfl rfl ?_
    refine TGo.toz _ ha17 ?_
    refine TGo.iret dX10_stops_24 rfl ?_
    first
    | (exfalso; omega)
    | (refine leafZ hz17 ?_
       unfold zp_stops
       (repeat (first | rw [if_pos (by first | rfl | assumption | omega)] | rw [if_neg (by first | decide | assumption | omega)]))
       (try first | rfl | rw [bZ_t (by first | assumption | omega)] | rw [bZ_f (by first | assumption | omega)]))
  · refine TGo.icm1 dX10_stops_13 ?_
    refine TGo.iret dX10_stops_14 rfl ?_
    first
    | (exfalso; omega)
    | (refine leafZ (hz.s rfl) ?_
       unfold zp_stops
       (repeat (first | rw [if_pos (by first | rfl | assumption | omega)] | rw [if_neg (by first | decide | assumption | omega)]))
       (try first | rfl | rw [bZ_t (by first | assumption | omega)] | rw [bZ_f (by first | assumption | omega)]))
def zp_says (z : ZT) (v i : Int) : Int × ZT :=
  if ¬ ((0 ≤ v ∧ v < z.2 3 2) ∧ 0 ≤ i ∧ i < z.2 3 5) then (-1, z) else ((if stopZ (fun r => z.2 3 (298 + 36 * v + r)) (fun i => z.2 3 (730 + i)) (i.toNat + 1) = -1 then wdZ (fun r => z.2 3 (298 + 36 * v + r)) (fun i => z.2 3 (730 + i)) i.toNat else 100), z)
set_option maxHeartbeats 4000000 in
theorem kX10_says {E : ET} {sh : SHT} {nn : Nat × Nat} {V : VT} {T : Nat} {z : ZT} {v i : Int} (hT : MSh T sh) (hz : PE T V z) (W : RWZ (z.2 3)) (rv : R32 v) (ri : R32 i) : TC E mX10_says 3 [.ref T, .int (iI v), .int (iI i)] sh nn V (ZP T sh nn (zp_says z v i)) := by
  have w2 := W.1.2.2.1
  have w5 := W.1.2.2.2.2.2.1
  refine TC.intro [some (.ref T), some (.int (iI v)), some (.int (iI i))] rfl ?_
  refine TGo.al0 dX10_says_0 rfl ?_
  refine TGo.ic0 dX10_says_1 ?_
  refine TGo.putI (t := 18) 0 0 (hT 0 (by decide)) rfl fpX10_163_10 dX10_says_2 rfl rfl rfl ?_
  refine TGo.al0 dX10_says_5 rfl ?_
  refine TGo.il1 dX10_says_6 rfl ?_
  refine TGo.cF (csV1 (y2 := mX10_isVersion) (t := 18) 2 rfl (hT 0 (by decide)) rfl rfl dX10_says_7 q2364 q2366 qs83 okX10_isVersion npX10_isVersion rfl rfl) (kX10_isVersion hT (hz.s rfl) w2 (by omega)) ?_
  refine TGo.ifb_eq 31 dX10_says_10 (by decide) (fun h10 => ?_) (fun h10 => ?_)
  · refine TGo.icm1 dX10_says_31 ?_
    refine TGo.iret dX10_says_32 rfl ?_
    first
    | (exfalso; omega)
    | (refine leafZ (hz.s rfl) ?_
       unfold zp_says
       (repeat (first | rw [if_pos (by first | rfl | assumption | omega)] | rw [if_neg (by first | decide | assumption | omega)]))
       (try first | rfl | rw [bZ_t (by first | assumption | omega)] | rw [bZ_f (by first | assumption | omega)]))
  · refine TGo.il2 dX10_says_13 rfl ?_
    refine TGo.i2l dX10_says_14 (by omega) ?_
    refine TGo.lc0 dX10_says_15 ?_
    refine TGo.al0 dX10_says_16 rfl ?_
    refine TGo.getS (t := 18) 3 3 (T + 2) (hT 0 (by decide)) rfl fgX10_13_10 dX10_says_17 rfl rfl rfl ?_
    refine TGo.ic5 dX10_says_20 ?_
    refine TGo.iald dX10_says_21 (hT 2 (by decide)) (by omega) rfl ?_
    refine TGo.toz _ ((u2_n (Or.inl (by omega))).trans (hz.2.1 3 (by decide) _)) ?_
    refine TGo.i2l dX10_says_22 (by omega) ?_
    refine TGo.lc1 dX10_says_23 ?_
    refine TGo.lsub dX10_says_24 ?_
    refine TGo.cF (csS3 (y2 := mX10_in) 1 rfl dX10_says_25 q2032 q2033 okX10_in npX10_in rfl rfl) (kX10_in (by omega) (by omega) (by omega)) ?_
    refine TGo.ifb_ne 33 dX10_says_28 (by decide) (fun h28 => ?_) (fun h28 => ?_)
    · refine TGo.al0 dX10_says_33 rfl ?_
      refine TGo.il1 dX10_says_34 rfl ?_
      refine TGo.cN (csV1 (y2 := mX10_playCues) (t := 18) 2 rfl (hT 0 (by decide)) rfl rfl dX10_says_35 q2393 q2395 qs86 okX10_playCues npX10_playCues rfl rfl) (kX10_playCues hT (hz.s rfl) W (by omega)) (fun V35 h35 => ?_)
      obtain ⟨hz35, hf35, ha35, hb35⟩ := h35
      have hb := stopZ_by (f := (fun r => z.2 3 (298 + 36 * v + r))) (c := (fun i => z.2 3 (730 + i))) (i := i.toNat) (z.2 3 5).toNat (by omega)
      have hs := stopZ_r (fun r => z.2 3 (298 + 36 * v + r)) (fun i => z.2 3 (730 + i)) (z.2 3 5).toNat
      refine TGo.al0 dX10_says_38 rfl ?_
      refine TGo.getI (t := 18) 37 37 (hT 0 (by decide)) rfl fgX10_483_10 dX10_says_39 rfl rfl rfl ?_
      refine TGo.toz _ ha35 ?_
      refine TGo.icm1 dX10_says_42 ?_
      refine TGo.icmp_eq 59 dX10_says_43 (by decide) (by omega) (fun h43 => ?_) (fun h43 => ?_)
      · refine TGo.al0 dX10_says_59 rfl ?_
        refine TGo.getS (t := 18) 36 36 (T + 17) (hT 0 (by decide)) rfl fgX10_88_10 dX10_says_60 rfl rfl rfl ?_
        refine TGo.il2 dX10_says_63 rfl ?_
        refine TGo.iald dX10_says_64 (hT 17 (by decide)) (by omega) rfl ?_
        refine TGo.iret dX10_says_65 rfl ?_
        first
        | (exfalso; omega)
        | (refine leafZ hz35 ?_
           unfold zp_says
           rw [if_neg (by omega)]
           first
           | (rw [if_neg (by omega)])
           | (rw [if_pos (by omega)]
              have e := hb35 i.toNat (by omega) (by omega)
              rw [show ((i.toNat : Nat) : Int) = i by omega] at e
              rw [e]))
      · refine TGo.al0 dX10_says_46 rfl ?_
        refine TGo.getI (t := 18) 37 37 (hT 0 (by decide)) rfl fgX10_483_10 dX10_says_47 rfl rfl rfl ?_
        refine TGo.toz _ ha35 ?_
        refine TGo.il2 dX10_says_50 rfl ?_
        refine TGo.icmp_gt 59 dX10_says_51 (by decide) (by omega) (fun h51 => ?_) (fun h51 => ?_)
        · refine TGo.al0 dX10_says_59 rfl ?_
          refine TGo.getS (t := 18) 36 36 (T + 17) (hT 0 (by decide)) rfl fgX10_88_10 dX10_says_60 rfl rfl rfl ?_
          refine TGo.il2 dX10_says_63 rfl ?_
          refine TGo.iald dX10_says_64 (hT 17 (by decide)) (by omega) rfl ?_
          refine TGo.iret dX10_says_65 rfl ?_
          first
          | (exfalso; omega)
          | (refine leafZ hz35 ?_
             unfold zp_says
             rw [if_neg (by omega)]
             first
             | (rw [if_neg (by omega)])
             | (rw [if_pos (by omega)]
                have e := hb35 i.toNat (by omega) (by omega)
                rw [show ((i.toNat : Nat) : Int) = i by omega] at e
                rw [e]))
        · refine TGo.bip 100 dX10_says_54 (by decide) ?_
          refine TGo.goto 65 dX10_says_56 (by decide) ?_
          refine TGo.iret dX10_says_65 rfl ?_
          first
          | (exfalso; omega)
          | (refine leafZ hz35 ?_
             unfold zp_says
             rw [if_neg (by omega)]
             first
             | (rw [if_neg (by omega)])
             | (rw [if_pos (by omega)]
                have e := hb35 i.toNat (by omega) (by omega)
                rw [show ((i.toNat : Nat) : Int) = i by omega] at e
                rw [e]))
    · refine TGo.icm1 dX10_says_31 ?_
      refine TGo.iret dX10_says_32 rfl ?_
      first
      | (exfalso; omega)
      | (refine leafZ (hz.s rfl) ?_
         unfold zp_says
         (repeat (first | rw [if_pos (by first | rfl | assumption | omega)] | rw [if_neg (by first | decide | assumption | omega)]))
         (try first | rfl | rw [bZ_t (by first | assumption | omega)] | rw [bZ_f (by first | assumption | omega)]))
/-- the state of each row ahead of the k-th deed; whether it could be done so; the first that could not -/
def juS (kn dd : Int → Int) : Nat → (Int → Int)
  | 0 => fun _ => 0
  | k + 1 => zu (juS kn dd k) (dd (3 * (k : Int))) (nZ (kn (6 * juS kn dd k (dd (3 * (k : Int))) + dd (3 * (k : Int) + 1))))
def juOK (kn dd : Int → Int) (k : Nat) : Prop := juS kn dd k (dd (3 * (k : Int))) ≠ -1 ∧ wZ (kn (6 * juS kn dd k (dd (3 * (k : Int))) + dd (3 * (k : Int) + 1))) = dd (3 * (k : Int) + 2)
noncomputable def juF (kn dd : Int → Int) : Nat → Int
  | 0 => -1
  | k + 1 => if juF kn dd k = -1 then (haveI := Classical.propDecidable (juOK kn dd k); if juOK kn dd k then -1 else (k : Int)) else juF kn dd k
theorem juF_ok {kn dd : Int → Int} {k : Nat} (h : juF kn dd k = -1) (h2 : juOK kn dd k) : juF kn dd (k + 1) = -1 := by rw [juF, if_pos h, if_pos h2]
theorem juF_no {kn dd : Int → Int} {k : Nat} (h : juF kn dd k = -1) (h2 : ¬ juOK kn dd k) : juF kn dd (k + 1) = (k : Int) := by rw [juF, if_pos h, if_neg h2]
theorem juF_stay {kn dd : Int → Int} {j : Nat} (h : juF kn dd j ≠ -1) : ∀ k, j ≤ k → juF kn dd k = juF kn dd j := by
  intro k hk
  induction k with
  | zero => obtain rfl : j = 0 := by omega
            rfl
  | succ k ih =>
    rcases Nat.eq_or_lt_of_le hk with e | e
    · rw [e]
    · rw [juF, if_neg (by rw [ih (by omega)]; exact h), ih (by omega)]
def DdZ (dd : Int → Int) (n : Nat) : Prop := ∀ k : Int, 0 ≤ k → k < n → (0 ≤ dd (3 * k) ∧ dd (3 * k) < 4) ∧ (0 ≤ dd (3 * k + 1) ∧ dd (3 * k + 1) < 6) ∧ 0 ≤ dd (3 * k + 2) ∧ dd (3 * k + 2) < 10
theorem juS_r {kn dd : Int → Int} {n : Nat} (hk : ∀ r, 0 ≤ r → r < 36 → cOK (kn r)) (hd : DdZ dd n) : ∀ k, k ≤ n → juF kn dd k = -1 → ∀ r, -1 ≤ juS kn dd k r ∧ juS kn dd k r ≤ 5 := by
  intro k
  induction k with
  | zero => intro _ _ r; show -1 ≤ (0 : Int) ∧ (0 : Int) ≤ 5; omega
  | succ k ih =>
    intro hkn hf r
    by_cases h1 : juF kn dd k = -1
    · by_cases h2 : juOK kn dd k
      · have h3 := ih (by omega) h1
        have h4 := hd k (by omega) (by omega)
        have h5 := h3 (dd (3 * (k : Int)))
        have h6 := h2.1
        rw [juS]
        unfold zu
        split
        · have h7 := nZ_r (hk (6 * juS kn dd k (dd (3 * (k : Int))) + dd (3 * (k : Int) + 1)) (by omega) (by omega))
          omega
        · exact h3 r
      · rw [juF_no h1 h2] at hf; omega
    · rw [juF, if_neg h1] at hf; exact absurd hf h1
set_option maxHeartbeats 4000000 in
theorem lX10_judge {E : ET} {sh : SHT} {nn : Nat × Nat} {T : Nat} {z : ZT} {kn dd : Int → Int} {v : Int} {m : Nat} (hT : MSh T sh) (hv : 0 ≤ v ∧ v < 12) (hm : z.2 3 6 = (m : Int)) (hm2 : m ≤ 12) (hkn : ∀ i, z.2 3 (298 + 36 * v + i) = kn i) (hdd : ∀ a i, a = 742 + i → z.2 3 a = dd i) (hk : ∀ r, 0 ≤ r → r < 36 → cOK (kn r)) (hd : DdZ dd m) : ∀ (n j : Nat) (V : VT) (x y w : Option Value), m - j < n → j ≤ m → PE T V z → (juF kn dd j = -1 ∧ ∀ r, 0 ≤ r → r < 4 → V.1 (T + 31) r = juS kn dd j r) → TGo E mX10_judge 3 37 [some (.ref T), some (.int (iI v)), some (.int (iI (((j) : Nat) : Int))), x, y, w] [] sh nn V (fun o sh' nn' V' => o = .inl (some (.int (iI (juF kn dd m)))) ∧ sh' = sh ∧ nn' = nn ∧ PE T V' z) := by
  intro n
  induction n with
  | zero => intro j V x y w h; omega
  | succ n ih =>
    intro j V x y w hn hj hz hx
    obtain ⟨hf, hg⟩ := hx
    have hs := juS_r hk hd j hj hf
    refine TGo.il2 dX10_judge_37 rfl ?_
    refine TGo.al0 dX10_judge_38 rfl ?_
    refine TGo.getS (t := 18) 3 3 (T + 2) (hT 0 (by decide)) rfl fgX10_13_10 dX10_judge_39 rfl rfl rfl ?_
    refine TGo.bip 6 dX10_judge_42 (by decide) ?_
    refine TGo.iald dX10_judge_44 (hT 2 (by decide)) (by omega) rfl ?_
    refine TGo.toz _ (hz.2.1 3 (by decide) _) ?_
    refine TGo.icmp_ge 146 dX10_judge_45 (by decide) (by omega) (fun h45 => ?_) (fun h45 => ?_)
    · refine TGo.icm1 dX10_judge_146 ?_
      refine TGo.iret dX10_judge_147 rfl ?_
      obtain rfl : j = m := by omega
      exact ⟨rvI hf.symm, rfl, rfl, hz⟩
    · have hd1 := hd j (by omega) (by omega)
      have hs1 := hs (dd (3 * (j : Int)))
      refine TGo.sip 742 dX10_judge_48 (by decide) ?_
      refine TGo.ic3 dX10_judge_51 ?_
      refine TGo.il2 dX10_judge_52 rfl ?_
      refine TGo.imul dX10_judge_53 ?_
      refine TGo.iadd dX10_judge_54 ?_
      refine TGo.is3 dX10_judge_55 rfl rfl ?_
      refine TGo.al0 dX10_judge_56 rfl ?_
      refine TGo.getS (t := 18) 60 60 (T + 31) (hT 0 (by decide)) rfl fgX10_130_10 dX10_judge_57 rfl rfl rfl ?_
      refine TGo.al0 dX10_judge_60 rfl ?_
      refine TGo.getS (t := 18) 3 3 (T + 2) (hT 0 (by decide)) rfl fgX10_13_10 dX10_judge_61 rfl rfl rfl ?_
      refine TGo.il3 dX10_judge_64 rfl ?_
      refine TGo.iald dX10_judge_65 (hT 2 (by decide)) (by omega) rfl ?_
      refine TGo.toz _ (hz.2.1 3 (by decide) _) ?_
      refine TGo.toz (dd (3 * (j : Int))) (hdd _ _ (by omega)) ?_
      refine TGo.iald dX10_judge_66 (hT 31 (by decide)) (by omega) rfl ?_
      refine TGo.toz (juS kn dd j (dd (3 * (j : Int)))) (hg _ (by omega) (by omega)) ?_
      refine TGo.is dX10_judge_67 rfl rfl ?_
      refine TGo.il dX10_judge_69 rfl ?_
      refine TGo.icm1 dX10_judge_71 ?_
      refine TGo.icmp_ne 79 dX10_judge_72 (by decide) (by omega) (fun h72 => ?_) (fun h72 => ?_)
      · refine TGo.al0 dX10_judge_79 rfl ?_
        have hc1 := hk (6 * juS kn dd j (dd (3 * (j : Int))) + dd (3 * (j : Int) + 1)) (by omega) (by omega)
        have hw1 := wZ_r hc1
        have hn1 := nZ_r hc1
        refine TGo.il1 dX10_judge_80 rfl ?_
        refine TGo.bip 6 dX10_judge_81 (by decide) ?_
        refine TGo.il dX10_judge_83 rfl ?_
        refine TGo.imul dX10_judge_85 ?_
        refine TGo.al0 dX10_judge_86 rfl ?_
        refine TGo.getS (t := 18) 3 3 (T + 2) (hT 0 (by decide)) rfl fgX10_13_10 dX10_judge_87 rfl rfl rfl ?_
        refine TGo.il3 dX10_judge_90 rfl ?_
        refine TGo.ic1 dX10_judge_91 ?_
        refine TGo.iadd dX10_judge_92 ?_
        refine TGo.iald dX10_judge_93 (hT 2 (by decide)) (by omega) rfl ?_
        refine TGo.toz _ (hz.2.1 3 (by decide) _) ?_
        refine TGo.toz (dd (3 * (j : Int) + 1)) (hdd _ _ (by omega)) ?_
        refine TGo.iadd dX10_judge_94 ?_
        refine TGo.cF (csV2 (y2 := mX10_ruleOf) (t := 18) 1 rfl (hT 0 (by decide)) rfl rfl dX10_judge_95 q2372 q2374 qs85 okX10_ruleOf npX10_ruleOf rfl rfl) (kX10_ruleOf hT hz (by omega) (by omega)) ?_
        refine TGo.toz (kn (6 * juS kn dd j (dd (3 * (j : Int))) + dd (3 * (j : Int) + 1))) (hkn _) ?_
        refine TGo.is dX10_judge_98 rfl rfl ?_
        refine TGo.il dX10_judge_100 rfl ?_
        refine TGo.icm1 dX10_judge_102 ?_
        refine TGo.icmp_eq 122 dX10_judge_103 (by decide) (by omega) (fun h103 => ?_) (fun h103 => ?_)
        · refine TGo.il2 dX10_judge_122 rfl ?_
          refine TGo.iret dX10_judge_123 rfl ?_
          have hw3 : True := trivial
          refine ⟨rvI ?_, rfl, rfl, hz⟩
          have e1 : juF kn dd (j + 1) = (j : Int) := juF_no hf (fun q => by
            obtain ⟨q1, q2⟩ := q
            first | omega | (rw [hw3] at q2; omega))
          rw [juF_stay (j := j + 1) (by rw [e1]; omega) m (by omega), e1]
        · refine TGo.il dX10_judge_106 rfl ?_
          refine TGo.cF (csS1 (y2 := mX10_wordOf) 1 rfl dX10_judge_108 q2069 q2070 okX10_wordOf npX10_wordOf rfl rfl) (kX10_wordOf (by omega)) ?_
          refine TGo.al0 dX10_judge_111 rfl ?_
          refine TGo.getS (t := 18) 3 3 (T + 2) (hT 0 (by decide)) rfl fgX10_13_10 dX10_judge_112 rfl rfl rfl ?_
          refine TGo.il3 dX10_judge_115 rfl ?_
          refine TGo.ic2 dX10_judge_116 ?_
          refine TGo.iadd dX10_judge_117 ?_
          refine TGo.iald dX10_judge_118 (hT 2 (by decide)) (by omega) rfl ?_
          refine TGo.toz _ (hz.2.1 3 (by decide) _) ?_
          refine TGo.toz (dd (3 * (j : Int) + 2)) (hdd _ _ (by omega)) ?_
          refine TGo.icmp_eq 124 dX10_judge_119 (by decide) (by omega) (fun h119 => ?_) (fun h119 => ?_)
          · refine TGo.al0 dX10_judge_124 rfl ?_
            refine TGo.getS (t := 18) 60 60 (T + 31) (hT 0 (by decide)) rfl fgX10_130_10 dX10_judge_125 rfl rfl rfl ?_
            refine TGo.al0 dX10_judge_128 rfl ?_
            refine TGo.getS (t := 18) 3 3 (T + 2) (hT 0 (by decide)) rfl fgX10_13_10 dX10_judge_129 rfl rfl rfl ?_
            refine TGo.il3 dX10_judge_132 rfl ?_
            refine TGo.iald dX10_judge_133 (hT 2 (by decide)) (by omega) rfl ?_
            refine TGo.toz _ (hz.2.1 3 (by decide) _) ?_
            refine TGo.toz (dd (3 * (j : Int))) (hdd _ _ (by omega)) ?_
            refine TGo.il dX10_judge_134 rfl ?_
            refine TGo.cF (csS1 (y2 := mX10_nextOf) 1 rfl dX10_judge_136 q2087 q2088 okX10_nextOf npX10_nextOf rfl rfl) (kX10_nextOf (by omega)) ?_
            refine TGo.iast dX10_judge_139 (hT 31 (by decide)) (by omega) rfl ?_
            refine TGo.iinc dX10_judge_140 rfl rfl rfl ?_
            refine TGo.goto 37 dX10_judge_143 (by decide) ?_
            first | (exfalso; omega) | exact TGo.seq [some (.ref T), some (.int (iI v)), some (.int (iI ((((j + 1)) : Nat) : Int))), _, _, _] [] _ (rfl) rfl rfl (ih (j + 1) _ _ _ _ (by omega) (by omega) (hz.t 31 rfl) ⟨juF_ok hf ⟨by omega, by omega⟩, fun r h0 h1 => by
              rw [juS]
              by_cases e : r = dd (3 * (j : Int))
              · rw [e, zu_s]; exact u2_s
              · rw [zu_n e]; exact (u2_n (Or.inr e)).trans (hg r h0 h1)⟩)
          · refine TGo.il2 dX10_judge_122 rfl ?_
            refine TGo.iret dX10_judge_123 rfl ?_
            have hw3 : True := trivial
            refine ⟨rvI ?_, rfl, rfl, hz⟩
            have e1 : juF kn dd (j + 1) = (j : Int) := juF_no hf (fun q => by
              obtain ⟨q1, q2⟩ := q
              first | omega | (rw [hw3] at q2; omega))
            rw [juF_stay (j := j + 1) (by rw [e1]; omega) m (by omega), e1]
      · refine TGo.icm1 dX10_judge_75 ?_
        refine TGo.goto 98 dX10_judge_76 (by decide) ?_
        refine TGo.is dX10_judge_98 rfl rfl ?_
        refine TGo.il dX10_judge_100 rfl ?_
        refine TGo.icm1 dX10_judge_102 ?_
        refine TGo.icmp_eq 122 dX10_judge_103 (by decide) (by omega) (fun h103 => ?_) (fun h103 => ?_)
        · refine TGo.il2 dX10_judge_122 rfl ?_
          refine TGo.iret dX10_judge_123 rfl ?_
          have hw3 : True := trivial
          refine ⟨rvI ?_, rfl, rfl, hz⟩
          have e1 : juF kn dd (j + 1) = (j : Int) := juF_no hf (fun q => by
            obtain ⟨q1, q2⟩ := q
            first | omega | (rw [hw3] at q2; omega))
          rw [juF_stay (j := j + 1) (by rw [e1]; omega) m (by omega), e1]
        · refine TGo.il dX10_judge_106 rfl ?_
          refine TGo.cF (csS1 (y2 := mX10_wordOf) 1 rfl dX10_judge_108 q2069 q2070 okX10_wordOf npX10_wordOf rfl rfl) (kX10_wordOf (by omega)) ?_
          refine TGo.al0 dX10_judge_111 rfl ?_
          refine TGo.getS (t := 18) 3 3 (T + 2) (hT 0 (by decide)) rfl fgX10_13_10 dX10_judge_112 rfl rfl rfl ?_
          refine TGo.il3 dX10_judge_115 rfl ?_
          refine TGo.ic2 dX10_judge_116 ?_
          refine TGo.iadd dX10_judge_117 ?_
          refine TGo.iald dX10_judge_118 (hT 2 (by decide)) (by omega) rfl ?_
          refine TGo.toz _ (hz.2.1 3 (by decide) _) ?_
          refine TGo.toz (dd (3 * (j : Int) + 2)) (hdd _ _ (by omega)) ?_
          refine TGo.icmp_eq 124 dX10_judge_119 (by decide) (by omega) (fun h119 => ?_) (fun h119 => ?_)
          · refine TGo.al0 dX10_judge_124 rfl ?_
            refine TGo.getS (t := 18) 60 60 (T + 31) (hT 0 (by decide)) rfl fgX10_130_10 dX10_judge_125 rfl rfl rfl ?_
            refine TGo.al0 dX10_judge_128 rfl ?_
            refine TGo.getS (t := 18) 3 3 (T + 2) (hT 0 (by decide)) rfl fgX10_13_10 dX10_judge_129 rfl rfl rfl ?_
            refine TGo.il3 dX10_judge_132 rfl ?_
            refine TGo.iald dX10_judge_133 (hT 2 (by decide)) (by omega) rfl ?_
            refine TGo.toz _ (hz.2.1 3 (by decide) _) ?_
            refine TGo.toz (dd (3 * (j : Int))) (hdd _ _ (by omega)) ?_
            refine TGo.il dX10_judge_134 rfl ?_
            refine TGo.cF (csS1 (y2 := mX10_nextOf) 1 rfl dX10_judge_136 q2087 q2088 okX10_nextOf npX10_nextOf rfl rfl) (kX10_nextOf (by omega)) ?_
            refine TGo.iast dX10_judge_139 (hT 31 (by decide)) (by omega) rfl ?_
            refine TGo.iinc dX10_judge_140 rfl rfl rfl ?_
            refine TGo.goto 37 dX10_judge_143 (by decide) ?_
            first | (exfalso; omega) | exact TGo.seq [some (.ref T), some (.int (iI v)), some (.int (iI ((((j + 1)) : Nat) : Int))), _, _, _] [] _ (rfl) rfl rfl (ih (j + 1) _ _ _ _ (by omega) (by omega) (hz.t 31 rfl) ⟨juF_ok hf ⟨by omega, by omega⟩, fun r h0 h1 => by
              rw [juS]
              by_cases e : r = dd (3 * (j : Int))
              · rw [e, zu_s]; exact u2_s
              · rw [zu_n e]; exact (u2_n (Or.inr e)).trans (hg r h0 h1)⟩)
          · refine TGo.il2 dX10_judge_122 rfl ?_
            refine TGo.iret dX10_judge_123 rfl ?_
            have hw3 : True := trivial
            refine ⟨rvI ?_, rfl, rfl, hz⟩
            have e1 : juF kn dd (j + 1) = (j : Int) := juF_no hf (fun q => by
              obtain ⟨q1, q2⟩ := q
              first | omega | (rw [hw3] at q2; omega))
            rw [juF_stay (j := j + 1) (by rw [e1]; omega) m (by omega), e1]
set_option maxHeartbeats 4000000 in
theorem zX10_judge {E : ET} {sh : SHT} {nn : Nat × Nat} {T : Nat} {z : ZT} {kn dd : Int → Int} {v : Int} {m : Nat} (hT : MSh T sh) (hv : 0 ≤ v ∧ v < 12) (hm : z.2 3 6 = (m : Int)) (hm2 : m ≤ 12) (hkn : ∀ i, z.2 3 (298 + 36 * v + i) = kn i) (hdd : ∀ a i, a = 742 + i → z.2 3 a = dd i) (hk : ∀ r, 0 ≤ r → r < 36 → cOK (kn r)) (hd : DdZ dd m) : ∀ (n j : Nat) (V : VT), 4 - j < n → j ≤ 4 → PE T V z → (∀ r, 0 ≤ r → r < (j : Int) → V.1 (T + 31) r = 0) → TGo E mX10_judge 3 17 [some (.ref T), some (.int (iI v)), some (.int (iI (((j) : Nat) : Int))), none, none, none] [] sh nn V (fun o sh' nn' V' => o = .inl (some (.int (iI (juF kn dd m)))) ∧ sh' = sh ∧ nn' = nn ∧ PE T V' z) := by
  intro n
  induction n with
  | zero => intro j V h; omega
  | succ n ih =>
    intro j V hn hj hz hx
    refine TGo.il2 dX10_judge_17 rfl ?_
    refine TGo.ic4 dX10_judge_18 ?_
    refine TGo.icmp_ge 35 dX10_judge_19 (by decide) (by omega) (fun h19 => ?_) (fun h19 => ?_)
    · refine TGo.ic0 dX10_judge_35 ?_
      refine TGo.is2 dX10_judge_36 rfl rfl ?_
      exact lX10_judge hT hv hm hm2 hkn hdd hk hd (m + 1) 0 _ _ _ _ (by omega) (by omega) hz ⟨rfl, fun r h0 h1 => hx r h0 (by omega)⟩
    · refine TGo.al0 dX10_judge_22 rfl ?_
      refine TGo.getS (t := 18) 60 60 (T + 31) (hT 0 (by decide)) rfl fgX10_130_10 dX10_judge_23 rfl rfl rfl ?_
      refine TGo.il2 dX10_judge_26 rfl ?_
      refine TGo.ic0 dX10_judge_27 ?_
      refine TGo.iast dX10_judge_28 (hT 31 (by decide)) (by omega) rfl ?_
      refine TGo.iinc dX10_judge_29 rfl rfl rfl ?_
      refine TGo.goto 17 dX10_judge_32 (by decide) ?_
      exact TGo.seq [some (.ref T), some (.int (iI v)), some (.int (iI ((((j + 1)) : Nat) : Int))), none, none, none] [] _ (rfl) rfl rfl (ih (j + 1) _ (by omega) (by omega) (hz.t 31 rfl) (fun r h0 h1 => by
        by_cases e : r = (j : Int)
        · rw [e]; exact u2_s
        · exact (u2_n (Or.inr e)).trans (hx r h0 (by omega))))
theorem WDd {z : ZT} (W : RWZ (z.2 3)) : DdZ (fun i => z.2 3 (742 + i)) (z.2 3 6).toNat := fun k h0 h1 => by
  have h := W.2.2.2.2.2.2.2 k h0 (by omega)
  simp only [Int.add_assoc] at h
  exact h
theorem zp_judge_rng (kn dd : Int → Int) : True := trivial
noncomputable def zp_judge (z : ZT) (v : Int) : Int × ZT := if ¬ (0 ≤ v ∧ v < z.2 3 2) then (-1, z) else (juF (fun r => z.2 3 (298 + 36 * v + r)) (fun i => z.2 3 (742 + i)) (z.2 3 6).toNat, z)
set_option maxHeartbeats 4000000 in
theorem kX10_judge {E : ET} {sh : SHT} {nn : Nat × Nat} {V : VT} {T : Nat} {z : ZT} {v : Int} (hT : MSh T sh) (hz : PE T V z) (W : RWZ (z.2 3)) (rv : R32 v) : TC E mX10_judge 3 [.ref T, .int (iI v)] sh nn V (ZP T sh nn (zp_judge z v)) := by
  have w2 := W.1.2.2.1
  have w6 := W.1.2.2.2.2.2.2.1
  refine TC.intro [some (.ref T), some (.int (iI v)), none, none, none, none] rfl ?_
  refine TGo.al0 dX10_judge_0 rfl ?_
  refine TGo.ic0 dX10_judge_1 ?_
  refine TGo.putI (t := 18) 0 0 (hT 0 (by decide)) rfl fpX10_163_10 dX10_judge_2 rfl rfl rfl ?_
  refine TGo.al0 dX10_judge_5 rfl ?_
  refine TGo.il1 dX10_judge_6 rfl ?_
  refine TGo.cF (csV1 (y2 := mX10_isVersion) (t := 18) 2 rfl (hT 0 (by decide)) rfl rfl dX10_judge_7 q2364 q2366 qs83 okX10_isVersion npX10_isVersion rfl rfl) (kX10_isVersion hT (hz.s rfl) w2 (by omega)) ?_
  refine TGo.ifb_ne 15 dX10_judge_10 (by decide) (fun h10 => ?_) (fun h10 => ?_)
  · refine TGo.ic0 dX10_judge_15 ?_
    refine TGo.is2 dX10_judge_16 rfl rfl ?_
    refine (zX10_judge (kn := (fun r => z.2 3 (298 + 36 * v + r))) (dd := (fun i => z.2 3 (742 + i))) (m := (z.2 3 6).toNat) hT (by omega) (by omega) (by omega) (fun _ => rfl) (fun a i e => by rw [e]) (fun r h0 h1 => W.2.2.2.2.2.1 v r (by omega) (by omega) h0 h1) (WDd W) 5 0 _ (by omega) (by omega) (hz.s rfl) (fun r h0 h1 => by omega)).mono ?_
    rintro o sh' nn' V' ⟨ho, hs, hn, hp⟩
    unfold zp_judge
    (repeat (first | rw [if_pos (by first | rfl | assumption | omega)] | rw [if_neg (by first | decide | assumption | omega)]))
    exact ⟨ho, hs, hn, hp⟩
  · refine TGo.icm1 dX10_judge_13 ?_
    refine TGo.iret dX10_judge_14 rfl ?_
    first
    | (exfalso; omega)
    | (refine leafZ (hz.s rfl) ?_
       unfold zp_judge
       (repeat (first | rw [if_pos (by first | rfl | assumption | omega)] | rw [if_neg (by first | decide | assumption | omega)]))
       (try first | rfl | rw [bZ_t (by first | assumption | omega)] | rw [bZ_f (by first | assumption | omega)]))
/-- the first of the greatest of the first k, and it (none: nothing above none) -/
def moZ (g : Int → Int) : Nat → Int × Int
  | 0 => (-1, 0)
  | k + 1 => if (moZ g k).2 < g (k : Int) then ((k : Int), g (k : Int)) else moZ g k
theorem moZ_r (g : Int → Int) (k : Nat) : -1 ≤ (moZ g k).1 ∧ (moZ g k).1 < (k : Int) ∧ 0 ≤ (moZ g k).2 ∧ ((moZ g k).1 = -1 → (moZ g k).2 = 0) ∧ (0 ≤ (moZ g k).1 → (moZ g k).2 = g (moZ g k).1 ∧ 0 < (moZ g k).2) := by
  induction k with
  | zero => show -1 ≤ (-1 : Int) ∧ (-1 : Int) < 0 ∧ (0 : Int) ≤ 0 ∧ _; exact ⟨by omega, by omega, by omega, fun _ => rfl, fun h => absurd h (by show ¬ (0 : Int) ≤ -1; decide)⟩
  | succ k ih =>
    rw [moZ]; split
    · refine ⟨by simp only; omega, by simp only; omega, by simp only; omega, fun h => ?_, fun h => ⟨rfl, by simp only; omega⟩⟩
      simp only at h; omega
    · exact ⟨by omega, by omega, by omega, ih.2.2.2.1, ih.2.2.2.2⟩

set_option maxHeartbeats 4000000 in
theorem lX10_most {E : ET} {sh : SHT} {nn : Nat × Nat} {V : VT} {T : Nat} {z : ZT} {g : Int → Int} (hT : MSh T sh) (hz : PE T V z) (hg : ∀ w, 0 ≤ w → w < 10 → V.1 (T + 24) w = g w) (hr : ∀ w, 0 ≤ w → w < 10 → 0 ≤ g w ∧ g w ≤ 1000) : ∀ (n j : Nat), 10 - j < n → j ≤ 10 → TGo E mX10_most 1 6 [some (.ref T), some (.int (iI (moZ g (j)).1)), some (.int (iI (moZ g (j)).2)), some (.int (iI (((j) : Nat) : Int)))] [] sh nn V (fun o sh' nn' V' => o = .inl (some (.int (iI ((moZ g 10).1)))) ∧ sh' = sh ∧ nn' = nn ∧ V' = V) := by
  intro n
  induction n with
  | zero => intro j h; omega
  | succ n ih =>
    intro j hn hj
    have h1 := moZ_r g j
    have h9 : 0 ≤ (moZ g j).1 → g (moZ g j).1 ≤ 1000 := fun h => (hr _ h (by omega)).2
    refine TGo.il3 dX10_most_6 rfl ?_
    refine TGo.bip 10 dX10_most_7 (by decide) ?_
    refine TGo.icmp_ge 55 dX10_most_9 (by decide) (by omega) (fun h9 => ?_) (fun h9 => ?_)
    · refine TGo.il1 dX10_most_55 rfl ?_
      refine TGo.iret dX10_most_56 rfl ?_
      obtain rfl : j = 10 := by omega
      exact ⟨rfl, rfl, rfl, rfl⟩
    · have h2 := hr j (by omega) (by omega)
      refine TGo.al0 dX10_most_12 rfl ?_
      refine TGo.getS (t := 18) 50 50 (T + 24) (hT 0 (by decide)) rfl fgX10_109_10 dX10_most_13 rfl rfl rfl ?_
      refine TGo.il3 dX10_most_16 rfl ?_
      refine TGo.iald dX10_most_17 (hT 24 (by decide)) (by omega) rfl ?_
      refine TGo.toz _ (hg _ (by omega) (by omega)) ?_
      refine TGo.il2 dX10_most_18 rfl ?_
      refine TGo.icmp_le 26 dX10_most_19 (by decide) (by omega) (fun h19 => ?_) (fun h19 => ?_)
      · refine TGo.il1 dX10_most_26 rfl ?_
        refine TGo.is1 dX10_most_27 rfl rfl ?_
        refine TGo.al0 dX10_most_28 rfl ?_
        refine TGo.getS (t := 18) 50 50 (T + 24) (hT 0 (by decide)) rfl fgX10_109_10 dX10_most_29 rfl rfl rfl ?_
        refine TGo.il3 dX10_most_32 rfl ?_
        refine TGo.iald dX10_most_33 (hT 24 (by decide)) (by omega) rfl ?_
        refine TGo.toz _ (hg _ (by omega) (by omega)) ?_
        refine TGo.il2 dX10_most_34 rfl ?_
        refine TGo.icmp_le 47 dX10_most_35 (by decide) (by omega) (fun h35 => ?_) (fun h35 => ?_)
        · refine TGo.il2 dX10_most_47 rfl ?_
          refine TGo.is2 dX10_most_48 rfl rfl ?_
          refine TGo.iinc dX10_most_49 rfl rfl rfl ?_
          refine TGo.goto 6 dX10_most_52 (by decide) ?_
          first | (exfalso; omega) | exact TGo.seq [some (.ref T), some (.int (iI (moZ g ((j + 1))).1)), some (.int (iI (moZ g ((j + 1))).2)), some (.int (iI ((((j + 1)) : Nat) : Int)))] [] _ (by rw [moZ]; first | (rw [if_pos (by first | assumption | omega)]; rfl) | (rw [if_neg (by first | assumption | omega)]; rfl)) rfl rfl (ih (j + 1) (by omega) (by omega))
        · refine TGo.al0 dX10_most_38 rfl ?_
          refine TGo.getS (t := 18) 50 50 (T + 24) (hT 0 (by decide)) rfl fgX10_109_10 dX10_most_39 rfl rfl rfl ?_
          refine TGo.il3 dX10_most_42 rfl ?_
          refine TGo.iald dX10_most_43 (hT 24 (by decide)) (by omega) rfl ?_
          refine TGo.toz _ (hg _ (by omega) (by omega)) ?_
          refine TGo.goto 48 dX10_most_44 (by decide) ?_
          refine TGo.is2 dX10_most_48 rfl rfl ?_
          refine TGo.iinc dX10_most_49 rfl rfl rfl ?_
          refine TGo.goto 6 dX10_most_52 (by decide) ?_
          first | (exfalso; omega) | exact TGo.seq [some (.ref T), some (.int (iI (moZ g ((j + 1))).1)), some (.int (iI (moZ g ((j + 1))).2)), some (.int (iI ((((j + 1)) : Nat) : Int)))] [] _ (by rw [moZ]; first | (rw [if_pos (by first | assumption | omega)]; rfl) | (rw [if_neg (by first | assumption | omega)]; rfl)) rfl rfl (ih (j + 1) (by omega) (by omega))
      · refine TGo.il3 dX10_most_22 rfl ?_
        refine TGo.goto 27 dX10_most_23 (by decide) ?_
        refine TGo.is1 dX10_most_27 rfl rfl ?_
        refine TGo.al0 dX10_most_28 rfl ?_
        refine TGo.getS (t := 18) 50 50 (T + 24) (hT 0 (by decide)) rfl fgX10_109_10 dX10_most_29 rfl rfl rfl ?_
        refine TGo.il3 dX10_most_32 rfl ?_
        refine TGo.iald dX10_most_33 (hT 24 (by decide)) (by omega) rfl ?_
        refine TGo.toz _ (hg _ (by omega) (by omega)) ?_
        refine TGo.il2 dX10_most_34 rfl ?_
        refine TGo.icmp_le 47 dX10_most_35 (by decide) (by omega) (fun h35 => ?_) (fun h35 => ?_)
        · refine TGo.il2 dX10_most_47 rfl ?_
          refine TGo.is2 dX10_most_48 rfl rfl ?_
          refine TGo.iinc dX10_most_49 rfl rfl rfl ?_
          refine TGo.goto 6 dX10_most_52 (by decide) ?_
          first | (exfalso; omega) | exact TGo.seq [some (.ref T), some (.int (iI (moZ g ((j + 1))).1)), some (.int (iI (moZ g ((j + 1))).2)), some (.int (iI ((((j + 1)) : Nat) : Int)))] [] _ (by rw [moZ]; first | (rw [if_pos (by first | assumption | omega)]; rfl) | (rw [if_neg (by first | assumption | omega)]; rfl)) rfl rfl (ih (j + 1) (by omega) (by omega))
        · refine TGo.al0 dX10_most_38 rfl ?_
          refine TGo.getS (t := 18) 50 50 (T + 24) (hT 0 (by decide)) rfl fgX10_109_10 dX10_most_39 rfl rfl rfl ?_
          refine TGo.il3 dX10_most_42 rfl ?_
          refine TGo.iald dX10_most_43 (hT 24 (by decide)) (by omega) rfl ?_
          refine TGo.toz _ (hg _ (by omega) (by omega)) ?_
          refine TGo.goto 48 dX10_most_44 (by decide) ?_
          refine TGo.is2 dX10_most_48 rfl rfl ?_
          refine TGo.iinc dX10_most_49 rfl rfl rfl ?_
          refine TGo.goto 6 dX10_most_52 (by decide) ?_
          first | (exfalso; omega) | exact TGo.seq [some (.ref T), some (.int (iI (moZ g ((j + 1))).1)), some (.int (iI (moZ g ((j + 1))).2)), some (.int (iI ((((j + 1)) : Nat) : Int)))] [] _ (by rw [moZ]; first | (rw [if_pos (by first | assumption | omega)]; rfl) | (rw [if_neg (by first | assumption | omega)]; rfl)) rfl rfl (ih (j + 1) (by omega) (by omega))
set_option maxHeartbeats 4000000 in
theorem kX10_most {E : ET} {sh : SHT} {nn : Nat × Nat} {V : VT} {T : Nat} {z : ZT} {g : Int → Int} (hT : MSh T sh) (hz : PE T V z) (hg : ∀ w, 0 ≤ w → w < 10 → V.1 (T + 24) w = g w) (hr : ∀ w, 0 ≤ w → w < 10 → 0 ≤ g w ∧ g w ≤ 1000) : TF E mX10_most 1 [.ref T] sh nn V (.int (iI (moZ g 10).1)) := by
  refine TC.intro [some (.ref T), none, none, none] rfl ?_
  refine TGo.icm1 dX10_most_0 ?_
  refine TGo.is1 dX10_most_1 rfl rfl ?_
  refine TGo.ic0 dX10_most_2 ?_
  refine TGo.is2 dX10_most_3 rfl rfl ?_
  refine TGo.ic0 dX10_most_4 ?_
  refine TGo.is3 dX10_most_5 rfl rfl ?_
  exact lX10_most hT hz hg hr 11 0 (by omega) (by omega)
theorem wdZ_in {f c : Int → Int} {n k : Nat} (h : PlZ f c n) (hk : k < n) (hs : stopZ f c (k + 1) = -1) : 0 ≤ wdZ f c k ∧ wdZ f c k ≤ 9 := by
  have h1 := stopZ_st h k (by omega)
  have h2 := stZ_r h k (by omega)
  have h3 := stopZ_r f c k
  rw [stopZ] at hs
  by_cases e : stopZ f c k = -1
  · rw [if_pos e] at hs
    have h4 := h.2 k (by omega) (by omega)
    have h5 := wZ_r (h.1 (6 * stZ f c k + c (k : Int)) (by omega) (by omega))
    have ew : wdZ f c k = wZ (f (6 * stZ f c k + c (k : Int))) := by unfold wdZ; rw [if_neg (by omega)]
    rw [ew] at hs ⊢
    by_cases e2 : wZ (f (6 * stZ f c k + c (k : Int))) = -1
    · rw [if_pos e2] at hs; omega
    · omega
  · rw [if_neg e] at hs; omega
/-- who says what at the last cue: a part's versions whose holders live, of the first k; how many stopped -/
def vtZ (z : ZT) (p : Int) (n : Nat) : Nat → (Int → Int) × Int
  | 0 => (fun _ => 0, 0)
  | k + 1 => if z.2 3 (262 + 3 * (k : Int)) = p ∧ z.2 3 (238 + 3 * z.2 3 (262 + 3 * (k : Int) + 1)) ≤ z.2 3 7 ∧ z.2 3 7 < z.2 3 (238 + 3 * z.2 3 (262 + 3 * (k : Int) + 1) + 1) then
      (if stopZ (fun r => z.2 3 (298 + 36 * (k : Int) + r)) (fun i => z.2 3 (730 + i)) n = -1 then (zu (vtZ z p n k).1 (wdZ (fun r => z.2 3 (298 + 36 * (k : Int) + r)) (fun i => z.2 3 (730 + i)) (n - 1)) ((vtZ z p n k).1 (wdZ (fun r => z.2 3 (298 + 36 * (k : Int) + r)) (fun i => z.2 3 (730 + i)) (n - 1)) + 1), (vtZ z p n k).2) else ((vtZ z p n k).1, (vtZ z p n k).2 + 1))
    else vtZ z p n k
theorem vtZ_r (z : ZT) (p : Int) (n k : Nat) : (∀ w, 0 ≤ (vtZ z p n k).1 w ∧ (vtZ z p n k).1 w ≤ k) ∧ 0 ≤ (vtZ z p n k).2 ∧ (vtZ z p n k).2 ≤ k := by
  induction k with
  | zero => exact ⟨fun w => ⟨Int.le_refl _, Int.le_refl _⟩, Int.le_refl _, Int.le_refl _⟩
  | succ k ih =>
    rw [vtZ]
    split
    · split
      · refine ⟨fun w => ?_, by simp only; omega⟩
        simp only
        unfold zu
        have h1 := ih.1 w
        have h2 := ih.1 (wdZ (fun r => z.2 3 (298 + 36 * (k : Int) + r)) (fun i => z.2 3 (730 + i)) (n - 1))
        split <;> omega
      · exact ⟨fun w => by have := ih.1 w; simp only; omega, by simp only; omega⟩
    · exact ⟨fun w => by have := ih.1 w; omega, by omega⟩
theorem vtZ_y {z : ZT} {p : Int} {n k : Nat} (h : z.2 3 (262 + 3 * (k : Int)) = p ∧ z.2 3 (238 + 3 * z.2 3 (262 + 3 * (k : Int) + 1)) ≤ z.2 3 7 ∧ z.2 3 7 < z.2 3 (238 + 3 * z.2 3 (262 + 3 * (k : Int) + 1) + 1)) (h2 : stopZ (fun r => z.2 3 (298 + 36 * (k : Int) + r)) (fun i => z.2 3 (730 + i)) n = -1) : vtZ z p n (k + 1) = (zu (vtZ z p n k).1 (wdZ (fun r => z.2 3 (298 + 36 * (k : Int) + r)) (fun i => z.2 3 (730 + i)) (n - 1)) ((vtZ z p n k).1 (wdZ (fun r => z.2 3 (298 + 36 * (k : Int) + r)) (fun i => z.2 3 (730 + i)) (n - 1)) + 1), (vtZ z p n k).2) := by rw [vtZ, if_pos h, if_pos h2]
theorem vtZ_s {z : ZT} {p : Int} {n k : Nat} (h : z.2 3 (262 + 3 * (k : Int)) = p ∧ z.2 3 (238 + 3 * z.2 3 (262 + 3 * (k : Int) + 1)) ≤ z.2 3 7 ∧ z.2 3 7 < z.2 3 (238 + 3 * z.2 3 (262 + 3 * (k : Int) + 1) + 1)) (h2 : stopZ (fun r => z.2 3 (298 + 36 * (k : Int) + r)) (fun i => z.2 3 (730 + i)) n ≠ -1) : vtZ z p n (k + 1) = ((vtZ z p n k).1, (vtZ z p n k).2 + 1) := by rw [vtZ, if_pos h, if_neg h2]
theorem vtZ_n {z : ZT} {p : Int} {n k : Nat} (h : ¬ (z.2 3 (262 + 3 * (k : Int)) = p ∧ z.2 3 (238 + 3 * z.2 3 (262 + 3 * (k : Int) + 1)) ≤ z.2 3 7 ∧ z.2 3 7 < z.2 3 (238 + 3 * z.2 3 (262 + 3 * (k : Int) + 1) + 1))) : vtZ z p n (k + 1) = vtZ z p n k := by rw [vtZ, if_neg h]
def zp_vote (z : ZT) (p w : Int) : Int × ZT :=
  if ¬ ((0 ≤ p ∧ p < z.2 3 0) ∧ (0 ≤ w ∧ w ≤ 2) ∧ z.2 3 5 ≠ 0) then (-1, z) else
    ((if w = 2 then (vtZ z p (z.2 3 5).toNat (z.2 3 2).toNat).2 else if w = 0 ∨ (moZ (vtZ z p (z.2 3 5).toNat (z.2 3 2).toNat).1 10).1 = -1 then (moZ (vtZ z p (z.2 3 5).toNat (z.2 3 2).toNat).1 10).1 else (vtZ z p (z.2 3 5).toNat (z.2 3 2).toNat).1 (moZ (vtZ z p (z.2 3 5).toNat (z.2 3 2).toNat).1 10).1), z)
set_option maxHeartbeats 4000000 in
theorem lX10_vote {E : ET} {sh : SHT} {nn : Nat × Nat} {T : Nat} {z : ZT} {p w : Int} {m n5 : Nat} (hT : MSh T sh) (W : RWZ (z.2 3)) (hp : 0 ≤ p ∧ p < z.2 3 0) (hw : 0 ≤ w ∧ w ≤ 2) (hm : z.2 3 2 = (m : Int)) (h5 : z.2 3 5 = (n5 : Int)) (h50 : 0 < n5) : ∀ (n j : Nat) (V : VT), m - j < n → j ≤ m → PE T V z → (∀ i, 0 ≤ i → i < 10 → V.1 (T + 24) i = (vtZ z p n5 j).1 i) → TGo E mX10_vote 3 68 [some (.ref T), some (.int (iI p)), some (.int (iI w)), some (.int (iI (n5 : Int))), some (.int (iI (vtZ z p n5 (j)).2)), some (.int (iI (((j) : Nat) : Int)))] [] sh nn V (fun o sh' nn' V' => o = .inl (some (.int (iI (if w = 2 then (vtZ z p n5 m).2 else if w = 0 ∨ (moZ (vtZ z p n5 m).1 10).1 = -1 then (moZ (vtZ z p n5 m).1 10).1 else (vtZ z p n5 m).1 (moZ (vtZ z p n5 m).1 10).1)))) ∧ sh' = sh ∧ nn' = nn ∧ PE T V' z) := by
  intro n
  induction n with
  | zero => intro j V h; omega
  | succ n ih =>
    intro j V hn hj hz hx
    have w0 := W.1.1
    have w1 := W.1.2.1
    have w2 := W.1.2.2.1
    have w5 := W.1.2.2.2.2.2.1
    have hv := vtZ_r z p n5 j
    have en : (z.2 3 5).toNat = n5 := by omega
    have wv := fun h => W.2.2.2.2.1 j (by omega) h
    refine TGo.il dX10_vote_68 rfl ?_
    refine TGo.al0 dX10_vote_70 rfl ?_
    refine TGo.getS (t := 18) 3 3 (T + 2) (hT 0 (by decide)) rfl fgX10_13_10 dX10_vote_71 rfl rfl rfl ?_
    refine TGo.ic2 dX10_vote_74 ?_
    refine TGo.iald dX10_vote_75 (hT 2 (by decide)) (by omega) rfl ?_
    refine TGo.toz _ (hz.2.1 3 (by decide) _) ?_
    refine TGo.icmp_ge 173 dX10_vote_76 (by decide) (by omega) (fun h76 => ?_) (fun h76 => ?_)
    · obtain rfl : j = m := by omega
      refine TGo.al0 dX10_vote_173 rfl ?_
      refine TGo.cF (csV0 (y2 := mX10_most) (t := 18) 1 rfl (hT 0 (by decide)) rfl rfl dX10_vote_174 q2442 q2444 qs92 okX10_most npX10_most rfl rfl) (kX10_most (g := (vtZ z p n5 j).1) hT hz hx (fun i h0 h1 => by have := hv.1 i; omega)) ?_
      have hmo := moZ_r (vtZ z p n5 j).1 10
      refine TGo.is dX10_vote_177 rfl rfl ?_
      refine TGo.il2 dX10_vote_179 rfl ?_
      refine TGo.ic2 dX10_vote_180 ?_
      refine TGo.icmp_ne 189 dX10_vote_181 (by decide) (by omega) (fun h181 => ?_) (fun h181 => ?_)
      · refine TGo.il2 dX10_vote_189 rfl ?_
        refine TGo.if_eq 199 dX10_vote_190 (by decide) (by omega) (fun h190 => ?_) (fun h190 => ?_)
        · refine TGo.il dX10_vote_199 rfl ?_
          refine TGo.goto 211 dX10_vote_201 (by decide) ?_
          (try (refine TGo.toz _ (hx _ (by omega) (by omega)) ?_))
          refine TGo.iret dX10_vote_211 rfl ?_
          refine ⟨rvI ?_, rfl, rfl, hz⟩
          first | rw [if_pos (by omega)] | (rw [if_neg (by omega), if_pos (by omega)]) | (rw [if_neg (by omega), if_neg (by omega)])
        · refine TGo.il dX10_vote_193 rfl ?_
          refine TGo.icm1 dX10_vote_195 ?_
          refine TGo.icmp_ne 204 dX10_vote_196 (by decide) (by omega) (fun h196 => ?_) (fun h196 => ?_)
          · refine TGo.al0 dX10_vote_204 rfl ?_
            refine TGo.getS (t := 18) 50 50 (T + 24) (hT 0 (by decide)) rfl fgX10_109_10 dX10_vote_205 rfl rfl rfl ?_
            refine TGo.il dX10_vote_208 rfl ?_
            refine TGo.iald dX10_vote_210 (hT 24 (by decide)) (by omega) rfl ?_
            (try (refine TGo.toz _ (hx _ (by omega) (by omega)) ?_))
            refine TGo.iret dX10_vote_211 rfl ?_
            refine ⟨rvI ?_, rfl, rfl, hz⟩
            first | rw [if_pos (by omega)] | (rw [if_neg (by omega), if_pos (by omega)]) | (rw [if_neg (by omega), if_neg (by omega)])
          · refine TGo.il dX10_vote_199 rfl ?_
            refine TGo.goto 211 dX10_vote_201 (by decide) ?_
            (try (refine TGo.toz _ (hx _ (by omega) (by omega)) ?_))
            refine TGo.iret dX10_vote_211 rfl ?_
            refine ⟨rvI ?_, rfl, rfl, hz⟩
            first | rw [if_pos (by omega)] | (rw [if_neg (by omega), if_pos (by omega)]) | (rw [if_neg (by omega), if_neg (by omega)])
      · refine TGo.il dX10_vote_184 rfl ?_
        refine TGo.goto 211 dX10_vote_186 (by decide) ?_
        (try (refine TGo.toz _ (hx _ (by omega) (by omega)) ?_))
        refine TGo.iret dX10_vote_211 rfl ?_
        refine ⟨rvI ?_, rfl, rfl, hz⟩
        first | rw [if_pos (by omega)] | (rw [if_neg (by omega), if_pos (by omega)]) | (rw [if_neg (by omega), if_neg (by omega)])
    · have wv := wv (by omega)
      refine TGo.al0 dX10_vote_79 rfl ?_
      refine TGo.getS (t := 18) 3 3 (T + 2) (hT 0 (by decide)) rfl fgX10_13_10 dX10_vote_80 rfl rfl rfl ?_
      refine TGo.sip 262 dX10_vote_83 (by decide) ?_
      refine TGo.ic3 dX10_vote_86 ?_
      refine TGo.il dX10_vote_87 rfl ?_
      refine TGo.imul dX10_vote_89 ?_
      refine TGo.iadd dX10_vote_90 ?_
      refine TGo.iald dX10_vote_91 (hT 2 (by decide)) (by omega) rfl ?_
      refine TGo.toz _ (hz.2.1 3 (by decide) _) ?_
      refine TGo.il1 dX10_vote_92 rfl ?_
      refine TGo.icmp_ne 167 dX10_vote_93 (by decide) (by omega) (fun h93 => ?_) (fun h93 => ?_)
      · refine TGo.iinc dX10_vote_167 rfl rfl rfl ?_
        refine TGo.goto 68 dX10_vote_170 (by decide) ?_
        first | (exfalso; omega) | exact TGo.seq [some (.ref T), some (.int (iI p)), some (.int (iI w)), some (.int (iI (n5 : Int))), some (.int (iI (vtZ z p n5 ((j + 1))).2)), some (.int (iI ((((j + 1)) : Nat) : Int)))] [] _ (by first | (rw [vtZ_n (by omega)]; rfl) | (rw [vtZ_s (by omega) (by omega)]; rfl) | (rw [vtZ_y (by omega) (by omega)]; simp only [Int.add_zero]; rfl)) rfl rfl (ih (j + 1) _ (by omega) (by omega) hz (by
          first
          | (rw [vtZ_n (by omega)]; exact hx)
          | (rw [vtZ_s (by omega) (by omega)]; exact fun i h0 h1 => (congrFun (hf121.1 _ (by simp)) _).trans (hx i h0 h1))
          | (rw [vtZ_y (by omega) (by omega)]
             intro i h0 h1
             by_cases e : i = wdZ (fun r => z.2 3 (298 + 36 * (j : Int) + r)) (fun i => z.2 3 (730 + i)) (n5 - 1)
             · rw [e]; exact u2_s.trans zu_s.symm
             · exact (u2_n (Or.inr e)).trans (((congrFun (hf121.1 _ (by simp)) _).trans (hx i h0 h1)).trans (zu_n e).symm))))
      · refine TGo.al0 dX10_vote_96 rfl ?_
        refine TGo.al0 dX10_vote_97 rfl ?_
        refine TGo.getS (t := 18) 3 3 (T + 2) (hT 0 (by decide)) rfl fgX10_13_10 dX10_vote_98 rfl rfl rfl ?_
        refine TGo.sip 262 dX10_vote_101 (by decide) ?_
        refine TGo.ic3 dX10_vote_104 ?_
        refine TGo.il dX10_vote_105 rfl ?_
        refine TGo.imul dX10_vote_107 ?_
        refine TGo.iadd dX10_vote_108 ?_
        refine TGo.ic1 dX10_vote_109 ?_
        refine TGo.iadd dX10_vote_110 ?_
        refine TGo.iald dX10_vote_111 (hT 2 (by decide)) (by omega) rfl ?_
        refine TGo.toz _ (hz.2.1 3 (by decide) _) ?_
        refine TGo.cF (csV1 (y2 := mX10_isAlive) (t := 18) 2 rfl (hT 0 (by decide)) rfl rfl dX10_vote_112 q2121 q2123 qs46 okX10_isAlive npX10_isAlive rfl rfl) (kX10_isAlive hT hz W (by omega)) ?_
        refine TGo.ifb_eq 167 dX10_vote_115 (by decide) (fun h115 => ?_) (fun h115 => ?_)
        · refine TGo.iinc dX10_vote_167 rfl rfl rfl ?_
          refine TGo.goto 68 dX10_vote_170 (by decide) ?_
          first | (exfalso; omega) | exact TGo.seq [some (.ref T), some (.int (iI p)), some (.int (iI w)), some (.int (iI (n5 : Int))), some (.int (iI (vtZ z p n5 ((j + 1))).2)), some (.int (iI ((((j + 1)) : Nat) : Int)))] [] _ (by first | (rw [vtZ_n (by omega)]; rfl) | (rw [vtZ_s (by omega) (by omega)]; rfl) | (rw [vtZ_y (by omega) (by omega)]; simp only [Int.add_zero]; rfl)) rfl rfl (ih (j + 1) _ (by omega) (by omega) hz (by
            first
            | (rw [vtZ_n (by omega)]; exact hx)
            | (rw [vtZ_s (by omega) (by omega)]; exact fun i h0 h1 => (congrFun (hf121.1 _ (by simp)) _).trans (hx i h0 h1))
            | (rw [vtZ_y (by omega) (by omega)]
               intro i h0 h1
               by_cases e : i = wdZ (fun r => z.2 3 (298 + 36 * (j : Int) + r)) (fun i => z.2 3 (730 + i)) (n5 - 1)
               · rw [e]; exact u2_s.trans zu_s.symm
               · exact (u2_n (Or.inr e)).trans (((congrFun (hf121.1 _ (by simp)) _).trans (hx i h0 h1)).trans (zu_n e).symm))))
        · refine TGo.al0 dX10_vote_118 rfl ?_
          refine TGo.il dX10_vote_119 rfl ?_
          refine TGo.cN (csV1 (y2 := mX10_playCues) (t := 18) 2 rfl (hT 0 (by decide)) rfl rfl dX10_vote_121 q2393 q2395 qs86 okX10_playCues npX10_playCues rfl rfl) (kX10_playCues hT hz W (by omega)) (fun V121 h121 => ?_)
          obtain ⟨hz121, hf121, ha121, hb121⟩ := h121
          rw [en] at ha121 hb121
          have hs := stopZ_r (fun r => z.2 3 (298 + 36 * (j : Int) + r)) (fun i => z.2 3 (730 + i)) n5
          have hpl := WPl W (v := (j : Int)) (by omega)
          rw [en] at hpl
          refine TGo.il dX10_vote_124 rfl ?_
          refine TGo.al0 dX10_vote_126 rfl ?_
          refine TGo.getI (t := 18) 37 37 (hT 0 (by decide)) rfl fgX10_483_10 dX10_vote_127 rfl rfl rfl ?_
          refine TGo.toz _ ha121 ?_
          refine TGo.icm1 dX10_vote_130 ?_
          refine TGo.icmp_ne 138 dX10_vote_131 (by decide) (by omega) (fun h131 => ?_) (fun h131 => ?_)
          · refine TGo.ic1 dX10_vote_138 ?_
            refine TGo.iadd dX10_vote_139 ?_
            refine TGo.is dX10_vote_140 rfl rfl ?_
            refine TGo.al0 dX10_vote_142 rfl ?_
            refine TGo.getI (t := 18) 37 37 (hT 0 (by decide)) rfl fgX10_483_10 dX10_vote_143 rfl rfl rfl ?_
            refine TGo.toz _ ha121 ?_
            refine TGo.icm1 dX10_vote_146 ?_
            refine TGo.icmp_ne 167 dX10_vote_147 (by decide) (by omega) (fun h147 => ?_) (fun h147 => ?_)
            · refine TGo.iinc dX10_vote_167 rfl rfl rfl ?_
              refine TGo.goto 68 dX10_vote_170 (by decide) ?_
              first | (exfalso; omega) | exact TGo.seq [some (.ref T), some (.int (iI p)), some (.int (iI w)), some (.int (iI (n5 : Int))), some (.int (iI (vtZ z p n5 ((j + 1))).2)), some (.int (iI ((((j + 1)) : Nat) : Int)))] [] _ (by first | (rw [vtZ_n (by omega)]; rfl) | (rw [vtZ_s (by omega) (by omega)]; rfl) | (rw [vtZ_y (by omega) (by omega)]; simp only [Int.add_zero]; rfl)) rfl rfl (ih (j + 1) _ (by omega) (by omega) hz121 (by
                first
                | (rw [vtZ_n (by omega)]; exact hx)
                | (rw [vtZ_s (by omega) (by omega)]; exact fun i h0 h1 => (congrFun (hf121.1 _ (by simp)) _).trans (hx i h0 h1))
                | (rw [vtZ_y (by omega) (by omega)]
                   intro i h0 h1
                   by_cases e : i = wdZ (fun r => z.2 3 (298 + 36 * (j : Int) + r)) (fun i => z.2 3 (730 + i)) (n5 - 1)
                   · rw [e]; exact u2_s.trans zu_s.symm
                   · exact (u2_n (Or.inr e)).trans (((congrFun (hf121.1 _ (by simp)) _).trans (hx i h0 h1)).trans (zu_n e).symm))))
            · refine TGo.al0 dX10_vote_150 rfl ?_
              refine TGo.getS (t := 18) 50 50 (T + 24) (hT 0 (by decide)) rfl fgX10_109_10 dX10_vote_151 rfl rfl rfl ?_
              refine TGo.al0 dX10_vote_154 rfl ?_
              refine TGo.getS (t := 18) 36 36 (T + 17) (hT 0 (by decide)) rfl fgX10_88_10 dX10_vote_155 rfl rfl rfl ?_
              refine TGo.il3 dX10_vote_158 rfl ?_
              refine TGo.ic1 dX10_vote_159 ?_
              refine TGo.isub dX10_vote_160 ?_
              refine TGo.iald dX10_vote_161 (hT 17 (by decide)) (by omega) rfl ?_
              have ew := hb121 (n5 - 1) (by omega) (by rw [show n5 - 1 + 1 = n5 by omega]; omega)
              rw [show ((n5 - 1 : Nat) : Int) = (n5 : Int) - 1 by omega] at ew
              have er : 0 ≤ wdZ (fun r => z.2 3 (298 + 36 * (j : Int) + r)) (fun i => z.2 3 (730 + i)) (n5 - 1) ∧ wdZ (fun r => z.2 3 (298 + 36 * (j : Int) + r)) (fun i => z.2 3 (730 + i)) (n5 - 1) ≤ 9 := wdZ_in hpl (by omega) (by rw [show n5 - 1 + 1 = n5 by omega]; omega)
              refine TGo.toz _ ew ?_
              refine TGo.dup2 dX10_vote_162 rfl rfl ?_
              refine TGo.iald dX10_vote_163 (hT 24 (by decide)) (by omega) rfl ?_
              refine TGo.toz _ ((congrFun (hf121.1 _ (by simp)) _).trans (hx _ er.1 (by omega))) ?_
              refine TGo.ic1 dX10_vote_164 ?_
              refine TGo.iadd dX10_vote_165 ?_
              refine TGo.iast dX10_vote_166 (hT 24 (by decide)) (by omega) rfl ?_
              refine TGo.iinc dX10_vote_167 rfl rfl rfl ?_
              refine TGo.goto 68 dX10_vote_170 (by decide) ?_
              first | (exfalso; omega) | exact TGo.seq [some (.ref T), some (.int (iI p)), some (.int (iI w)), some (.int (iI (n5 : Int))), some (.int (iI (vtZ z p n5 ((j + 1))).2)), some (.int (iI ((((j + 1)) : Nat) : Int)))] [] _ (by first | (rw [vtZ_n (by omega)]; rfl) | (rw [vtZ_s (by omega) (by omega)]; rfl) | (rw [vtZ_y (by omega) (by omega)]; simp only [Int.add_zero]; rfl)) rfl rfl (ih (j + 1) _ (by omega) (by omega) (hz121.t 24 rfl) (by
                first
                | (rw [vtZ_n (by omega)]; exact hx)
                | (rw [vtZ_s (by omega) (by omega)]; exact fun i h0 h1 => (congrFun (hf121.1 _ (by simp)) _).trans (hx i h0 h1))
                | (rw [vtZ_y (by omega) (by omega)]
                   intro i h0 h1
                   by_cases e : i = wdZ (fun r => z.2 3 (298 + 36 * (j : Int) + r)) (fun i => z.2 3 (730 + i)) (n5 - 1)
                   · rw [e]; exact u2_s.trans zu_s.symm
                   · exact (u2_n (Or.inr e)).trans (((congrFun (hf121.1 _ (by simp)) _).trans (hx i h0 h1)).trans (zu_n e).symm))))
          · refine TGo.ic0 dX10_vote_134 ?_
            refine TGo.goto 139 dX10_vote_135 (by decide) ?_
            refine TGo.iadd dX10_vote_139 ?_
            refine TGo.is dX10_vote_140 rfl rfl ?_
            refine TGo.al0 dX10_vote_142 rfl ?_
            refine TGo.getI (t := 18) 37 37 (hT 0 (by decide)) rfl fgX10_483_10 dX10_vote_143 rfl rfl rfl ?_
            refine TGo.toz _ ha121 ?_
            refine TGo.icm1 dX10_vote_146 ?_
            refine TGo.icmp_ne 167 dX10_vote_147 (by decide) (by omega) (fun h147 => ?_) (fun h147 => ?_)
            · refine TGo.iinc dX10_vote_167 rfl rfl rfl ?_
              refine TGo.goto 68 dX10_vote_170 (by decide) ?_
              first | (exfalso; omega) | exact TGo.seq [some (.ref T), some (.int (iI p)), some (.int (iI w)), some (.int (iI (n5 : Int))), some (.int (iI (vtZ z p n5 ((j + 1))).2)), some (.int (iI ((((j + 1)) : Nat) : Int)))] [] _ (by first | (rw [vtZ_n (by omega)]; rfl) | (rw [vtZ_s (by omega) (by omega)]; rfl) | (rw [vtZ_y (by omega) (by omega)]; simp only [Int.add_zero]; rfl)) rfl rfl (ih (j + 1) _ (by omega) (by omega) hz121 (by
                first
                | (rw [vtZ_n (by omega)]; exact hx)
                | (rw [vtZ_s (by omega) (by omega)]; exact fun i h0 h1 => (congrFun (hf121.1 _ (by simp)) _).trans (hx i h0 h1))
                | (rw [vtZ_y (by omega) (by omega)]
                   intro i h0 h1
                   by_cases e : i = wdZ (fun r => z.2 3 (298 + 36 * (j : Int) + r)) (fun i => z.2 3 (730 + i)) (n5 - 1)
                   · rw [e]; exact u2_s.trans zu_s.symm
                   · exact (u2_n (Or.inr e)).trans (((congrFun (hf121.1 _ (by simp)) _).trans (hx i h0 h1)).trans (zu_n e).symm))))
            · refine TGo.al0 dX10_vote_150 rfl ?_
              refine TGo.getS (t := 18) 50 50 (T + 24) (hT 0 (by decide)) rfl fgX10_109_10 dX10_vote_151 rfl rfl rfl ?_
              refine TGo.al0 dX10_vote_154 rfl ?_
              refine TGo.getS (t := 18) 36 36 (T + 17) (hT 0 (by decide)) rfl fgX10_88_10 dX10_vote_155 rfl rfl rfl ?_
              refine TGo.il3 dX10_vote_158 rfl ?_
              refine TGo.ic1 dX10_vote_159 ?_
              refine TGo.isub dX10_vote_160 ?_
              refine TGo.iald dX10_vote_161 (hT 17 (by decide)) (by omega) rfl ?_
              have ew := hb121 (n5 - 1) (by omega) (by rw [show n5 - 1 + 1 = n5 by omega]; omega)
              rw [show ((n5 - 1 : Nat) : Int) = (n5 : Int) - 1 by omega] at ew
              have er : 0 ≤ wdZ (fun r => z.2 3 (298 + 36 * (j : Int) + r)) (fun i => z.2 3 (730 + i)) (n5 - 1) ∧ wdZ (fun r => z.2 3 (298 + 36 * (j : Int) + r)) (fun i => z.2 3 (730 + i)) (n5 - 1) ≤ 9 := wdZ_in hpl (by omega) (by rw [show n5 - 1 + 1 = n5 by omega]; omega)
              refine TGo.toz _ ew ?_
              refine TGo.dup2 dX10_vote_162 rfl rfl ?_
              refine TGo.iald dX10_vote_163 (hT 24 (by decide)) (by omega) rfl ?_
              refine TGo.toz _ ((congrFun (hf121.1 _ (by simp)) _).trans (hx _ er.1 (by omega))) ?_
              refine TGo.ic1 dX10_vote_164 ?_
              refine TGo.iadd dX10_vote_165 ?_
              refine TGo.iast dX10_vote_166 (hT 24 (by decide)) (by omega) rfl ?_
              refine TGo.iinc dX10_vote_167 rfl rfl rfl ?_
              refine TGo.goto 68 dX10_vote_170 (by decide) ?_
              first | (exfalso; omega) | exact TGo.seq [some (.ref T), some (.int (iI p)), some (.int (iI w)), some (.int (iI (n5 : Int))), some (.int (iI (vtZ z p n5 ((j + 1))).2)), some (.int (iI ((((j + 1)) : Nat) : Int)))] [] _ (by first | (rw [vtZ_n (by omega)]; rfl) | (rw [vtZ_s (by omega) (by omega)]; rfl) | (rw [vtZ_y (by omega) (by omega)]; simp only [Int.add_zero]; rfl)) rfl rfl (ih (j + 1) _ (by omega) (by omega) (hz121.t 24 rfl) (by
                first
                | (rw [vtZ_n (by omega)]; exact hx)
                | (rw [vtZ_s (by omega) (by omega)]; exact fun i h0 h1 => (congrFun (hf121.1 _ (by simp)) _).trans (hx i h0 h1))
                | (rw [vtZ_y (by omega) (by omega)]
                   intro i h0 h1
                   by_cases e : i = wdZ (fun r => z.2 3 (298 + 36 * (j : Int) + r)) (fun i => z.2 3 (730 + i)) (n5 - 1)
                   · rw [e]; exact u2_s.trans zu_s.symm
                   · exact (u2_n (Or.inr e)).trans (((congrFun (hf121.1 _ (by simp)) _).trans (hx i h0 h1)).trans (zu_n e).symm))))
set_option maxHeartbeats 4000000 in
theorem zX10_vote {E : ET} {sh : SHT} {nn : Nat × Nat} {T : Nat} {z : ZT} {p w : Int} {m n5 : Nat} (hT : MSh T sh) (W : RWZ (z.2 3)) (hp : 0 ≤ p ∧ p < z.2 3 0) (hw : 0 ≤ w ∧ w ≤ 2) (hm : z.2 3 2 = (m : Int)) (h5 : z.2 3 5 = (n5 : Int)) (h50 : 0 < n5) : ∀ (n j : Nat) (V : VT), 10 - j < n → j ≤ 10 → PE T V z → (∀ r, 0 ≤ r → r < (j : Int) → V.1 (T + 24) r = 0) → TGo E mX10_vote 3 41 [some (.ref T), some (.int (iI p)), some (.int (iI w)), some (.int (iI (n5 : Int))), some (.int (iI (((j) : Nat) : Int))), none] [] sh nn V (fun o sh' nn' V' => o = .inl (some (.int (iI (if w = 2 then (vtZ z p n5 m).2 else if w = 0 ∨ (moZ (vtZ z p n5 m).1 10).1 = -1 then (moZ (vtZ z p n5 m).1 10).1 else (vtZ z p n5 m).1 (moZ (vtZ z p n5 m).1 10).1)))) ∧ sh' = sh ∧ nn' = nn ∧ PE T V' z) := by
  intro n
  induction n with
  | zero => intro j V h; omega
  | succ n ih =>
    intro j V hn hj hz hx
    refine TGo.il dX10_vote_41 rfl ?_
    refine TGo.bip 10 dX10_vote_43 (by decide) ?_
    refine TGo.icmp_ge 62 dX10_vote_45 (by decide) (by omega) (fun h45 => ?_) (fun h45 => ?_)
    · refine TGo.ic0 dX10_vote_62 ?_
      refine TGo.is dX10_vote_63 rfl rfl ?_
      refine TGo.ic0 dX10_vote_65 ?_
      refine TGo.is dX10_vote_66 rfl rfl ?_
      exact lX10_vote hT W hp hw hm h5 h50 (m + 1) 0 _ (by omega) (by omega) hz (fun r h0 h1 => hx r h0 (by omega))
    · refine TGo.al0 dX10_vote_48 rfl ?_
      refine TGo.getS (t := 18) 50 50 (T + 24) (hT 0 (by decide)) rfl fgX10_109_10 dX10_vote_49 rfl rfl rfl ?_
      refine TGo.il dX10_vote_52 rfl ?_
      refine TGo.ic0 dX10_vote_54 ?_
      refine TGo.iast dX10_vote_55 (hT 24 (by decide)) (by omega) rfl ?_
      refine TGo.iinc dX10_vote_56 rfl rfl rfl ?_
      refine TGo.goto 41 dX10_vote_59 (by decide) ?_
      exact TGo.seq [some (.ref T), some (.int (iI p)), some (.int (iI w)), some (.int (iI (n5 : Int))), some (.int (iI ((((j + 1)) : Nat) : Int))), none] [] _ (rfl) rfl rfl (ih (j + 1) _ (by omega) (by omega) (hz.t 24 rfl) (fun r h0 h1 => by
        by_cases e : r = (j : Int)
        · rw [e]; exact u2_s
        · exact (u2_n (Or.inr e)).trans (hx r h0 (by omega))))
set_option maxHeartbeats 4000000 in
theorem kX10_vote {E : ET} {sh : SHT} {nn : Nat × Nat} {V : VT} {T : Nat} {z : ZT} {p w : Int} (hT : MSh T sh) (hz : PE T V z) (W : RWZ (z.2 3)) (rp : R32 p) (rw : R32 w) : TC E mX10_vote 3 [.ref T, .int (iI p), .int (iI w)] sh nn V (ZP T sh nn (zp_vote z p w)) := by
  have w0 := W.1.1
  have w2 := W.1.2.2.1
  have w5 := W.1.2.2.2.2.2.1
  refine TC.intro [some (.ref T), some (.int (iI p)), some (.int (iI w)), none, none, none] rfl ?_
  refine TGo.al0 dX10_vote_0 rfl ?_
  refine TGo.ic0 dX10_vote_1 ?_
  refine TGo.putI (t := 18) 0 0 (hT 0 (by decide)) rfl fpX10_163_10 dX10_vote_2 rfl rfl rfl ?_
  refine TGo.al0 dX10_vote_5 rfl ?_
  refine TGo.getS (t := 18) 3 3 (T + 2) (hT 0 (by decide)) rfl fgX10_13_10 dX10_vote_6 rfl rfl rfl ?_
  refine TGo.ic5 dX10_vote_9 ?_
  refine TGo.iald dX10_vote_10 (hT 2 (by decide)) (by omega) rfl ?_
  refine TGo.toz _ ((u2_n (Or.inl (by omega))).trans (hz.2.1 3 (by decide) _)) ?_
  refine TGo.is3 dX10_vote_11 rfl rfl ?_
  refine TGo.al0 dX10_vote_12 rfl ?_
  refine TGo.il1 dX10_vote_13 rfl ?_
  refine TGo.cF (csV1 (y2 := mX10_isPart) (t := 18) 2 rfl (hT 0 (by decide)) rfl rfl dX10_vote_14 q2061 q2063 qs40 okX10_isPart npX10_isPart rfl rfl) (kX10_isPart hT (hz.s rfl) w0 (by omega)) ?_
  refine TGo.ifb_eq 36 dX10_vote_17 (by decide) (fun h17 => ?_) (fun h17 => ?_)
  · refine TGo.icm1 dX10_vote_36 ?_
    refine TGo.iret dX10_vote_37 rfl ?_
    first
    | (exfalso; omega)
    | (refine leafZ (hz.s rfl) ?_
       unfold zp_vote
       (repeat (first | rw [if_pos (by first | rfl | assumption | omega)] | rw [if_neg (by first | decide | assumption | omega)]))
       (try first | rfl | rw [bZ_t (by first | assumption | omega)] | rw [bZ_f (by first | assumption | omega)]))
  · refine TGo.il2 dX10_vote_20 rfl ?_
    refine TGo.i2l dX10_vote_21 (by omega) ?_
    refine TGo.lc0 dX10_vote_22 ?_
    refine TGo.ldc2 2 dX10_vote_23 q2284 (by decide) ?_
    refine TGo.cF (csS3 (y2 := mX10_in) 1 rfl dX10_vote_26 q2032 q2033 okX10_in npX10_in rfl rfl) (kX10_in (by omega) (by omega) (by omega)) ?_
    refine TGo.ifb_eq 36 dX10_vote_29 (by decide) (fun h29 => ?_) (fun h29 => ?_)
    · refine TGo.icm1 dX10_vote_36 ?_
      refine TGo.iret dX10_vote_37 rfl ?_
      first
      | (exfalso; omega)
      | (refine leafZ (hz.s rfl) ?_
         unfold zp_vote
         (repeat (first | rw [if_pos (by first | rfl | assumption | omega)] | rw [if_neg (by first | decide | assumption | omega)]))
         (try first | rfl | rw [bZ_t (by first | assumption | omega)] | rw [bZ_f (by first | assumption | omega)]))
    · refine TGo.il3 dX10_vote_32 rfl ?_
      refine TGo.if_ne 38 dX10_vote_33 (by decide) (by omega) (fun h33 => ?_) (fun h33 => ?_)
      · have e5 : z.2 3 5 = (((z.2 3 5).toNat : Nat) : Int) := by omega
        refine TGo.lseq [some (.ref T), some (.int (iI p)), some (.int (iI w)), some (.int (iI (((z.2 3 5).toNat : Nat) : Int))), none, none] (by rw [← e5]; rfl) ?_
        refine TGo.ic0 dX10_vote_38 ?_
        refine TGo.is dX10_vote_39 rfl rfl ?_
        first
        | (exfalso; omega)
        | (refine (zX10_vote (n5 := (z.2 3 5).toNat) (m := (z.2 3 2).toNat) hT W (by omega) (by omega) (by omega) (by omega) (by omega) 11 0 _ (by omega) (by omega) (hz.s rfl) (fun r h0 h1 => by omega)).mono ?_
           rintro o sh' nn' V' ⟨ho, hs, hn, hp⟩
           unfold zp_vote
           rw [if_neg (by omega)]
           exact ⟨ho, hs, hn, hp⟩)
      · refine TGo.icm1 dX10_vote_36 ?_
        refine TGo.iret dX10_vote_37 rfl ?_
        first
        | (exfalso; omega)
        | (refine leafZ (hz.s rfl) ?_
           unfold zp_vote
           (repeat (first | rw [if_pos (by first | rfl | assumption | omega)] | rw [if_neg (by first | decide | assumption | omega)]))
           (try first | rfl | rw [bZ_t (by first | assumption | omega)] | rw [bZ_f (by first | assumption | omega)]))
