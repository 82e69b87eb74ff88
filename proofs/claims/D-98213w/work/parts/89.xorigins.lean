/-! X: drift, origins -/
set_option maxRecDepth 100000
theorem TGo.iushr {E : ET} {y : MI} {d pc : Nat} {ls : LV} {st : List Value} {sh : SHT} {nn : Nat × Nat} {V : VT} {Q : AO → SHT → Nat × Nat → VT → Prop} {x z : Int32} (hd : decode y.2.1 pc = .ok (.iushr, 1)) (k : TGo E y d (pc + 1) ls (.int ((x.toUInt32 >>> (z.toUInt32 &&& Int32.toUInt32 31)).toInt32) :: st) sh nn V Q) : TGo E y d pc ls (.int z :: .int x :: st) sh nn V Q := TGo.pure (fun _ _ => Go.iushr hd) k
theorem leafI {sh : SHT} {nn : Nat × Nat} {V : VT} {a b : Int32} (h : a = b) : (Sum.inl (some (Value.int a)) : AO) = .inl (some (.int b)) ∧ sh = sh ∧ nn = nn ∧ V = V := by subst h; exact ⟨rfl, rfl, rfl, rfl⟩
set_option maxHeartbeats 4000000 in
theorem kJ13_bitCount {E : ET} {sh : SHT} {nn : Nat × Nat} {V : VT} {x : Int} (hx : 0 ≤ x ∧ x < 1024) : TF E mJ13_bitCount 1 [.int (iI x)] sh nn V (.int (iI (pcZ x 10))) := by
  refine TC.intro [some (.int (iI x))] rfl ?_
  refine TGo.il0 dJ13_bitCount_0 rfl ?_
  refine TGo.il0 dJ13_bitCount_1 rfl ?_
  refine TGo.ic1 dJ13_bitCount_2 ?_
  refine TGo.iushr dJ13_bitCount_3 ?_
  refine TGo.tos _ (iI_of _) ?_
  refine TGo.ldcw 1431655765 dJ13_bitCount_4 q1663 (by decide) ?_
  refine TGo.iand dJ13_bitCount_7 ?_
  refine TGo.tos _ (iI_of _) ?_
  refine TGo.isub dJ13_bitCount_8 ?_
  refine TGo.is0 dJ13_bitCount_9 rfl rfl ?_
  refine TGo.il0 dJ13_bitCount_10 rfl ?_
  refine TGo.ldcw 858993459 dJ13_bitCount_11 q1664 (by decide) ?_
  refine TGo.iand dJ13_bitCount_14 ?_
  refine TGo.tos _ (iI_of _) ?_
  refine TGo.il0 dJ13_bitCount_15 rfl ?_
  refine TGo.ic2 dJ13_bitCount_16 ?_
  refine TGo.iushr dJ13_bitCount_17 ?_
  refine TGo.tos _ (iI_of _) ?_
  refine TGo.ldcw 858993459 dJ13_bitCount_18 q1664 (by decide) ?_
  refine TGo.iand dJ13_bitCount_21 ?_
  refine TGo.tos _ (iI_of _) ?_
  refine TGo.iadd dJ13_bitCount_22 ?_
  refine TGo.is0 dJ13_bitCount_23 rfl rfl ?_
  refine TGo.il0 dJ13_bitCount_24 rfl ?_
  refine TGo.il0 dJ13_bitCount_25 rfl ?_
  refine TGo.ic4 dJ13_bitCount_26 ?_
  refine TGo.iushr dJ13_bitCount_27 ?_
  refine TGo.tos _ (iI_of _) ?_
  refine TGo.iadd dJ13_bitCount_28 ?_
  refine TGo.ldcw 252645135 dJ13_bitCount_29 q1665 (by decide) ?_
  refine TGo.iand dJ13_bitCount_32 ?_
  refine TGo.tos _ (iI_of _) ?_
  refine TGo.is0 dJ13_bitCount_33 rfl rfl ?_
  refine TGo.il0 dJ13_bitCount_34 rfl ?_
  refine TGo.il0 dJ13_bitCount_35 rfl ?_
  refine TGo.bip 8 dJ13_bitCount_36 (by decide) ?_
  refine TGo.iushr dJ13_bitCount_38 ?_
  refine TGo.tos _ (iI_of _) ?_
  refine TGo.iadd dJ13_bitCount_39 ?_
  refine TGo.is0 dJ13_bitCount_40 rfl rfl ?_
  refine TGo.il0 dJ13_bitCount_41 rfl ?_
  refine TGo.il0 dJ13_bitCount_42 rfl ?_
  refine TGo.bip 16 dJ13_bitCount_43 (by decide) ?_
  refine TGo.iushr dJ13_bitCount_45 ?_
  refine TGo.tos _ (iI_of _) ?_
  refine TGo.iadd dJ13_bitCount_46 ?_
  refine TGo.is0 dJ13_bitCount_47 rfl rfl ?_
  refine TGo.il0 dJ13_bitCount_48 rfl ?_
  refine TGo.bip 63 dJ13_bitCount_49 (by decide) ?_
  refine TGo.iand dJ13_bitCount_51 ?_
  refine TGo.tos _ (iI_of _) ?_
  refine TGo.iret dJ13_bitCount_52 rfl ?_
  refine leafI ?_
  obtain ⟨n, rfl⟩ : ∃ n : Nat, x = (n : Int) := ⟨x.toNat, by omega⟩
  have hn : n < 1024 := by omega
  clear hx
  revert n
  decide +kernel
set_option maxHeartbeats 4000000 in
theorem kX0_ones {E : ET} {sh : SHT} {nn : Nat × Nat} {V : VT} {x : Int} (hx : 0 ≤ x ∧ x < 1024) : TF E mX0_ones 2 [.int (iI x)] sh nn V (.int (iI (pcZ x 10))) := by
  refine TC.intro [some (.int (iI x))] rfl ?_
  refine TGo.il0 dX0_ones_0 rfl ?_
  refine TGo.cF (csS1 (y2 := mJ13_bitCount) 1 rfl dX0_ones_1 q1660 q1661 okJ13_bitCount npJ13_bitCount rfl rfl) (kJ13_bitCount hx) ?_
  refine TGo.iret dX0_ones_4 rfl ?_
  exact ⟨rfl, rfl, rfl, rfl⟩
abbrev XPL (B : Nat) (nn : Nat × Nat) (x : Int × ZT) : AO → SHT → Nat × Nat → VT → Prop := fun o sh' nn' V' => o = .inl (some (.long (lI x.1))) ∧ XE B sh' nn' V' x.2 ∧ (nn.1 ≤ nn'.1 ∧ nn'.1 ≤ nn.1 + 4000) ∧ nn.2 ≤ nn'.2 ∧ nn'.2 ≤ nn.2 + 40000
theorem XR.sameL {ow : Nat → Nat} {sh : SHT} {nn : Nat × Nat} {V : VT} {B : Nat} {z : ZT} {x : Int × ZT} {r : Int} (h : XR ow sh nn V B z) (hx : x = (r, z)) : XPL B nn x (.inl (some (.long (lI r)))) sh nn V := by
  subst hx
  exact ⟨rfl, ⟨ow, h⟩, ⟨Nat.le_refl _, by omega⟩, Nat.le_refl _, by omega⟩
theorem dvZ_pw {v k s : Int} {m : Nat} (hm : k = (m : Int)) : ∀ n : Nat, dvZ v k s (m + n) = v * s ^ m * (100 - s) ^ n ∧ ∀ i : Nat, i ≤ m → dvZ v k s i = v * s ^ i := by
  have h1 : ∀ i : Nat, i ≤ m → dvZ v k s i = v * s ^ i := by
    intro i
    induction i with
    | zero => intro _; show v = v * s ^ 0; rw [Int.pow_zero, Int.mul_one]
    | succ i ih => intro hi; rw [dvZ, if_pos (by omega), ih (by omega), Int.pow_succ, Int.mul_assoc]
  intro n
  refine ⟨?_, h1⟩
  induction n with
  | zero => rw [Int.pow_zero, Int.mul_one]; exact h1 m (Nat.le_refl _)
  | succ n ih => rw [← Nat.add_assoc, dvZ, if_neg (by omega), ih, Int.pow_succ, Int.mul_assoc (v * s ^ m)]
set_option maxHeartbeats 4000000 in
theorem lX0_choose {E : ET} {sh : SHT} {nn : Nat × Nat} {V : VT}  {n0 k : Int} (hz : True) (hn0 : 0 ≤ n0 ∧ n0 ≤ 6) (hk : 0 ≤ k ∧ k ≤ n0) : ∀ (n j : Nat), k.toNat - j < n → j ≤ k.toNat → TGo E mX0_choose 1 5 [some (.int (iI n0)), some (.int (iI k)), some (.long (lI (chZ n0 k (j)))), none, some (.int (iI (((j) : Nat) + 1 : Int)))] [] sh nn V (fun o sh' nn' V' => o = .inl (some (.long (lI (chZ n0 k k.toNat)))) ∧ sh' = sh ∧ nn' = nn ∧ V' = V) := by
  intro n
  induction n with
  | zero => intro j h; omega
  | succ n ih =>
    intro j hn hj
    have hc := chZ_r hn0 hk j (by omega)
    have hmul : chZ n0 k j * (n0 - k + ((j : Int) + 1)) ≤ 1000 * 20 ∧ 0 ≤ chZ n0 k j * (n0 - k + ((j : Int) + 1)) := ⟨Int.mul_le_mul hc.2 (by omega) (by omega) (by omega), Int.mul_nonneg hc.1 (by omega)⟩
    refine TGo.il dX0_choose_5 rfl ?_
    refine TGo.il1 dX0_choose_7 rfl ?_
    refine TGo.icmp_gt 31 dX0_choose_8 (by decide) (by omega) (fun h8 => ?_) (fun h8 => ?_)
    · refine TGo.ll2 dX0_choose_31 rfl ?_
      refine TGo.lret dX0_choose_32 rfl ?_
      obtain rfl : j = k.toNat := by omega
      exact ⟨rfl, rfl, rfl, rfl⟩
    · refine TGo.ll2 dX0_choose_11 rfl ?_
      refine TGo.il0 dX0_choose_12 rfl ?_
      refine TGo.il1 dX0_choose_13 rfl ?_
      refine TGo.isub dX0_choose_14 ?_
      refine TGo.il dX0_choose_15 rfl ?_
      refine TGo.iadd dX0_choose_17 ?_
      refine TGo.i2l dX0_choose_18 (by omega) ?_
      refine TGo.lmul dX0_choose_19 ?_
      refine TGo.il dX0_choose_20 rfl ?_
      refine TGo.i2l dX0_choose_22 (by omega) ?_
      refine TGo.ldiv dX0_choose_23 (by omega) (by omega) ?_
      refine TGo.ls2 dX0_choose_24 rfl rfl ?_
      refine TGo.iinc dX0_choose_25 rfl rfl rfl ?_
      refine TGo.goto 5 dX0_choose_28 (by decide) ?_
      exact TGo.seq [some (.int (iI n0)), some (.int (iI k)), some (.long (lI (chZ n0 k ((j + 1))))), none, some (.int (iI ((((j + 1)) : Nat) + 1 : Int)))] [] _ (rfl) rfl rfl (ih (j + 1) (by omega) (by omega))
set_option maxHeartbeats 4000000 in
theorem kX0_choose {E : ET} {sh : SHT} {nn : Nat × Nat} {V : VT} {n0 k : Int} (hn0 : 0 ≤ n0 ∧ n0 ≤ 6) (hk : 0 ≤ k ∧ k ≤ n0) : TF E mX0_choose 1 [.int (iI n0), .int (iI k)] sh nn V (.long (lI (chZ n0 k k.toNat))) := by
  refine TC.intro [some (.int (iI n0)), some (.int (iI k)), none, none, none] rfl ?_
  refine TGo.lc1 dX0_choose_0 ?_
  refine TGo.ls2 dX0_choose_1 rfl rfl ?_
  refine TGo.ic1 dX0_choose_2 ?_
  refine TGo.is dX0_choose_3 rfl rfl ?_
  exact lX0_choose trivial hn0 hk (k.toNat + 1) 0 (by omega) (by omega)
set_option maxHeartbeats 4000000 in
theorem lX0_power {E : ET} {sh : SHT} {nn : Nat × Nat} {V : VT}  {v : Int} {m : Nat} (hz : True) (hm : m ≤ 100) : ∀ (n j : Nat), m - j < n → j ≤ m → TGo E mX0_power 1 5 [some (.long (lI v)), none, some (.int (iI (m : Int))), some (.long (lI (v ^ (j)))), none, some (.int (iI (((j) : Nat) : Int)))] [] sh nn V (fun o sh' nn' V' => o = .inl (some (.long (lI (v ^ m)))) ∧ sh' = sh ∧ nn' = nn ∧ V' = V) := by
  intro n
  induction n with
  | zero => intro j h; omega
  | succ n ih =>
    intro j hn hj
    refine TGo.il dX0_power_5 rfl ?_
    refine TGo.il2 dX0_power_7 rfl ?_
    refine TGo.icmp_ge 21 dX0_power_8 (by decide) (by omega) (fun h8 => ?_) (fun h8 => ?_)
    · refine TGo.ll3 dX0_power_21 rfl ?_
      refine TGo.lret dX0_power_22 rfl ?_
      obtain rfl : j = m := by omega
      exact ⟨rfl, rfl, rfl, rfl⟩
    · refine TGo.ll3 dX0_power_11 rfl ?_
      refine TGo.ll0 dX0_power_12 rfl ?_
      refine TGo.lmul dX0_power_13 ?_
      refine TGo.ls3 dX0_power_14 rfl rfl ?_
      refine TGo.iinc dX0_power_15 rfl rfl rfl ?_
      refine TGo.goto 5 dX0_power_18 (by decide) ?_
      exact TGo.seq [some (.long (lI v)), none, some (.int (iI (m : Int))), some (.long (lI (v ^ ((j + 1))))), none, some (.int (iI ((((j + 1)) : Nat) : Int)))] [] _ (by rw [Int.pow_succ]; rfl) rfl rfl (ih (j + 1) (by omega) (by omega))
set_option maxHeartbeats 4000000 in
theorem kX0_power {E : ET} {sh : SHT} {nn : Nat × Nat} {V : VT} {m : Nat} {v : Int} (hm : m ≤ 100) : TF E mX0_power 1 [.long (lI v), .int (iI (m : Int))] sh nn V (.long (lI (v ^ m))) := by
  refine TC.intro [some (.long (lI v)), none, some (.int (iI (m : Int))), none, none, none] rfl ?_
  refine TGo.lc1 dX0_power_0 ?_
  refine TGo.ls3 dX0_power_1 rfl rfl ?_
  refine TGo.ic0 dX0_power_2 ?_
  refine TGo.is dX0_power_3 rfl rfl ?_
  exact TGo.seq [some (.long (lI v)), none, some (.int (iI (m : Int))), some (.long (lI (v ^ 0))), none, some (.int (iI ((0 : Nat) : Int)))] [] _ (by rw [Int.pow_zero]; rfl) rfl rfl (lX0_power trivial hm (m + 1) 0 (by omega) (by omega))
set_option maxHeartbeats 4000000 in
theorem kX0_drift {E : ET} {sh : SHT} {nn : Nat × Nat} {V : VT} {B : Nat} {ow : Nat → Nat} {z : ZT} {n k : Int} (hR : XR ow sh nn V B z) (W : RWZ (z.2 3))  (rn : R32 n) (rk : R32 k) : TC E mX0_drift 2 [.ref B, .int (iI n), .int (iI k)] sh nn V (XPL B nn (zp_drift z n k)) := by
  obtain ⟨hB, -, hc, -⟩ := id hR
  have w9 := W.1.2.2.2.2.2.2.2.2.2
  refine TC.intro [some (.ref B), some (.int (iI n)), some (.int (iI k))] rfl ?_
  refine TGo.il1 dX0_drift_0 rfl ?_
  refine TGo.ic0 dX0_drift_1 ?_
  refine TGo.bip 6 dX0_drift_2 (by decide) ?_
  refine TGo.cF (csS3 (y2 := mX0_in) 1 rfl dX0_drift_4 q598 q599 okX0_in npX0_in rfl rfl) (kX0_in (by omega) (by omega) (by omega)) ?_
  refine TGo.ifb_eq 20 dX0_drift_7 (by decide) (fun h7 => ?_) (fun h7 => ?_)
  · refine TGo.ldc2 (-1) dX0_drift_20 q1628 (by decide) ?_
    refine TGo.lret dX0_drift_23 rfl ?_
    first
    | (exfalso; omega)
    | (refine hR.sameL ?_
       unfold zp_drift
       first
       | (rw [if_pos (by omega)])
       | (rw [if_neg (by omega), if_pos (by omega)])
       | (have q := dvZ_pw (v := chZ n k k.toNat) (s := z.2 3 9) (show k = ((k.toNat : Nat) : Int) by omega) (n - k).toNat
          rw [if_neg (by omega), if_neg (by omega), show n.toNat = k.toNat + (n - k).toNat by omega, q.1]))
  · refine TGo.il2 dX0_drift_10 rfl ?_
    refine TGo.ic0 dX0_drift_11 ?_
    refine TGo.bip 9 dX0_drift_12 (by decide) ?_
    refine TGo.cF (csS3 (y2 := mX0_in) 1 rfl dX0_drift_14 q598 q599 okX0_in npX0_in rfl rfl) (kX0_in (by omega) (by omega) (by omega)) ?_
    refine TGo.ifb_ne 24 dX0_drift_17 (by decide) (fun h17 => ?_) (fun h17 => ?_)
    · refine TGo.il2 dX0_drift_24 rfl ?_
      refine TGo.il1 dX0_drift_25 rfl ?_
      refine TGo.icmp_le 33 dX0_drift_26 (by decide) (by omega) (fun h26 => ?_) (fun h26 => ?_)
      · refine TGo.il1 dX0_drift_33 rfl ?_
        refine TGo.il2 dX0_drift_34 rfl ?_
        refine TGo.cF (csS2 (y2 := mX0_choose) 1 rfl dX0_drift_35 q1629 q1630 okX0_choose npX0_choose rfl rfl) (kX0_choose (by omega) (by omega)) ?_
        refine TGo.al0 dX0_drift_38 rfl ?_
        refine TGo.getS (t := 8) 2 2 (B + 2) (hB 0 (by decide)) rfl fgX0_16_0 dX0_drift_39 rfl rfl rfl ?_
        refine TGo.getS (t := 9) 4 4 (B + 25) (hB 2 (by decide)) rfl fgX0_154_1 dX0_drift_42 rfl rfl rfl ?_
        refine TGo.ic2 dX0_drift_45 ?_
        refine TGo.iald dX0_drift_46 (hB 25 (by decide)) (by omega) rfl ?_
        refine TGo.toz _ (hc.1.2.2.2.2.2.1 _ (by omega) (by omega)) ?_
        refine TGo.toz (z.2 3 9) rfl ?_
        refine TGo.i2l dX0_drift_47 (by omega) ?_
        refine TGo.il2 dX0_drift_48 rfl ?_
        refine TGo.toz ((k.toNat : Nat) : Int) (by omega) ?_
        refine TGo.cF (csS2 (y2 := mX0_power) 1 rfl dX0_drift_49 q1632 q1633 okX0_power npX0_power rfl rfl) (kX0_power (m := k.toNat) (by omega)) ?_
        refine TGo.lmul dX0_drift_52 ?_
        refine TGo.ldc2 100 dX0_drift_53 q1635 (by decide) ?_
        refine TGo.al0 dX0_drift_56 rfl ?_
        refine TGo.getS (t := 8) 2 2 (B + 2) (hB 0 (by decide)) rfl fgX0_16_0 dX0_drift_57 rfl rfl rfl ?_
        refine TGo.getS (t := 9) 4 4 (B + 25) (hB 2 (by decide)) rfl fgX0_154_1 dX0_drift_60 rfl rfl rfl ?_
        refine TGo.ic2 dX0_drift_63 ?_
        refine TGo.iald dX0_drift_64 (hB 25 (by decide)) (by omega) rfl ?_
        refine TGo.toz _ (hc.1.2.2.2.2.2.1 _ (by omega) (by omega)) ?_
        refine TGo.toz (z.2 3 9) rfl ?_
        refine TGo.i2l dX0_drift_65 (by omega) ?_
        refine TGo.lsub dX0_drift_66 ?_
        refine TGo.il1 dX0_drift_67 rfl ?_
        refine TGo.il2 dX0_drift_68 rfl ?_
        refine TGo.isub dX0_drift_69 ?_
        refine TGo.toz (((n - k).toNat : Nat) : Int) (by omega) ?_
        refine TGo.cF (csS2 (y2 := mX0_power) 1 rfl dX0_drift_70 q1632 q1633 okX0_power npX0_power rfl rfl) (kX0_power (m := (n - k).toNat) (by omega)) ?_
        refine TGo.lmul dX0_drift_73 ?_
        refine TGo.lret dX0_drift_74 rfl ?_
        first
        | (exfalso; omega)
        | (refine hR.sameL ?_
           unfold zp_drift
           first
           | (rw [if_pos (by omega)])
           | (rw [if_neg (by omega), if_pos (by omega)])
           | (have q := dvZ_pw (v := chZ n k k.toNat) (s := z.2 3 9) (show k = ((k.toNat : Nat) : Int) by omega) (n - k).toNat
              rw [if_neg (by omega), if_neg (by omega), show n.toNat = k.toNat + (n - k).toNat by omega, q.1]))
      · refine TGo.lc0 dX0_drift_29 ?_
        refine TGo.goto 74 dX0_drift_30 (by decide) ?_
        refine TGo.lret dX0_drift_74 rfl ?_
        first
        | (exfalso; omega)
        | (refine hR.sameL ?_
           unfold zp_drift
           first
           | (rw [if_pos (by omega)])
           | (rw [if_neg (by omega), if_pos (by omega)])
           | (have q := dvZ_pw (v := chZ n k k.toNat) (s := z.2 3 9) (show k = ((k.toNat : Nat) : Int) by omega) (n - k).toNat
              rw [if_neg (by omega), if_neg (by omega), show n.toNat = k.toNat + (n - k).toNat by omega, q.1]))
    · refine TGo.ldc2 (-1) dX0_drift_20 q1628 (by decide) ?_
      refine TGo.lret dX0_drift_23 rfl ?_
      first
      | (exfalso; omega)
      | (refine hR.sameL ?_
         unfold zp_drift
         first
         | (rw [if_pos (by omega)])
         | (rw [if_neg (by omega), if_pos (by omega)])
         | (have q := dvZ_pw (v := chZ n k k.toNat) (s := z.2 3 9) (show k = ((k.toNat : Nat) : Int) by omega) (n - k).toNat
            rw [if_neg (by omega), if_neg (by omega), show n.toNat = k.toNat + (n - k).toNat by omega, q.1]))
theorem hrZ_pos {f : Int → Int} {p a : Int} (n : Nat) (hc : ∀ v : Nat, v < n → -1 ≤ wZ (f (298 + 36 * (v : Int) + a)) ∧ wZ (f (298 + 36 * (v : Int) + a)) ≤ 9) : ∀ k, k ≤ n → 0 < (hrZ f p a k).2 → ∃ i : Nat, i < 10 ∧ 0 < (hrZ f p a k).1 (i : Int) := by
  intro k
  induction k with
  | zero => intro _ h; exact absurd h (by show ¬ (0 : Int) < 0; decide)
  | succ k ih =>
    intro hk h
    have h0 := hrZ_r f p a k
    have h1 := hc k (by omega)
    by_cases e : f (262 + 3 * (k : Int)) = p ∧ wZ (f (298 + 36 * (k : Int) + a)) ≠ -1
    · rw [hrZ, if_pos e]
      refine ⟨(wZ (f (298 + 36 * (k : Int) + a))).toNat, by omega, ?_⟩
      rw [show (((wZ (f (298 + 36 * (k : Int) + a))).toNat : Nat) : Int) = wZ (f (298 + 36 * (k : Int) + a)) by omega]
      show 0 < zu _ _ _ _
      rw [zu_s]
      have := h0.1 (wZ (f (298 + 36 * (k : Int) + a)))
      omega
    · rw [hrZ, if_neg e] at h ⊢
      exact ih (by omega) h
set_option maxHeartbeats 4000000 in
theorem lX0_loudest {E : ET} {sh : SHT} {nn : Nat × Nat} {V : VT} {B : Nat} {g : Int → Int} (hz : XSh B sh) (hg : ∀ w, 0 ≤ w → w < 10 → V.1 (B + 51) w = g w) (hr : ∀ w, 0 ≤ w → w < 10 → 0 ≤ g w ∧ g w ≤ 1000) : ∀ (n j : Nat), 10 - j < n → j ≤ 10 → TGo E mX0_loudest 2 4 [some (.ref B), some (.int (iI (moZ g (j)).2)), some (.int (iI (((j) : Nat) : Int)))] [] sh nn V (fun o sh' nn' V' => o = .inl (some (.int (iI ((moZ g 10).2)))) ∧ sh' = sh ∧ nn' = nn ∧ V' = V) := by
  intro n
  induction n with
  | zero => intro j h; omega
  | succ n ih =>
    intro j hn hj
    have h1 := moZ_r g j
    have h2 := fun (q : (j : Int) < 10) => hr j (by omega) q
    have h3 : (moZ g j).2 ≤ 1000 := by
      by_cases e : (moZ g j).1 = -1
      · have := h1.2.2.2.1 e; omega
      · have q := hr (moZ g j).1 (by omega) (by omega); have := h1.2.2.2.2 (by omega); omega
    refine TGo.il2 dX0_loudest_4 rfl ?_
    refine TGo.bip 10 dX0_loudest_5 (by decide) ?_
    refine TGo.icmp_ge 27 dX0_loudest_7 (by decide) (by omega) (fun h7 => ?_) (fun h7 => ?_)
    · refine TGo.il1 dX0_loudest_27 rfl ?_
      refine TGo.iret dX0_loudest_28 rfl ?_
      obtain rfl : j = 10 := by omega
      exact ⟨rfl, rfl, rfl, rfl⟩
    · have h2 := h2 (by omega)
      refine TGo.il1 dX0_loudest_10 rfl ?_
      refine TGo.al0 dX0_loudest_11 rfl ?_
      refine TGo.getS (t := 8) 13 13 (B + 51) (hz 0 (by decide)) rfl fgX0_65_0 dX0_loudest_12 rfl rfl rfl ?_
      refine TGo.il2 dX0_loudest_15 rfl ?_
      refine TGo.iald dX0_loudest_16 (hz 51 (by decide)) (by omega) rfl ?_
      refine TGo.toz _ (hg _ (by omega) (by omega)) ?_
      refine TGo.mmax dX0_loudest_17 q1652 (by omega) rfl (by omega) ?_
      refine TGo.is1 dX0_loudest_20 rfl rfl ?_
      refine TGo.iinc dX0_loudest_21 rfl rfl rfl ?_
      refine TGo.goto 4 dX0_loudest_24 (by decide) ?_
      exact TGo.seq [some (.ref B), some (.int (iI (moZ g ((j + 1))).2)), some (.int (iI ((((j + 1)) : Nat) : Int)))] [] _ (by rw [show (moZ g (j + 1)).2 = max (moZ g j).2 (g (j : Int)) by rw [moZ]; split <;> (try simp only) <;> omega]; rfl) rfl rfl (ih (j + 1) (by omega) (by omega))
set_option maxHeartbeats 4000000 in
theorem kX0_loudest {E : ET} {sh : SHT} {nn : Nat × Nat} {V : VT} {B : Nat} {g : Int → Int} (hB : XSh B sh) (hg : ∀ w, 0 ≤ w → w < 10 → V.1 (B + 51) w = g w) (hr : ∀ w, 0 ≤ w → w < 10 → 0 ≤ g w ∧ g w ≤ 1000) : TF E mX0_loudest 2 [.ref B] sh nn V (.int (iI (moZ g 10).2)) := by
  refine TC.intro [some (.ref B), none, none] rfl ?_
  refine TGo.ic0 dX0_loudest_0 ?_
  refine TGo.is1 dX0_loudest_1 rfl rfl ?_
  refine TGo.ic0 dX0_loudest_2 ?_
  refine TGo.is2 dX0_loudest_3 rfl rfl ?_
  exact lX0_loudest hB hg hr 11 0 (by omega) (by omega)
set_option maxHeartbeats 4000000 in
theorem lX0_hears {E : ET} {sh : SHT} {nn : Nat × Nat} {B : Nat} {ow : Nat → Nat} {z : ZT} {p a : Int} (W : RWZ (z.2 3)) (hp : 0 ≤ p ∧ p < z.2 3 0) (ha : 0 ≤ a ∧ a < 36) : ∀ (n j : Nat) (V : VT) (x : Option Value), (z.2 3 2).toNat - j < n → j ≤ (z.2 3 2).toNat → XR ow sh nn V B z → (∀ w, 0 ≤ w → w < 10 → V.1 (B + 51) w = (hrZ (z.2 3) p a j).1 w) → TGo E mX0_hears 4 26 [some (.ref B), some (.int (iI p)), some (.int (iI a)), some (.int (iI (hrZ (z.2 3) p a (j)).2)), some (.int (iI (((j) : Nat) : Int))), x] [] sh nn V (fun o sh' nn' V' => ∃ v, o = .inl (some v) ∧ sh' = sh ∧ nn' = nn ∧ (fun v V' => v = .int (iI (hrZ (z.2 3) p a (z.2 3 2).toNat).2) ∧ XR ow sh nn V' B z ∧ ∀ w, 0 ≤ w → w < 10 → V'.1 (B + 51) w = (hrZ (z.2 3) p a (z.2 3 2).toNat).1 w) v V') := by
  intro n
  induction n with
  | zero => intro j V x h; omega
  | succ n ih =>
    intro j V x hn hj hz hx
    obtain ⟨hB, how, hc, -⟩ := id hz
    have hr := hrZ_r (z.2 3) p a j
    have w0 := W.1.1
    have w2 := W.1.2.2.1
    obtain ⟨ap, av, al, cp, cv, cl, gp, gv, gl, hne, ⟨hp1, hp2⟩, ⟨hv1, hv2⟩, hl1, hl2⟩ := id hz.2.2.2.1
    refine TGo.il dX0_hears_26 rfl ?_
    refine TGo.al0 dX0_hears_28 rfl ?_
    refine TGo.getS (t := 8) 2 2 (B + 2) (hB 0 (by decide)) rfl fgX0_16_0 dX0_hears_29 rfl rfl rfl ?_
    refine TGo.getS (t := 9) 6 6 (B + 28) (hB 2 (by decide)) rfl fgX0_136_1 dX0_hears_32 rfl rfl rfl ?_
    refine TGo.cF (csV0 (y2 := mJ2_size) (t := 20) 1 rfl (hB 28 (by decide)) rfl rfl dX0_hears_35 q756 q757 q758 okJ2_size npJ2_size rfl rfl) (kJ2_size hv1.1) ?_
    refine TGo.toz (z.2 3 2) (Int.toNat_of_nonneg (by omega)) ?_
    refine TGo.icmp_ge 110 dX0_hears_38 (by decide) (by omega) (fun h38 => ?_) (fun h38 => ?_)
    · refine TGo.il3 dX0_hears_110 rfl ?_
      refine TGo.iret dX0_hears_111 rfl ?_
      obtain rfl : j = (z.2 3 2).toNat := by omega
      exact ⟨_, rfl, rfl, rfl, rfl, hz, hx⟩
    · obtain ⟨v0, v1, v2, S, v3, v4, v5, v6⟩ := hv2 j (by omega)
      have hwv := W.2.2.2.2.1 (j : Int) (by omega) (by omega)
      have hwc := W.2.2.2.2.2.1 (j : Int) a (by omega) (by omega) ha.1 ha.2
      have hwr := wZ_r hwc
      have hw1 : z.2 3 (298 + 36 * (j : Int) + a) = -1 ↔ wZ (z.2 3 (298 + 36 * (j : Int) + a)) = -1 := by
        have hwc : -1 ≤ z.2 3 (298 + 36 * (j : Int) + a) ∧ z.2 3 (298 + 36 * (j : Int) + a) < 60 := hwc
        unfold wZ; split <;> omega
      refine TGo.al0 dX0_hears_41 rfl ?_
      refine TGo.getS (t := 8) 2 2 (B + 2) (hB 0 (by decide)) rfl fgX0_16_0 dX0_hears_42 rfl rfl rfl ?_
      refine TGo.getS (t := 9) 6 6 (B + 28) (hB 2 (by decide)) rfl fgX0_136_1 dX0_hears_45 rfl rfl rfl ?_
      refine TGo.il dX0_hears_48 rfl ?_
      refine TGo.cF (csV1 (y2 := mJ2_get) (t := 20) 3 rfl (hB 28 (by decide)) rfl rfl dX0_hears_50 q760 q761 q762 okJ2_get npJ2_get rfl rfl) (kJ2_get hv1.1 (k := j) (by omega)) ?_
      refine TGo.castO (t := 35) dX0_hears_53 q774 v1 rfl rfl (Or.inl rfl) ?_
      refine TGo.as dX0_hears_56 rfl rfl ?_
      refine TGo.al dX0_hears_58 rfl ?_
      refine TGo.getI (t := 35) 0 0 v1 rfl fgX0_204_27 dX0_hears_60 rfl rfl rfl ?_
      refine TGo.toz _ (v2.1) ?_
      refine TGo.il1 dX0_hears_63 rfl ?_
      refine TGo.icmp_ne 104 dX0_hears_64 (by decide) (by omega) (fun h64 => ?_) (fun h64 => ?_)
      · refine TGo.iinc dX0_hears_104 rfl rfl rfl ?_
        refine TGo.goto 26 dX0_hears_107 (by decide) ?_
        exact TGo.seq [some (.ref B), some (.int (iI p)), some (.int (iI a)), some (.int (iI (hrZ (z.2 3) p a ((j + 1))).2)), some (.int (iI ((((j + 1)) : Nat) : Int))), _] [] _ (by first | (rw [hrZ, if_pos (by omega)]; rfl) | (rw [hrZ, if_neg (by omega)]; rfl)) rfl rfl (ih (j + 1) _ _ (by omega) (by omega) hz (by
          first
          | (rw [hrZ, if_neg (by omega)]; exact hx)
          | (rw [hrZ, if_pos (by omega)]
             refine fun i i0 i1 => ?_
             by_cases e2 : i = (wZ (z.2 3 (298 + 36 * (j : Int) + a)))
             · rw [e2]; exact u2_s.trans zu_s.symm
             · exact (u2_n (Or.inr e2)).trans ((hx i i0 i1).trans (zu_n e2).symm))))
      · refine TGo.al dX0_hears_67 rfl ?_
        refine TGo.getQ (t := 35) 3 3 S v1 rfl fgX0_145_27 dX0_hears_69 rfl ⟨rfl, v3⟩ rfl ?_
        refine TGo.il2 dX0_hears_72 rfl ?_
        refine TGo.cF (csV1 (y2 := mX2_isHole) (t := 10) 1 rfl v5.1 rfl rfl dX0_hears_73 q1518 q745 q746 okX2_isHole npX2_isHole rfl rfl) (kX2_isHole v5 v6 ha hwc) ?_
        refine TGo.ifb_eq 82 dX0_hears_76 (by decide) (fun h76 => ?_) (fun h76 => ?_)
        · refine TGo.al0 dX0_hears_82 rfl ?_
          refine TGo.getS (t := 8) 13 13 (B + 51) (hB 0 (by decide)) rfl fgX0_65_0 dX0_hears_83 rfl rfl rfl ?_
          refine TGo.al dX0_hears_86 rfl ?_
          refine TGo.getQ (t := 35) 3 3 S v1 rfl fgX0_145_27 dX0_hears_88 rfl ⟨rfl, v3⟩ rfl ?_
          refine TGo.getS (t := 10) 0 0 (S + 1) v5.1 rfl fgX0_187_2 dX0_hears_91 rfl rfl rfl ?_
          refine TGo.il2 dX0_hears_94 rfl ?_
          refine TGo.iald dX0_hears_95 v5.2.1 (by omega) rfl ?_
          refine TGo.toz _ ((show _ = wZ (z.2 3 (298 + 36 * (j : Int) + a)) from (v6 _ (by omega) (by omega)).1)) ?_
          refine TGo.dup2 dX0_hears_96 rfl rfl ?_
          refine TGo.iald dX0_hears_97 (hB 51 (by decide)) (by omega) rfl ?_
          refine TGo.toz _ (hx _ (by omega) (by omega)) ?_
          refine TGo.ic1 dX0_hears_98 ?_
          refine TGo.iadd dX0_hears_99 ?_
          refine TGo.iast dX0_hears_100 (hB 51 (by decide)) (by omega) rfl ?_
          refine TGo.iinc dX0_hears_101 rfl rfl rfl ?_
          refine TGo.iinc dX0_hears_104 rfl rfl rfl ?_
          refine TGo.goto 26 dX0_hears_107 (by decide) ?_
          exact TGo.seq [some (.ref B), some (.int (iI p)), some (.int (iI a)), some (.int (iI (hrZ (z.2 3) p a ((j + 1))).2)), some (.int (iI ((((j + 1)) : Nat) : Int))), _] [] _ (by first | (rw [hrZ, if_pos (by omega)]; rfl) | (rw [hrZ, if_neg (by omega)]; rfl)) rfl rfl (ih (j + 1) _ _ (by omega) (by omega) (hz.wr0 (FrX.rf.i 51 rfl) (hc.sx (by omega)) rfl rfl rfl) (by
            first
            | (rw [hrZ, if_neg (by omega)]; exact hx)
            | (rw [hrZ, if_pos (by omega)]
               refine fun i i0 i1 => ?_
               by_cases e2 : i = (wZ (z.2 3 (298 + 36 * (j : Int) + a)))
               · rw [e2]; exact u2_s.trans zu_s.symm
               · exact (u2_n (Or.inr e2)).trans ((hx i i0 i1).trans (zu_n e2).symm))))
        · refine TGo.goto 104 dX0_hears_79 (by decide) ?_
          refine TGo.iinc dX0_hears_104 rfl rfl rfl ?_
          refine TGo.goto 26 dX0_hears_107 (by decide) ?_
          exact TGo.seq [some (.ref B), some (.int (iI p)), some (.int (iI a)), some (.int (iI (hrZ (z.2 3) p a ((j + 1))).2)), some (.int (iI ((((j + 1)) : Nat) : Int))), _] [] _ (by first | (rw [hrZ, if_pos (by omega)]; rfl) | (rw [hrZ, if_neg (by omega)]; rfl)) rfl rfl (ih (j + 1) _ _ (by omega) (by omega) hz (by
            first
            | (rw [hrZ, if_neg (by omega)]; exact hx)
            | (rw [hrZ, if_pos (by omega)]
               refine fun i i0 i1 => ?_
               by_cases e2 : i = (wZ (z.2 3 (298 + 36 * (j : Int) + a)))
               · rw [e2]; exact u2_s.trans zu_s.symm
               · exact (u2_n (Or.inr e2)).trans ((hx i i0 i1).trans (zu_n e2).symm))))
set_option maxHeartbeats 4000000 in
theorem zX0_hears {E : ET} {sh : SHT} {nn : Nat × Nat} {B : Nat} {ow : Nat → Nat} {z : ZT} {p a : Int} (W : RWZ (z.2 3)) (hp : 0 ≤ p ∧ p < z.2 3 0) (ha : 0 ≤ a ∧ a < 36) : ∀ (n j : Nat) (V : VT), 10 - j < n → j ≤ 10 → XR ow sh nn V B z → (∀ r, 0 ≤ r → r < (j : Int) → V.1 (B + 51) r = 0) → TGo E mX0_hears 4 2 [some (.ref B), some (.int (iI p)), some (.int (iI a)), some (.int (iI (((j) : Nat) : Int))), none, none] [] sh nn V (fun o sh' nn' V' => ∃ v, o = .inl (some v) ∧ sh' = sh ∧ nn' = nn ∧ (fun v V' => v = .int (iI (hrZ (z.2 3) p a (z.2 3 2).toNat).2) ∧ XR ow sh nn V' B z ∧ ∀ w, 0 ≤ w → w < 10 → V'.1 (B + 51) w = (hrZ (z.2 3) p a (z.2 3 2).toNat).1 w) v V') := by
  intro n
  induction n with
  | zero => intro j V h; omega
  | succ n ih =>
    intro j V hn hj hz hx
    obtain ⟨hB, how, hc, -⟩ := id hz
    refine TGo.il3 dX0_hears_2 rfl ?_
    refine TGo.bip 10 dX0_hears_3 (by decide) ?_
    refine TGo.icmp_ge 21 dX0_hears_5 (by decide) (by omega) (fun h5 => ?_) (fun h5 => ?_)
    · refine TGo.ic0 dX0_hears_21 ?_
      refine TGo.is3 dX0_hears_22 rfl rfl ?_
      refine TGo.ic0 dX0_hears_23 ?_
      refine TGo.is dX0_hears_24 rfl rfl ?_
      exact lX0_hears W hp ha ((z.2 3 2).toNat + 1) 0 _ _ (by omega) (by omega) hz (fun r h0 h1 => hx r h0 (by omega))
    · refine TGo.al0 dX0_hears_8 rfl ?_
      refine TGo.getS (t := 8) 13 13 (B + 51) (hB 0 (by decide)) rfl fgX0_65_0 dX0_hears_9 rfl rfl rfl ?_
      refine TGo.il3 dX0_hears_12 rfl ?_
      refine TGo.ic0 dX0_hears_13 ?_
      refine TGo.iast dX0_hears_14 (hB 51 (by decide)) (by omega) rfl ?_
      refine TGo.iinc dX0_hears_15 rfl rfl rfl ?_
      refine TGo.goto 2 dX0_hears_18 (by decide) ?_
      exact TGo.seq [some (.ref B), some (.int (iI p)), some (.int (iI a)), some (.int (iI ((((j + 1)) : Nat) : Int))), none, none] [] _ (rfl) rfl rfl (ih (j + 1) _ (by omega) (by omega) (hz.wr0 (FrX.rf.i 51 rfl) (hc.sx (by omega)) rfl rfl rfl) (fun r h0 h1 => by
        by_cases e : r = (j : Int)
        · rw [e]; exact u2_s
        · exact (u2_n (Or.inr e)).trans (hx r h0 (by omega))))
set_option maxHeartbeats 4000000 in
theorem kX0_hears {E : ET} {sh : SHT} {nn : Nat × Nat} {V : VT} {B : Nat} {ow : Nat → Nat} {z : ZT} {p a : Int} (hR : XR ow sh nn V B z) (W : RWZ (z.2 3)) (hp : 0 ≤ p ∧ p < z.2 3 0) (ha : 0 ≤ a ∧ a < 36) : TS E mX0_hears 4 [.ref B, .int (iI p), .int (iI a)] sh nn V (fun v V' => v = .int (iI (hrZ (z.2 3) p a (z.2 3 2).toNat).2) ∧ XR ow sh nn V' B z ∧ ∀ w, 0 ≤ w → w < 10 → V'.1 (B + 51) w = (hrZ (z.2 3) p a (z.2 3 2).toNat).1 w) := by
  obtain ⟨hB, -, hc, -⟩ := id hR
  refine TC.intro [some (.ref B), some (.int (iI p)), some (.int (iI a)), none, none, none] rfl ?_
  refine TGo.ic0 dX0_hears_0 ?_
  refine TGo.is3 dX0_hears_1 rfl rfl ?_
  exact zX0_hears W hp ha 11 0 _ (by omega) (by omega) hR (fun r h0 h1 => absurd h1 (by omega))
theorem moZ_2 {g : Int → Int} (h : (moZ g 10).1 ≠ -1) : mzZ g = mbZ g (moZ g 10).2 10 := by
  have q := moZ_r g 10
  unfold mzZ
  rw [if_neg h, (q.2.2.2.2 (by omega)).1]
set_option maxHeartbeats 4000000 in
theorem lX0_originOf {E : ET} {sh : SHT} {nn : Nat × Nat} {V : VT} {B : Nat} {g : Int → Int} {p a : Int} (hz : XSh B sh) (hg : ∀ w, 0 ≤ w → w < 10 → V.1 (B + 51) w = g w) (hr : ∀ w, 0 ≤ w → w < 10 → 0 ≤ g w ∧ g w ≤ 1000) : ∀ (n j : Nat), 10 - j < n → j ≤ 10 → TGo E mX0_originOf 5 16 [some (.ref B), some (.int (iI p)), some (.int (iI a)), some (.int (iI (mbZ g (moZ g 10).2 (j)))), some (.int (iI (((j) : Nat) : Int)))] [] sh nn V (fun o sh' nn' V' => o = .inl (some (.int (iI (mbZ g (moZ g 10).2 10)))) ∧ sh' = sh ∧ nn' = nn ∧ V' = V) := by
  intro n
  induction n with
  | zero => intro j h; omega
  | succ n ih =>
    intro j hn hj
    have h1 := mbZ_r g (moZ g 10).2 j
    have h4 := moZ_r g 10
    have h3 : (moZ g 10).2 ≤ 1000 := by
      by_cases e : (moZ g 10).1 = -1
      · have := h4.2.2.2.1 e; omega
      · have q := hr (moZ g 10).1 (by omega) (by omega); have := h4.2.2.2.2 (by omega); omega
    have h2 := fun (q : (j : Int) < 10) => hr j (by omega) q
    refine TGo.il dX0_originOf_16 rfl ?_
    refine TGo.bip 10 dX0_originOf_18 (by decide) ?_
    refine TGo.icmp_ge 54 dX0_originOf_20 (by decide) (by omega) (fun h20 => ?_) (fun h20 => ?_)
    · refine TGo.il3 dX0_originOf_54 rfl ?_
      refine TGo.iret dX0_originOf_55 rfl ?_
      first
      | (exfalso; omega)
      | (obtain rfl : j = 10 := by omega
         exact ⟨rfl, rfl, rfl, rfl⟩)
    · have h2 := h2 (by omega)
      refine TGo.il3 dX0_originOf_23 rfl ?_
      refine TGo.al0 dX0_originOf_24 rfl ?_
      refine TGo.getS (t := 8) 13 13 (B + 51) (hz 0 (by decide)) rfl fgX0_65_0 dX0_originOf_25 rfl rfl rfl ?_
      refine TGo.il dX0_originOf_28 rfl ?_
      refine TGo.iald dX0_originOf_30 (hz 51 (by decide)) (by omega) rfl ?_
      refine TGo.toz _ (hg _ (by omega) (by omega)) ?_
      refine TGo.al0 dX0_originOf_31 rfl ?_
      refine TGo.cF (csV0 (y2 := mX0_loudest) (t := 8) 2 rfl (hz 0 (by decide)) rfl rfl dX0_originOf_32 q1648 q1650 qs30 okX0_loudest npX0_loudest rfl rfl) (kX0_loudest hz hg hr) ?_
      refine TGo.icmp_ne 45 dX0_originOf_35 (by decide) (by omega) (fun h35 => ?_) (fun h35 => ?_)
      · refine TGo.ic0 dX0_originOf_45 ?_
        refine TGo.ior dX0_originOf_46 ?_
        first | (refine TGo.tos _ (iI_or0 _) ?_) | (refine TGo.tos _ (iI_orb h1 (by omega)) ?_)
        refine TGo.is3 dX0_originOf_47 rfl rfl ?_
        refine TGo.iinc dX0_originOf_48 rfl rfl rfl ?_
        refine TGo.goto 16 dX0_originOf_51 (by decide) ?_
        first | (exfalso; omega) | exact TGo.seq [some (.ref B), some (.int (iI p)), some (.int (iI a)), some (.int (iI (mbZ g (moZ g 10).2 ((j + 1))))), some (.int (iI ((((j + 1)) : Nat) : Int)))] [] _ (by rw [mbZ]; first | (rw [if_pos (by first | assumption | omega)]; rfl) | (rw [if_neg (by first | assumption | omega)]; simp only [Int.add_zero]; rfl)) rfl rfl (ih (j + 1) (by omega) (by omega))
      · refine TGo.ic1 dX0_originOf_38 ?_
        refine TGo.il dX0_originOf_39 rfl ?_
        refine TGo.ishl dX0_originOf_41 ?_
        refine TGo.goto 46 dX0_originOf_42 (by decide) ?_
        refine TGo.ior dX0_originOf_46 ?_
        first | (refine TGo.tos _ (iI_or0 _) ?_) | (refine TGo.tos _ (iI_orb h1 (by omega)) ?_)
        refine TGo.is3 dX0_originOf_47 rfl rfl ?_
        refine TGo.iinc dX0_originOf_48 rfl rfl rfl ?_
        refine TGo.goto 16 dX0_originOf_51 (by decide) ?_
        first | (exfalso; omega) | exact TGo.seq [some (.ref B), some (.int (iI p)), some (.int (iI a)), some (.int (iI (mbZ g (moZ g 10).2 ((j + 1))))), some (.int (iI ((((j + 1)) : Nat) : Int)))] [] _ (by rw [mbZ]; first | (rw [if_pos (by first | assumption | omega)]; rfl) | (rw [if_neg (by first | assumption | omega)]; simp only [Int.add_zero]; rfl)) rfl rfl (ih (j + 1) (by omega) (by omega))
set_option maxHeartbeats 4000000 in
theorem kX0_originOf {E : ET} {sh : SHT} {nn : Nat × Nat} {V : VT} {B : Nat} {ow : Nat → Nat} {z : ZT} {p a : Int} (hR : XR ow sh nn V B z) (W : RWZ (z.2 3)) (hp : 0 ≤ p ∧ p < z.2 3 0) (ha : 0 ≤ a ∧ a < 36) : TS E mX0_originOf 5 [.ref B, .int (iI p), .int (iI a)] sh nn V (fun v V' => v = .int (iI (mzZ (hrZ (z.2 3) p a (z.2 3 2).toNat).1)) ∧ XR ow sh nn V' B z ∧ ∀ w, 0 ≤ w → w < 10 → V'.1 (B + 51) w = (hrZ (z.2 3) p a (z.2 3 2).toNat).1 w) := by
  obtain ⟨hB, -, hc, -⟩ := id hR
  have w2 := W.1.2.2.1
  have hr := hrZ_r (z.2 3) p a (z.2 3 2).toNat
  refine TC.intro [some (.ref B), some (.int (iI p)), some (.int (iI a)), none, none] rfl ?_
  refine TGo.al0 dX0_originOf_0 rfl ?_
  refine TGo.il1 dX0_originOf_1 rfl ?_
  refine TGo.il2 dX0_originOf_2 rfl ?_
  refine TGo.cS (csV2 (y2 := mX0_hears) (t := 8) 4 rfl (hB 0 (by decide)) rfl rfl dX0_originOf_3 q1644 q1646 qs29 okX0_hears npX0_hears rfl rfl) (kX0_hears hR W hp ha) (fun v3 V3 h3 => ?_)
  obtain ⟨rfl, hR3, hg3⟩ := h3
  obtain ⟨-, -, hc3, -⟩ := id hR3
  refine TGo.if_ne 11 dX0_originOf_6 (by decide) (by omega) (fun h6 => ?_) (fun h6 => ?_)
  · refine TGo.ic0 dX0_originOf_11 ?_
    refine TGo.is3 dX0_originOf_12 rfl rfl ?_
    refine TGo.ic0 dX0_originOf_13 ?_
    refine TGo.is dX0_originOf_14 rfl rfl ?_
    have e : (moZ (hrZ (z.2 3) p a (z.2 3 2).toNat).1 10).1 ≠ -1 := fun e => by
      obtain ⟨i, i1, i2⟩ := hrZ_pos (f := z.2 3) (p := p) (a := a) (z.2 3 2).toNat (fun v hv => by have q := wZ_r (W.2.2.2.2.2.1 (v : Int) a (by omega) (by omega) ha.1 ha.2); exact ⟨q.1, q.2.1⟩) (z.2 3 2).toNat (Nat.le_refl _) (by omega)
      have := moZ_z 10 e i i1
      omega
    refine (lX0_originOf (g := (hrZ (z.2 3) p a (z.2 3 2).toNat).1) hB hg3 (fun w h0 h1 => by have := hr.1 w; omega) 11 0 (by omega) (by omega)).mono ?_
    rintro o sh' nn' V' ⟨rfl, rfl, rfl, rfl⟩
    exact ⟨_, rfl, rfl, rfl, by rw [moZ_2 e], hR3, hg3⟩
  · refine TGo.ic0 dX0_originOf_9 ?_
    refine TGo.iret dX0_originOf_10 rfl ?_
    have e : (moZ (hrZ (z.2 3) p a (z.2 3 2).toNat).1 10).1 = -1 := by
      have q := moZ_r (hrZ (z.2 3) p a (z.2 3 2).toNat).1 10
      have q2 := hr.2.2.2 (by omega) (moZ (hrZ (z.2 3) p a (z.2 3 2).toNat).1 10).1
      omega
    exact ⟨_, rfl, rfl, rfl, by unfold mzZ; rw [if_pos e], hR3, hg3⟩
set_option maxHeartbeats 4000000 in
theorem kX0_origin {E : ET} {sh : SHT} {nn : Nat × Nat} {V : VT} {B : Nat} {ow : Nat → Nat} {z : ZT} {p a b : Int} (hR : XR ow sh nn V B z) (W : RWZ (z.2 3)) (rp : R32 p) (ra : R32 a) (rb : R32 b) : TC E mX0_origin 6 [.ref B, .int (iI p), .int (iI a), .int (iI b)] sh nn V (XP B nn (zp_origin z p a b)) := by
  obtain ⟨hB, -, hc, -⟩ := id hR
  have w0 := W.1.1
  have w2 := W.1.2.2.1
  obtain ⟨ap, av, al, cp, cv, cl, gp, gv, gl, hne, ⟨hp1, hp2⟩, ⟨hv1, hv2⟩, hl1, hl2⟩ := id hR.2.2.2.1
  refine TC.intro [some (.ref B), some (.int (iI p)), some (.int (iI a)), some (.int (iI b))] rfl ?_
  refine TGo.al0 dX0_origin_0 rfl ?_
  refine TGo.il1 dX0_origin_1 rfl ?_
  refine TGo.cF (csV1 (y2 := mX0_isPart) (t := 8) 2 rfl (hB 0 (by decide)) rfl rfl dX0_origin_2 q721 q723 qs4 okX0_isPart npX0_isPart rfl rfl) (kX0_isPart hB hc w0 (by omega)) ?_
  refine TGo.ifb_eq 30 dX0_origin_5 (by decide) (fun h5 => ?_) (fun h5 => ?_)
  · refine TGo.icm1 dX0_origin_30 ?_
    refine TGo.iret dX0_origin_31 rfl ?_
    first
    | (exfalso; omega)
    | (refine hR.same ?_
       unfold zp_origin
       rw [if_pos (by omega)])
    | (refine hR24.same ?_
       unfold zp_origin
       rw [if_neg (by omega)])
  · refine TGo.il2 dX0_origin_8 rfl ?_
    refine TGo.il3 dX0_origin_9 rfl ?_
    refine TGo.cF (csS2 (y2 := mX0_isRule) 2 rfl dX0_origin_10 q715 q716 okX0_isRule npX0_isRule rfl rfl) (kX0_isRule (by omega) (by omega)) ?_
    refine TGo.ifb_eq 30 dX0_origin_13 (by decide) (fun h13 => ?_) (fun h13 => ?_)
    · refine TGo.icm1 dX0_origin_30 ?_
      refine TGo.iret dX0_origin_31 rfl ?_
      first
      | (exfalso; omega)
      | (refine hR.same ?_
         unfold zp_origin
         rw [if_pos (by omega)])
      | (refine hR24.same ?_
         unfold zp_origin
         rw [if_neg (by omega)])
    · refine TGo.al0 dX0_origin_16 rfl ?_
      refine TGo.il1 dX0_origin_17 rfl ?_
      refine TGo.bip 6 dX0_origin_18 (by decide) ?_
      refine TGo.il2 dX0_origin_20 rfl ?_
      refine TGo.imul dX0_origin_21 ?_
      refine TGo.il3 dX0_origin_22 rfl ?_
      refine TGo.iadd dX0_origin_23 ?_
      refine TGo.cS (csV2 (y2 := mX0_originOf) (t := 8) 5 rfl (hB 0 (by decide)) rfl rfl dX0_origin_24 q1640 q1642 qs28 okX0_originOf npX0_originOf rfl rfl) (kX0_originOf hR W (by omega) (by omega)) (fun v24 V24 h24 => ?_)
      obtain ⟨rfl, hR24, hg24⟩ := h24
      obtain ⟨-, -, hc24, -⟩ := id hR24
      refine TGo.goto 31 dX0_origin_27 (by decide) ?_
      refine TGo.iret dX0_origin_31 rfl ?_
      first
      | (exfalso; omega)
      | (refine hR.same ?_
         unfold zp_origin
         rw [if_pos (by omega)])
      | (refine hR24.same ?_
         unfold zp_origin
         rw [if_neg (by omega)])
theorem ogZ_b (f : Int → Int) (p : Int) (m : Nat) (hm : m ≤ 12) (hc : ∀ v : Nat, v < m → ∀ a, 0 ≤ a → a < 36 → cOK (f (298 + 36 * (v : Int) + a))) : ∀ r : Nat, r ≤ 36 → (1 ≤ (ogZ f p m r).2 ∧ (ogZ f p m r).2 ≤ 1000000000000000000) ∧ -(24 * r : Int) ≤ (ogZ f p m r).1 ∧ (ogZ f p m r).1 ≤ 24 * r := by
  intro r
  induction r with
  | zero => intro _; exact ⟨⟨(by decide : (1 : Int) ≤ 1), (by decide : (1 : Int) ≤ 1000000000000000000)⟩, (by decide : -(24 * ((0 : Nat) : Int)) ≤ 0), (by decide : (0 : Int) ≤ 24 * ((0 : Nat) : Int))⟩
  | succ r ih =>
    intro hr
    have h1 := ih (by omega)
    have h2 := hrZ_r f p (r : Int) m
    rw [ogZ]
    split
    · rename_i hq
      obtain ⟨i, i1, i2⟩ := hrZ_pos (f := f) (p := p) (a := (r : Int)) m (fun v hv => by have q := wZ_r (hc v hv (r : Int) (by omega) (by omega)); exact ⟨q.1, q.2.1⟩) m (Nat.le_refl _) hq
      have e : (moZ (hrZ f p (r : Int) m).1 10).1 ≠ -1 := fun e => by have := moZ_z 10 e i i1; omega
      have q3 := moZ_r (hrZ f p (r : Int) m).1 10
      have q4 := pcZ_mz (g := (hrZ f p (r : Int) m).1) (by omega)
      have q5 := pcZ_r (mzZ (hrZ f p (r : Int) m).1) 10
      have q6 := h2.1 (moZ (hrZ f p (r : Int) m).1 10).1
      exact ⟨wayZ_r h1.1 (by omega), by simp only; omega, by simp only; omega⟩
    · omega
set_option maxHeartbeats 4000000 in
theorem lX0_origins {E : ET} {sh : SHT} {nn : Nat × Nat} {B : Nat} {ow : Nat → Nat} {z : ZT} {p w : Int} (W : RWZ (z.2 3)) (hp : 0 ≤ p ∧ p < z.2 3 0) (hw : 0 ≤ w ∧ w ≤ 1) : ∀ (n j : Nat) (V : VT) (x y : Option Value), 36 - j < n → j ≤ 36 → XR ow sh nn V B z → TGo E mX0_origins 6 29 [some (.ref B), some (.int (iI p)), some (.int (iI w)), some (.long (lI (ogZ (z.2 3) p (z.2 3 2).toNat (j)).1)), none, some (.long (lI (ogZ (z.2 3) p (z.2 3 2).toNat (j)).2)), none, some (.int (iI (((j) : Nat) : Int))), x, y] [] sh nn V (XPL B nn (zp_origins z p w)) := by
  intro n
  induction n with
  | zero => intro j V x y h; omega
  | succ n ih =>
    intro j V x y hn hj hz
    obtain ⟨hB, how, hc, -⟩ := id hz
    have w0 := W.1.1
    have w2 := W.1.2.2.1
    have ht1 : (1000000000000000000 : Int).tdiv 1 = 1000000000000000000 := by decide
    have hr3 := hrZ_r (z.2 3) p (j : Int) (z.2 3 2).toNat
    have hc3 := fun (v : Nat) (hv : v < (z.2 3 2).toNat) (a : Int) (h0 : 0 ≤ a) (h1 : a < 36) => W.2.2.2.2.2.1 (v : Int) a (by omega) (by omega) h0 h1
    have hog := ogZ_b (z.2 3) p (z.2 3 2).toNat (by omega) hc3 j hj
    have hmo := moZ_r (hrZ (z.2 3) p (j : Int) (z.2 3 2).toNat).1 10
    have hpc := pcZ_r (mzZ (hrZ (z.2 3) p (j : Int) (z.2 3 2).toNat).1) 10
    have hmz := mzZ_r (hrZ (z.2 3) p (j : Int) (z.2 3 2).toNat).1
    have hm2 : (hrZ (z.2 3) p (j : Int) (z.2 3 2).toNat).2 = 0 → (moZ (hrZ (z.2 3) p (j : Int) (z.2 3 2).toNat).1 10).2 = 0 := fun e => by
      have q2 := hr3.2.2.2 e (moZ (hrZ (z.2 3) p (j : Int) (z.2 3 2).toNat).1 10).1
      by_cases e2 : (moZ (hrZ (z.2 3) p (j : Int) (z.2 3 2).toNat).1 10).1 = -1
      · exact hmo.2.2.2.1 e2
      · have := hmo.2.2.2.2 (by omega); omega
    have hps (hq : (j : Int) < 36) : 0 < (hrZ (z.2 3) p (j : Int) (z.2 3 2).toNat).2 → (moZ (hrZ (z.2 3) p (j : Int) (z.2 3 2).toNat).1 10).2 = (hrZ (z.2 3) p (j : Int) (z.2 3 2).toNat).1 (moZ (hrZ (z.2 3) p (j : Int) (z.2 3 2).toNat).1 10).1 ∧ 1 ≤ pcZ (mzZ (hrZ (z.2 3) p (j : Int) (z.2 3 2).toNat).1) 10 := fun e => by
      obtain ⟨i, i1, i2⟩ := hrZ_pos (f := z.2 3) (p := p) (a := (j : Int)) (z.2 3 2).toNat (fun v hv => by have q := wZ_r (hc3 v hv (j : Int) (by omega) (by omega)); exact ⟨q.1, q.2.1⟩) (z.2 3 2).toNat (Nat.le_refl _) e
      have e2 : (moZ (hrZ (z.2 3) p (j : Int) (z.2 3 2).toNat).1 10).1 ≠ -1 := fun e => by have := moZ_z 10 e i i1; omega
      exact ⟨(hmo.2.2.2.2 (by omega)).1, pcZ_mz (by omega)⟩
    have hb10 : (moZ (hrZ (z.2 3) p (j : Int) (z.2 3 2).toNat).1 10).2 ≤ 12 := by
      by_cases e2 : (moZ (hrZ (z.2 3) p (j : Int) (z.2 3 2).toNat).1 10).1 = -1
      · have := hmo.2.2.2.1 e2; omega
      · have q := hr3.1 (moZ (hrZ (z.2 3) p (j : Int) (z.2 3 2).toNat).1 10).1; have := hmo.2.2.2.2 (by omega); omega
    refine TGo.il dX0_origins_29 rfl ?_
    refine TGo.bip 36 dX0_origins_31 (by decide) ?_
    refine TGo.icmp_ge 110 dX0_origins_33 (by decide) (by omega) (fun h33 => ?_) (fun h33 => ?_)
    · refine TGo.il2 dX0_origins_110 rfl ?_
      refine TGo.if_ne 118 dX0_origins_111 (by decide) (by omega) (fun h111 => ?_) (fun h111 => ?_)
      · refine TGo.ll dX0_origins_118 rfl ?_
        refine TGo.lret dX0_origins_120 rfl ?_
        obtain rfl : j = 36 := by omega
        refine hz.sameL ?_
        unfold zp_origins
        rw [if_neg (by omega)]
        first | (rw [if_pos (by omega)]) | (rw [if_neg (by omega)])
      · refine TGo.ll3 dX0_origins_114 rfl ?_
        refine TGo.goto 120 dX0_origins_115 (by decide) ?_
        refine TGo.lret dX0_origins_120 rfl ?_
        obtain rfl : j = 36 := by omega
        refine hz.sameL ?_
        unfold zp_origins
        rw [if_neg (by omega)]
        first | (rw [if_pos (by omega)]) | (rw [if_neg (by omega)])
    · have hps := hps (by omega)
      refine TGo.al0 dX0_origins_36 rfl ?_
      refine TGo.il1 dX0_origins_37 rfl ?_
      refine TGo.il dX0_origins_38 rfl ?_
      refine TGo.cS (csV2 (y2 := mX0_hears) (t := 8) 4 rfl (hB 0 (by decide)) rfl rfl dX0_origins_40 q1644 q1646 qs29 okX0_hears npX0_hears rfl rfl) (kX0_hears hz W hp (by omega)) (fun v40 V40 h40 => ?_)
      obtain ⟨rfl, hR40, hg40⟩ := h40
      obtain ⟨-, -, hc40, -⟩ := id hR40
      refine TGo.is dX0_origins_43 rfl rfl ?_
      refine TGo.ll3 dX0_origins_45 rfl ?_
      refine TGo.il dX0_origins_46 rfl ?_
      refine TGo.al0 dX0_origins_48 rfl ?_
      refine TGo.cF (csV0 (y2 := mX0_loudest) (t := 8) 2 rfl (hB 0 (by decide)) rfl rfl dX0_origins_49 q1648 q1650 qs30 okX0_loudest npX0_loudest rfl rfl) (kX0_loudest hB hg40 (fun w h0 h1 => by have := hr3.1 w; omega)) ?_
      refine TGo.isub dX0_origins_52 ?_
      refine TGo.i2l dX0_origins_53 (by omega) ?_
      refine TGo.ladd dX0_origins_54 ?_
      refine TGo.ls3 dX0_origins_55 rfl rfl ?_
      refine TGo.il dX0_origins_56 rfl ?_
      refine TGo.if_ne 65 dX0_origins_58 (by decide) (by omega) (fun h58 => ?_) (fun h58 => ?_)
      · refine TGo.al0 dX0_origins_65 rfl ?_
        refine TGo.il1 dX0_origins_66 rfl ?_
        refine TGo.il dX0_origins_67 rfl ?_
        refine TGo.cS (csV2 (y2 := mX0_originOf) (t := 8) 5 rfl (hB 0 (by decide)) rfl rfl dX0_origins_69 q1640 q1642 qs28 okX0_originOf npX0_originOf rfl rfl) (kX0_originOf hR40 W hp (by omega)) (fun v69 V69 h69 => ?_)
        obtain ⟨rfl, hR69, hg69⟩ := h69
        obtain ⟨-, -, hc69, -⟩ := id hR69
        refine TGo.cF (csS1 (y2 := mX0_ones) 2 rfl dX0_origins_72 q1657 q1658 okX0_ones npX0_ones rfl rfl) (kX0_ones (by omega)) ?_
        refine TGo.is dX0_origins_75 rfl rfl ?_
        have htd := tdiv_r (n := (pcZ (mzZ (hrZ (z.2 3) p (j : Int) (z.2 3 2).toNat).1) 10)) (by omega)
        have hwm : 0 ≤ (ogZ (z.2 3) p (z.2 3 2).toNat j).2 * (pcZ (mzZ (hrZ (z.2 3) p (j : Int) (z.2 3 2).toNat).1) 10) ∧ (ogZ (z.2 3) p (z.2 3 2).toNat j).2 * (pcZ (mzZ (hrZ (z.2 3) p (j : Int) (z.2 3 2).toNat).1) 10) ≤ 10000000000000000000 := ⟨Int.mul_nonneg (by omega) (by omega), by have := Int.mul_le_mul hog.1.2 (show (pcZ (mzZ (hrZ (z.2 3) p (j : Int) (z.2 3 2).toNat).1) 10) ≤ 10 by omega) (by omega) (by omega); omega⟩
        refine TGo.ll dX0_origins_77 rfl ?_
        refine TGo.ldc2 1000000000000000000 dX0_origins_79 q1666 (by decide) ?_
        refine TGo.il dX0_origins_82 rfl ?_
        refine TGo.i2l dX0_origins_84 (by omega) ?_
        refine TGo.ldiv dX0_origins_85 (by omega) (by omega) ?_
        refine TGo.lc_le 96 dX0_origins_86 dX0_origins_87 (by decide) (by omega) (fun h86 => ?_) (fun h86 => ?_)
        · refine TGo.ll dX0_origins_96 rfl ?_
          refine TGo.il dX0_origins_98 rfl ?_
          refine TGo.i2l dX0_origins_100 (by omega) ?_
          refine TGo.lmul dX0_origins_101 ?_
          refine TGo.ls dX0_origins_102 rfl rfl ?_
          refine TGo.iinc dX0_origins_104 rfl rfl rfl ?_
          refine TGo.goto 29 dX0_origins_107 (by decide) ?_
          have e : (ogZ (z.2 3) p (z.2 3 2).toNat (j + 1)) = ((ogZ (z.2 3) p (z.2 3 2).toNat j).1 + ((hrZ (z.2 3) p (j : Int) (z.2 3 2).toNat).2 - (moZ (hrZ (z.2 3) p (j : Int) (z.2 3 2).toNat).1 10).2), (ogZ (z.2 3) p (z.2 3 2).toNat j).2 * (pcZ (mzZ (hrZ (z.2 3) p (j : Int) (z.2 3 2).toNat).1) 10)) := by
            refine Prod.ext ?_ ?_
            · rw [ogZ, if_pos (by omega)]
              show (ogZ (z.2 3) p (z.2 3 2).toNat j).1 + ((hrZ (z.2 3) p (j : Int) (z.2 3 2).toNat).2 - (hrZ (z.2 3) p (j : Int) (z.2 3 2).toNat).1 (moZ (hrZ (z.2 3) p (j : Int) (z.2 3 2).toNat).1 10).1) = (ogZ (z.2 3) p (z.2 3 2).toNat j).1 + ((hrZ (z.2 3) p (j : Int) (z.2 3 2).toNat).2 - (moZ (hrZ (z.2 3) p (j : Int) (z.2 3 2).toNat).1 10).2)
              omega
            · rw [ogZ, if_pos (by omega)]
              show wayZ _ _ = _
              unfold wayZ
              first | rw [if_pos (by omega)] | rw [if_neg (by omega)]
          exact TGo.seq [some (.ref B), some (.int (iI p)), some (.int (iI w)), some (.long (lI (ogZ (z.2 3) p (z.2 3 2).toNat ((j + 1))).1)), none, some (.long (lI (ogZ (z.2 3) p (z.2 3 2).toNat ((j + 1))).2)), none, some (.int (iI ((((j + 1)) : Nat) : Int))), _, _] [] _ (by rw [e]; rfl) rfl rfl (ih (j + 1) _ _ _ (by omega) (by omega) hR69)
        · refine TGo.ldc2 1000000000000000000 dX0_origins_90 q1666 (by decide) ?_
          refine TGo.goto 102 dX0_origins_93 (by decide) ?_
          refine TGo.ls dX0_origins_102 rfl rfl ?_
          refine TGo.iinc dX0_origins_104 rfl rfl rfl ?_
          refine TGo.goto 29 dX0_origins_107 (by decide) ?_
          have e : (ogZ (z.2 3) p (z.2 3 2).toNat (j + 1)) = ((ogZ (z.2 3) p (z.2 3 2).toNat j).1 + ((hrZ (z.2 3) p (j : Int) (z.2 3 2).toNat).2 - (moZ (hrZ (z.2 3) p (j : Int) (z.2 3 2).toNat).1 10).2), 1000000000000000000) := by
            refine Prod.ext ?_ ?_
            · rw [ogZ, if_pos (by omega)]
              show (ogZ (z.2 3) p (z.2 3 2).toNat j).1 + ((hrZ (z.2 3) p (j : Int) (z.2 3 2).toNat).2 - (hrZ (z.2 3) p (j : Int) (z.2 3 2).toNat).1 (moZ (hrZ (z.2 3) p (j : Int) (z.2 3 2).toNat).1 10).1) = (ogZ (z.2 3) p (z.2 3 2).toNat j).1 + ((hrZ (z.2 3) p (j : Int) (z.2 3 2).toNat).2 - (moZ (hrZ (z.2 3) p (j : Int) (z.2 3 2).toNat).1 10).2)
              omega
            · rw [ogZ, if_pos (by omega)]
              show wayZ _ _ = _
              unfold wayZ
              first | rw [if_pos (by omega)] | rw [if_neg (by omega)]
          exact TGo.seq [some (.ref B), some (.int (iI p)), some (.int (iI w)), some (.long (lI (ogZ (z.2 3) p (z.2 3 2).toNat ((j + 1))).1)), none, some (.long (lI (ogZ (z.2 3) p (z.2 3 2).toNat ((j + 1))).2)), none, some (.int (iI ((((j + 1)) : Nat) : Int))), _, _] [] _ (by rw [e]; rfl) rfl rfl (ih (j + 1) _ _ _ (by omega) (by omega) hR69)
      · refine TGo.ic1 dX0_origins_61 ?_
        refine TGo.goto 75 dX0_origins_62 (by decide) ?_
        refine TGo.is dX0_origins_75 rfl rfl ?_
        have htd := tdiv_r (n := (1 : Int)) (by omega)
        have hwm : 0 ≤ (ogZ (z.2 3) p (z.2 3 2).toNat j).2 * (1 : Int) ∧ (ogZ (z.2 3) p (z.2 3 2).toNat j).2 * (1 : Int) ≤ 10000000000000000000 := ⟨Int.mul_nonneg (by omega) (by omega), by have := Int.mul_le_mul hog.1.2 (show (1 : Int) ≤ 10 by omega) (by omega) (by omega); omega⟩
        refine TGo.ll dX0_origins_77 rfl ?_
        refine TGo.ldc2 1000000000000000000 dX0_origins_79 q1666 (by decide) ?_
        refine TGo.il dX0_origins_82 rfl ?_
        refine TGo.i2l dX0_origins_84 (by omega) ?_
        refine TGo.ldiv dX0_origins_85 (by omega) (by omega) ?_
        refine TGo.lc_le 96 dX0_origins_86 dX0_origins_87 (by decide) (by omega) (fun h86 => ?_) (fun h86 => ?_)
        · refine TGo.ll dX0_origins_96 rfl ?_
          refine TGo.il dX0_origins_98 rfl ?_
          refine TGo.i2l dX0_origins_100 (by omega) ?_
          refine TGo.lmul dX0_origins_101 ?_
          refine TGo.ls dX0_origins_102 rfl rfl ?_
          refine TGo.iinc dX0_origins_104 rfl rfl rfl ?_
          refine TGo.goto 29 dX0_origins_107 (by decide) ?_
          have e : (ogZ (z.2 3) p (z.2 3 2).toNat (j + 1)) = ((ogZ (z.2 3) p (z.2 3 2).toNat j).1 + ((hrZ (z.2 3) p (j : Int) (z.2 3 2).toNat).2 - (moZ (hrZ (z.2 3) p (j : Int) (z.2 3 2).toNat).1 10).2), (ogZ (z.2 3) p (z.2 3 2).toNat j).2 * (1 : Int)) := by
            refine Prod.ext ?_ ?_
            · rw [ogZ, if_neg (by omega)]
              show _ = (ogZ (z.2 3) p (z.2 3 2).toNat j).1 + ((hrZ (z.2 3) p (j : Int) (z.2 3 2).toNat).2 - (moZ (hrZ (z.2 3) p (j : Int) (z.2 3 2).toNat).1 10).2)
              omega
            · rw [ogZ, if_neg (by omega)]
              show _ = (ogZ (z.2 3) p (z.2 3 2).toNat j).2 * 1
              omega
          exact TGo.seq [some (.ref B), some (.int (iI p)), some (.int (iI w)), some (.long (lI (ogZ (z.2 3) p (z.2 3 2).toNat ((j + 1))).1)), none, some (.long (lI (ogZ (z.2 3) p (z.2 3 2).toNat ((j + 1))).2)), none, some (.int (iI ((((j + 1)) : Nat) : Int))), _, _] [] _ (by rw [e]; rfl) rfl rfl (ih (j + 1) _ _ _ (by omega) (by omega) hR40)
        · refine TGo.ldc2 1000000000000000000 dX0_origins_90 q1666 (by decide) ?_
          refine TGo.goto 102 dX0_origins_93 (by decide) ?_
          refine TGo.ls dX0_origins_102 rfl rfl ?_
          refine TGo.iinc dX0_origins_104 rfl rfl rfl ?_
          refine TGo.goto 29 dX0_origins_107 (by decide) ?_
          exfalso; omega
set_option maxHeartbeats 4000000 in
theorem kX0_origins {E : ET} {sh : SHT} {nn : Nat × Nat} {V : VT} {B : Nat} {ow : Nat → Nat} {z : ZT} {p w : Int} (hR : XR ow sh nn V B z) (W : RWZ (z.2 3))  (rp : R32 p) (rw : R32 w) : TC E mX0_origins 6 [.ref B, .int (iI p), .int (iI w)] sh nn V (XPL B nn (zp_origins z p w)) := by
  obtain ⟨hB, -, hc, -⟩ := id hR
  have w0 := W.1.1
  refine TC.intro [some (.ref B), some (.int (iI p)), some (.int (iI w)), none, none, none, none, none, none, none] rfl ?_
  refine TGo.al0 dX0_origins_0 rfl ?_
  refine TGo.il1 dX0_origins_1 rfl ?_
  refine TGo.cF (csV1 (y2 := mX0_isPart) (t := 8) 2 rfl (hB 0 (by decide)) rfl rfl dX0_origins_2 q721 q723 qs4 okX0_isPart npX0_isPart rfl rfl) (kX0_isPart hB hc w0 (by omega)) ?_
  refine TGo.ifb_eq 17 dX0_origins_5 (by decide) (fun h5 => ?_) (fun h5 => ?_)
  · refine TGo.ldc2 (-1) dX0_origins_17 q1628 (by decide) ?_
    refine TGo.lret dX0_origins_20 rfl ?_
    first
    | (exfalso; omega)
    | (refine hR.sameL ?_
       unfold zp_origins
       rw [if_pos (by omega)])
  · refine TGo.il2 dX0_origins_8 rfl ?_
    refine TGo.ic0 dX0_origins_9 ?_
    refine TGo.ic1 dX0_origins_10 ?_
    refine TGo.cF (csS3 (y2 := mX0_in) 1 rfl dX0_origins_11 q598 q599 okX0_in npX0_in rfl rfl) (kX0_in (by omega) (by omega) (by omega)) ?_
    refine TGo.ifb_ne 21 dX0_origins_14 (by decide) (fun h14 => ?_) (fun h14 => ?_)
    · refine TGo.lc0 dX0_origins_21 ?_
      refine TGo.ls3 dX0_origins_22 rfl rfl ?_
      refine TGo.lc1 dX0_origins_23 ?_
      refine TGo.ls dX0_origins_24 rfl rfl ?_
      refine TGo.ic0 dX0_origins_26 ?_
      refine TGo.is dX0_origins_27 rfl rfl ?_
      first
      | (exfalso; omega)
      | exact lX0_origins W (by omega) (by omega) 37 0 _ _ _ (by omega) (by omega) hR
    · refine TGo.ldc2 (-1) dX0_origins_17 q1628 (by decide) ?_
      refine TGo.lret dX0_origins_20 rfl ?_
      first
      | (exfalso; omega)
      | (refine hR.sameL ?_
         unfold zp_origins
         rw [if_pos (by omega)])
