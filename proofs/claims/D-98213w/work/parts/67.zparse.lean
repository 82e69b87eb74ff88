/-! THE MODEL: the parser -/
set_option maxRecDepth 100000
def bdZ (o : Int) : Int := if o < 31 then (if o = 30 then 1 else if o = 29 then 2 else if o = 28 then 3 else if 25 ≤ o then 4 else if 22 ≤ o then 6 else 5) else 0
set_option maxHeartbeats 4000000 in
theorem kX10_binds {E : ET} {sh : SHT} {nn : Nat × Nat} {V : VT} {o : Int} (ho : R32 o) : TF E mX10_binds 1 [.int (iI o)] sh nn V (.int (iI (bdZ o))) := by
  refine TC.intro [some (.int (iI o))] rfl ?_
  refine TGo.il0 dX10_binds_0 rfl ?_
  refine TGo.bip 31 dX10_binds_1 (by decide) ?_
  refine TGo.icmp_lt 10 dX10_binds_3 (by decide) (by omega) (fun h3 => ?_) (fun h3 => ?_)
  · refine TGo.il0 dX10_binds_10 rfl ?_
    refine TGo.bip 30 dX10_binds_11 (by decide) ?_
    refine TGo.icmp_ne 20 dX10_binds_13 (by decide) (by omega) (fun h13 => ?_) (fun h13 => ?_)
    · refine TGo.il0 dX10_binds_20 rfl ?_
      refine TGo.bip 29 dX10_binds_21 (by decide) ?_
      refine TGo.icmp_ne 30 dX10_binds_23 (by decide) (by omega) (fun h23 => ?_) (fun h23 => ?_)
      · refine TGo.il0 dX10_binds_30 rfl ?_
        refine TGo.bip 28 dX10_binds_31 (by decide) ?_
        refine TGo.icmp_ne 40 dX10_binds_33 (by decide) (by omega) (fun h33 => ?_) (fun h33 => ?_)
        · refine TGo.il0 dX10_binds_40 rfl ?_
          refine TGo.bip 25 dX10_binds_41 (by decide) ?_
          refine TGo.icmp_lt 50 dX10_binds_43 (by decide) (by omega) (fun h43 => ?_) (fun h43 => ?_)
          · refine TGo.il0 dX10_binds_50 rfl ?_
            refine TGo.bip 22 dX10_binds_51 (by decide) ?_
            refine TGo.icmp_lt 61 dX10_binds_53 (by decide) (by omega) (fun h53 => ?_) (fun h53 => ?_)
            · refine TGo.ic5 dX10_binds_61 ?_
              refine TGo.iret dX10_binds_62 rfl ?_
              refine leafF ?_
              unfold bdZ
              (repeat (first | rw [if_pos (by omega)] | rw [if_neg (by omega)]))
            · refine TGo.bip 6 dX10_binds_56 (by decide) ?_
              refine TGo.goto 62 dX10_binds_58 (by decide) ?_
              refine TGo.iret dX10_binds_62 rfl ?_
              refine leafF ?_
              unfold bdZ
              (repeat (first | rw [if_pos (by omega)] | rw [if_neg (by omega)]))
          · refine TGo.ic4 dX10_binds_46 ?_
            refine TGo.goto 62 dX10_binds_47 (by decide) ?_
            refine TGo.iret dX10_binds_62 rfl ?_
            refine leafF ?_
            unfold bdZ
            (repeat (first | rw [if_pos (by omega)] | rw [if_neg (by omega)]))
        · refine TGo.ic3 dX10_binds_36 ?_
          refine TGo.goto 62 dX10_binds_37 (by decide) ?_
          refine TGo.iret dX10_binds_62 rfl ?_
          refine leafF ?_
          unfold bdZ
          (repeat (first | rw [if_pos (by omega)] | rw [if_neg (by omega)]))
      · refine TGo.ic2 dX10_binds_26 ?_
        refine TGo.goto 62 dX10_binds_27 (by decide) ?_
        refine TGo.iret dX10_binds_62 rfl ?_
        refine leafF ?_
        unfold bdZ
        (repeat (first | rw [if_pos (by omega)] | rw [if_neg (by omega)]))
    · refine TGo.ic1 dX10_binds_16 ?_
      refine TGo.goto 62 dX10_binds_17 (by decide) ?_
      refine TGo.iret dX10_binds_62 rfl ?_
      refine leafF ?_
      unfold bdZ
      (repeat (first | rw [if_pos (by omega)] | rw [if_neg (by omega)]))
  · refine TGo.ic0 dX10_binds_6 ?_
    refine TGo.goto 62 dX10_binds_7 (by decide) ?_
    refine TGo.iret dX10_binds_62 rfl ?_
    refine leafF ?_
    unfold bdZ
    (repeat (first | rw [if_pos (by omega)] | rw [if_neg (by omega)]))
set_option maxHeartbeats 4000000 in
theorem kX10_isWord {E : ET} {sh : SHT} {nn : Nat × Nat} {V : VT} {T : Nat} {z : ZT} {so wo : Int} {w : Int} (hT : MSh T sh) (hz : PE T V z) (hso : V.1 T 11 = so) (h3 : 0 ≤ so ∧ so ≤ 3) (hwo : V.2.1 T 12 = wo) (hwr : -9223372036854775808 ≤ wo ∧ wo ≤ 9223372036854775807) (hw : -9223372036854775808 ≤ w ∧ w ≤ 9223372036854775807) : TF E mX10_isWord 1 [.ref T, .long (lI w)] sh nn V (.int (iI (bZ (so = 1 ∧ wo = w)))) := by
  refine TC.intro [some (.ref T), some (.long (lI w)), none] rfl ?_
  refine TGo.al0 dX10_isWord_0 rfl ?_
  refine TGo.getI (t := 18) 11 11 (hT 0 (by decide)) rfl fgX10_269_10 dX10_isWord_1 rfl rfl rfl ?_
  refine TGo.toz so hso ?_
  refine TGo.ic1 dX10_isWord_4 ?_
  refine TGo.icmp_ne 21 dX10_isWord_5 (by decide) (by omega) (fun h5 => ?_) (fun h5 => ?_)
  · refine TGo.ic0 dX10_isWord_21 ?_
    refine TGo.zret dX10_isWord_22 rfl (by first | exact Or.inl rfl | exact Or.inr rfl | exact bZ_or _ | assumption) ?_
    refine leafF ?_
    first | exact (bZ_t (by omega)).symm | exact (bZ_f (by omega)).symm
  · refine TGo.al0 dX10_isWord_8 rfl ?_
    refine TGo.getJ (t := 18) 12 12 (hT 0 (by decide)) rfl fgX10_259_10 dX10_isWord_9 rfl rfl rfl ?_
    refine TGo.tol wo hwo ?_
    refine TGo.ll1 dX10_isWord_12 rfl ?_
    refine TGo.lc_ne 21 dX10_isWord_13 dX10_isWord_14 (by decide) (by omega) (fun h13 => ?_) (fun h13 => ?_)
    · refine TGo.ic0 dX10_isWord_21 ?_
      refine TGo.zret dX10_isWord_22 rfl (by first | exact Or.inl rfl | exact Or.inr rfl | exact bZ_or _ | assumption) ?_
      refine leafF ?_
      first | exact (bZ_t (by omega)).symm | exact (bZ_f (by omega)).symm
    · refine TGo.ic1 dX10_isWord_17 ?_
      refine TGo.goto 22 dX10_isWord_18 (by decide) ?_
      refine TGo.zret dX10_isWord_22 rfl (by first | exact Or.inl rfl | exact Or.inr rfl | exact bZ_or _ | assumption) ?_
      refine leafF ?_
      first | exact (bZ_t (by omega)).symm | exact (bZ_f (by omega)).symm
set_option maxHeartbeats 4000000 in
theorem kX10_isSign {E : ET} {sh : SHT} {nn : Nat × Nat} {V : VT} {T : Nat} {z : ZT} {so wo : Int} {c : Int} (hT : MSh T sh) (hz : PE T V z) (hso : V.1 T 11 = so) (h3 : 0 ≤ so ∧ so ≤ 3) (hwo : V.2.1 T 12 = wo) (hwr : -9223372036854775808 ≤ wo ∧ wo ≤ 9223372036854775807) (hc : R32 c) : TF E mX10_isSign 1 [.ref T, .int (iI c)] sh nn V (.int (iI (bZ (so = 3 ∧ wo = c)))) := by
  refine TC.intro [some (.ref T), some (.int (iI c))] rfl ?_
  refine TGo.al0 dX10_isSign_0 rfl ?_
  refine TGo.getI (t := 18) 11 11 (hT 0 (by decide)) rfl fgX10_269_10 dX10_isSign_1 rfl rfl rfl ?_
  refine TGo.toz so hso ?_
  refine TGo.ic3 dX10_isSign_4 ?_
  refine TGo.icmp_ne 22 dX10_isSign_5 (by decide) (by omega) (fun h5 => ?_) (fun h5 => ?_)
  · refine TGo.ic0 dX10_isSign_22 ?_
    refine TGo.zret dX10_isSign_23 rfl (by first | exact Or.inl rfl | exact Or.inr rfl | exact bZ_or _ | assumption) ?_
    refine leafF ?_
    first | exact (bZ_t (by omega)).symm | exact (bZ_f (by omega)).symm
  · refine TGo.al0 dX10_isSign_8 rfl ?_
    refine TGo.getJ (t := 18) 12 12 (hT 0 (by decide)) rfl fgX10_259_10 dX10_isSign_9 rfl rfl rfl ?_
    refine TGo.tol wo hwo ?_
    refine TGo.il1 dX10_isSign_12 rfl ?_
    refine TGo.i2l dX10_isSign_13 (by omega) ?_
    refine TGo.lc_ne 22 dX10_isSign_14 dX10_isSign_15 (by decide) (by omega) (fun h14 => ?_) (fun h14 => ?_)
    · refine TGo.ic0 dX10_isSign_22 ?_
      refine TGo.zret dX10_isSign_23 rfl (by first | exact Or.inl rfl | exact Or.inr rfl | exact bZ_or _ | assumption) ?_
      refine leafF ?_
      first | exact (bZ_t (by omega)).symm | exact (bZ_f (by omega)).symm
    · refine TGo.ic1 dX10_isSign_18 ?_
      refine TGo.goto 23 dX10_isSign_19 (by decide) ?_
      refine TGo.zret dX10_isSign_23 rfl (by first | exact Or.inl rfl | exact Or.inr rfl | exact bZ_or _ | assumption) ?_
      refine leafF ?_
      first | exact (bZ_t (by omega)).symm | exact (bZ_f (by omega)).symm
/-- the innermost bracket of the first k of the pile -/
def inZ (P : Int → Int) : Nat → Int
  | 0 => -1
  | k + 1 => if P (k : Int) < 31 then inZ P k else P (k : Int)
set_option maxHeartbeats 4000000 in
theorem lX10_inner {E : ET} {sh : SHT} {nn : Nat × Nat} {V : VT} {T : Nat} {z : ZT} {m : Nat} {P : Int → Int} (hT : MSh T sh) (hz : PE T V z) (hpd : V.1 T 24 = (m : Int)) (hm : m ≤ 400) (hP : ∀ i, 0 ≤ i → i < (m : Int) → V.1 (T + 9) i = P i) (hPr : ∀ i, 0 ≤ i → i < (m : Int) → R32 (P i)) : ∀ (n j : Nat), m - j < n → j ≤ m → TGo E mX10_inner 1 4 [some (.ref T), some (.int (iI (inZ P (j)))), some (.int (iI (((j) : Nat) : Int)))] [] sh nn V (fun o sh' nn' V' => o = .inl (some (.int (iI (inZ P m)))) ∧ sh' = sh ∧ nn' = nn ∧ V' = V) := by
  intro n
  induction n with
  | zero => intro j h; omega
  | succ n ih =>
    intro j hn hj
    refine TGo.il2 dX10_inner_4 rfl ?_
    refine TGo.al0 dX10_inner_5 rfl ?_
    refine TGo.getI (t := 18) 24 24 (hT 0 (by decide)) rfl fgX10_291_10 dX10_inner_6 rfl rfl rfl ?_
    refine TGo.toz (m : Int) hpd ?_
    refine TGo.icmp_ge 40 dX10_inner_9 (by decide) (by omega) (fun h9 => ?_) (fun h9 => ?_)
    · refine TGo.il1 dX10_inner_40 rfl ?_
      refine TGo.iret dX10_inner_41 rfl ?_
      obtain rfl : j = m := by omega
      exact ⟨rfl, rfl, rfl, rfl⟩
    · have hpj := hPr (j : Int) (by omega) (by omega)
      refine TGo.al0 dX10_inner_12 rfl ?_
      refine TGo.getS (t := 18) 22 22 (T + 9) (hT 0 (by decide)) rfl fgX10_39_10 dX10_inner_13 rfl rfl rfl ?_
      refine TGo.il2 dX10_inner_16 rfl ?_
      refine TGo.iald dX10_inner_17 (hT 9 (by decide)) (by omega) rfl ?_
      refine TGo.toz (P (j : Int)) (hP _ (by omega) (by omega)) ?_
      refine TGo.bip 31 dX10_inner_18 (by decide) ?_
      refine TGo.icmp_lt 32 dX10_inner_20 (by decide) (by omega) (fun h20 => ?_) (fun h20 => ?_)
      · refine TGo.il1 dX10_inner_32 rfl ?_
        refine TGo.is1 dX10_inner_33 rfl rfl ?_
        refine TGo.iinc dX10_inner_34 rfl rfl rfl ?_
        refine TGo.goto 4 dX10_inner_37 (by decide) ?_
        exact TGo.seq [some (.ref T), some (.int (iI (inZ P ((j + 1))))), some (.int (iI ((((j + 1)) : Nat) : Int)))] [] _ (by rw [inZ]; first | (rw [if_pos (by first | assumption | omega)]; rfl) | (rw [if_neg (by first | assumption | omega)]; rfl)) rfl rfl (ih (j + 1) (by omega) (by omega))
      · refine TGo.al0 dX10_inner_23 rfl ?_
        refine TGo.getS (t := 18) 22 22 (T + 9) (hT 0 (by decide)) rfl fgX10_39_10 dX10_inner_24 rfl rfl rfl ?_
        refine TGo.il2 dX10_inner_27 rfl ?_
        refine TGo.iald dX10_inner_28 (hT 9 (by decide)) (by omega) rfl ?_
        refine TGo.toz (P (j : Int)) (hP _ (by omega) (by omega)) ?_
        refine TGo.goto 33 dX10_inner_29 (by decide) ?_
        refine TGo.is1 dX10_inner_33 rfl rfl ?_
        refine TGo.iinc dX10_inner_34 rfl rfl rfl ?_
        refine TGo.goto 4 dX10_inner_37 (by decide) ?_
        exact TGo.seq [some (.ref T), some (.int (iI (inZ P ((j + 1))))), some (.int (iI ((((j + 1)) : Nat) : Int)))] [] _ (by rw [inZ]; first | (rw [if_pos (by first | assumption | omega)]; rfl) | (rw [if_neg (by first | assumption | omega)]; rfl)) rfl rfl (ih (j + 1) (by omega) (by omega))
set_option maxHeartbeats 4000000 in
theorem kX10_inner {E : ET} {sh : SHT} {nn : Nat × Nat} {V : VT} {T : Nat} {z : ZT} {m : Nat} {P : Int → Int} (hT : MSh T sh) (hz : PE T V z) (hpd : V.1 T 24 = (m : Int)) (hm : m ≤ 400) (hP : ∀ i, 0 ≤ i → i < (m : Int) → V.1 (T + 9) i = P i) (hPr : ∀ i, 0 ≤ i → i < (m : Int) → R32 (P i)) : TF E mX10_inner 1 [.ref T] sh nn V (.int (iI (inZ P m))) := by
  refine TC.intro [some (.ref T), none, none] rfl ?_
  refine TGo.icm1 dX10_inner_0 ?_
  refine TGo.is1 dX10_inner_1 rfl rfl ?_
  refine TGo.ic0 dX10_inner_2 ?_
  refine TGo.is2 dX10_inner_3 rfl rfl ?_
  exact lX10_inner hT hz hpd hm hP hPr (m + 1) 0 (by omega) (by omega)
theorem mW_r (i : Int) : 0 ≤ mW i ∧ mW i ≤ 9000000000000000000 := by
  unfold mW
  (repeat' split) <;> omega
theorem mPW_r (i : Int) : 0 ≤ mPW i ∧ mPW i ≤ 9000000000000000000 := by
  unfold mPW
  (repeat' split) <;> omega
/-- which of the first k words -/
def paZ (W : Int → Int) (so wo : Int) : Nat → Int
  | 0 => -1
  | k + 1 => if so = 1 ∧ wo = W (k : Int) then (k : Int) + 1 else paZ W so wo k
set_option maxHeartbeats 4000000 in
theorem lX10_partAt {E : ET} {sh : SHT} {nn : Nat × Nat} {V : VT} {T : Nat} {z : ZT} {so wo : Int} (hT : MSh T sh) (hz : PE T V z) (hso : V.1 T 11 = so) (h3 : 0 ≤ so ∧ so ≤ 3) (hwo : V.2.1 T 12 = wo) (hwr : -9223372036854775808 ≤ wo ∧ wo ≤ 9223372036854775807) : ∀ (n j : Nat), 8 - j < n → j ≤ 8 → TGo E mX10_partAt 2 4 [some (.ref T), some (.int (iI (paZ mW so wo (j)))), some (.int (iI (((j) : Nat) : Int)))] [] sh nn V (fun o sh' nn' V' => o = .inl (some (.int (iI (paZ mW so wo 8)))) ∧ sh' = sh ∧ nn' = nn ∧ V' = V) := by
  intro n
  induction n with
  | zero => intro j h; omega
  | succ n ih =>
    intro j hn hj
    have hw1 := mW_r (j : Int)
    have hbc := bZ_cs (so = 1 ∧ wo = mW (j : Int))
    refine TGo.il2 dX10_partAt_4 rfl ?_
    refine TGo.bip 8 dX10_partAt_5 (by decide) ?_
    refine TGo.icmp_ge 37 dX10_partAt_7 (by decide) (by omega) (fun h7 => ?_) (fun h7 => ?_)
    · refine TGo.il1 dX10_partAt_37 rfl ?_
      refine TGo.iret dX10_partAt_38 rfl ?_
      obtain rfl : j = 8 := by omega
      exact ⟨rfl, rfl, rfl, rfl⟩
    · refine TGo.al0 dX10_partAt_10 rfl ?_
      refine TGo.al0 dX10_partAt_11 rfl ?_
      refine TGo.getS (t := 18) 26 26 (T + 11) (hT 0 (by decide)) rfl fgX10_61_10 dX10_partAt_12 rfl rfl rfl ?_
      refine TGo.il2 dX10_partAt_15 rfl ?_
      refine TGo.lald dX10_partAt_16 (hT 11 (by decide)) (by omega) rfl ?_
      refine TGo.tol (mW (j : Int)) (hz.2.2.1 _) ?_
      refine TGo.cF (csV1 (y2 := mX10_isWord) (t := 18) 1 rfl (hT 0 (by decide)) rfl rfl dX10_partAt_17 q2191 q2193 qs53 okX10_isWord npX10_isWord rfl rfl) (kX10_isWord hT hz hso h3 hwo hwr (by omega)) ?_
      refine TGo.ifb_eq 29 dX10_partAt_20 (by decide) (fun h20 => ?_) (fun h20 => ?_)
      · refine TGo.il1 dX10_partAt_29 rfl ?_
        refine TGo.is1 dX10_partAt_30 rfl rfl ?_
        refine TGo.iinc dX10_partAt_31 rfl rfl rfl ?_
        refine TGo.goto 4 dX10_partAt_34 (by decide) ?_
        first | (exfalso; omega) | exact TGo.seq [some (.ref T), some (.int (iI (paZ mW so wo ((j + 1))))), some (.int (iI ((((j + 1)) : Nat) : Int)))] [] _ (by rw [paZ]; first | (rw [if_pos (by omega)]; rfl) | (rw [if_neg (by omega)]; rfl)) rfl rfl (ih (j + 1) (by omega) (by omega))
      · refine TGo.il2 dX10_partAt_23 rfl ?_
        refine TGo.ic1 dX10_partAt_24 ?_
        refine TGo.iadd dX10_partAt_25 ?_
        refine TGo.goto 30 dX10_partAt_26 (by decide) ?_
        refine TGo.is1 dX10_partAt_30 rfl rfl ?_
        refine TGo.iinc dX10_partAt_31 rfl rfl rfl ?_
        refine TGo.goto 4 dX10_partAt_34 (by decide) ?_
        first | (exfalso; omega) | exact TGo.seq [some (.ref T), some (.int (iI (paZ mW so wo ((j + 1))))), some (.int (iI ((((j + 1)) : Nat) : Int)))] [] _ (by rw [paZ]; first | (rw [if_pos (by omega)]; rfl) | (rw [if_neg (by omega)]; rfl)) rfl rfl (ih (j + 1) (by omega) (by omega))
set_option maxHeartbeats 4000000 in
theorem kX10_partAt {E : ET} {sh : SHT} {nn : Nat × Nat} {V : VT} {T : Nat} {z : ZT} {so wo : Int} (hT : MSh T sh) (hz : PE T V z) (hso : V.1 T 11 = so) (h3 : 0 ≤ so ∧ so ≤ 3) (hwo : V.2.1 T 12 = wo) (hwr : -9223372036854775808 ≤ wo ∧ wo ≤ 9223372036854775807) : TF E mX10_partAt 2 [.ref T] sh nn V (.int (iI (paZ mW so wo 8))) := by
  refine TC.intro [some (.ref T), none, none] rfl ?_
  refine TGo.icm1 dX10_partAt_0 ?_
  refine TGo.is1 dX10_partAt_1 rfl rfl ?_
  refine TGo.ic0 dX10_partAt_2 ?_
  refine TGo.is2 dX10_partAt_3 rfl rfl ?_
  exact lX10_partAt hT hz hso h3 hwo hwr 9 0 (by omega) (by omega)
set_option maxHeartbeats 4000000 in
theorem lX10_playPartAt {E : ET} {sh : SHT} {nn : Nat × Nat} {V : VT} {T : Nat} {z : ZT} {so wo : Int} (hT : MSh T sh) (hz : PE T V z) (hso : V.1 T 11 = so) (h3 : 0 ≤ so ∧ so ≤ 3) (hwo : V.2.1 T 12 = wo) (hwr : -9223372036854775808 ≤ wo ∧ wo ≤ 9223372036854775807) : ∀ (n j : Nat), 6 - j < n → j ≤ 6 → TGo E mX10_playPartAt 2 4 [some (.ref T), some (.int (iI (paZ mPW so wo (j)))), some (.int (iI (((j) : Nat) : Int)))] [] sh nn V (fun o sh' nn' V' => o = .inl (some (.int (iI (paZ mPW so wo 6)))) ∧ sh' = sh ∧ nn' = nn ∧ V' = V) := by
  intro n
  induction n with
  | zero => intro j h; omega
  | succ n ih =>
    intro j hn hj
    have hw1 := mPW_r (j : Int)
    have hbc := bZ_cs (so = 1 ∧ wo = mPW (j : Int))
    refine TGo.il2 dX10_playPartAt_4 rfl ?_
    refine TGo.bip 6 dX10_playPartAt_5 (by decide) ?_
    refine TGo.icmp_ge 37 dX10_playPartAt_7 (by decide) (by omega) (fun h7 => ?_) (fun h7 => ?_)
    · refine TGo.il1 dX10_playPartAt_37 rfl ?_
      refine TGo.iret dX10_playPartAt_38 rfl ?_
      obtain rfl : j = 6 := by omega
      exact ⟨rfl, rfl, rfl, rfl⟩
    · refine TGo.al0 dX10_playPartAt_10 rfl ?_
      refine TGo.al0 dX10_playPartAt_11 rfl ?_
      refine TGo.getS (t := 18) 27 27 (T + 12) (hT 0 (by decide)) rfl fgX10_73_10 dX10_playPartAt_12 rfl rfl rfl ?_
      refine TGo.il2 dX10_playPartAt_15 rfl ?_
      refine TGo.lald dX10_playPartAt_16 (hT 12 (by decide)) (by omega) rfl ?_
      refine TGo.tol (mPW (j : Int)) (hz.2.2.2.1 _) ?_
      refine TGo.cF (csV1 (y2 := mX10_isWord) (t := 18) 1 rfl (hT 0 (by decide)) rfl rfl dX10_playPartAt_17 q2191 q2193 qs53 okX10_isWord npX10_isWord rfl rfl) (kX10_isWord hT hz hso h3 hwo hwr (by omega)) ?_
      refine TGo.ifb_eq 29 dX10_playPartAt_20 (by decide) (fun h20 => ?_) (fun h20 => ?_)
      · refine TGo.il1 dX10_playPartAt_29 rfl ?_
        refine TGo.is1 dX10_playPartAt_30 rfl rfl ?_
        refine TGo.iinc dX10_playPartAt_31 rfl rfl rfl ?_
        refine TGo.goto 4 dX10_playPartAt_34 (by decide) ?_
        first | (exfalso; omega) | exact TGo.seq [some (.ref T), some (.int (iI (paZ mPW so wo ((j + 1))))), some (.int (iI ((((j + 1)) : Nat) : Int)))] [] _ (by rw [paZ]; first | (rw [if_pos (by omega)]; rfl) | (rw [if_neg (by omega)]; rfl)) rfl rfl (ih (j + 1) (by omega) (by omega))
      · refine TGo.il2 dX10_playPartAt_23 rfl ?_
        refine TGo.ic1 dX10_playPartAt_24 ?_
        refine TGo.iadd dX10_playPartAt_25 ?_
        refine TGo.goto 30 dX10_playPartAt_26 (by decide) ?_
        refine TGo.is1 dX10_playPartAt_30 rfl rfl ?_
        refine TGo.iinc dX10_playPartAt_31 rfl rfl rfl ?_
        refine TGo.goto 4 dX10_playPartAt_34 (by decide) ?_
        first | (exfalso; omega) | exact TGo.seq [some (.ref T), some (.int (iI (paZ mPW so wo ((j + 1))))), some (.int (iI ((((j + 1)) : Nat) : Int)))] [] _ (by rw [paZ]; first | (rw [if_pos (by omega)]; rfl) | (rw [if_neg (by omega)]; rfl)) rfl rfl (ih (j + 1) (by omega) (by omega))
set_option maxHeartbeats 4000000 in
theorem kX10_playPartAt {E : ET} {sh : SHT} {nn : Nat × Nat} {V : VT} {T : Nat} {z : ZT} {so wo : Int} (hT : MSh T sh) (hz : PE T V z) (hso : V.1 T 11 = so) (h3 : 0 ≤ so ∧ so ≤ 3) (hwo : V.2.1 T 12 = wo) (hwr : -9223372036854775808 ≤ wo ∧ wo ≤ 9223372036854775807) : TF E mX10_playPartAt 2 [.ref T] sh nn V (.int (iI (paZ mPW so wo 6))) := by
  refine TC.intro [some (.ref T), none, none] rfl ?_
  refine TGo.icm1 dX10_playPartAt_0 ?_
  refine TGo.is1 dX10_playPartAt_1 rfl rfl ?_
  refine TGo.ic0 dX10_playPartAt_2 ?_
  refine TGo.is2 dX10_playPartAt_3 rfl rfl ?_
  exact lX10_playPartAt hT hz hso h3 hwo hwr 7 0 (by omega) (by omega)
