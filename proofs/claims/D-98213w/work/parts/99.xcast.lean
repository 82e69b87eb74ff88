/-! X: cast -/
set_option maxRecDepth 100000
theorem bit_cnt : ∀ a : Nat, a < 256 → ∀ k : Nat, k < 8 → (a / 2 ^ k % 2 = 1 ∨ pcZ ((a + 2 ^ k : Nat) : Int) 10 = pcZ (a : Int) 10 + 1) := by decide +kernel
theorem uZ_s {c : Int → Int} {k : Nat} : uZ c (k + 1) = if (uZ c k).1 / ((2 ^ (c (k : Int)).toNat : Nat) : Int) % 2 = 1 then uZ c k else ((uZ c k).1 + ((2 ^ (c (k : Int)).toNat : Nat) : Int), (uZ c k).2 + 1) := rfl
theorem uZ_pc {c : Int → Int} {n : Nat} (h : ∀ i : Int, 0 ≤ i → i < n → 0 ≤ c i ∧ c i < 8) : ∀ k : Nat, k ≤ n → pcZ (uZ c k).1 10 = (uZ c k).2 := by
  intro k
  induction k with
  | zero => intro _; rfl
  | succ k ih =>
    intro hk
    have h1 := ih (by omega)
    have h2 := uZ_in h k (by omega)
    have h3 := h (k : Int) (by omega) (by omega)
    rw [uZ_s]
    split
    · exact h1
    · rename_i e
      obtain ⟨w, hw⟩ : ∃ w : Nat, (uZ c k).1 = (w : Int) := ⟨(uZ c k).1.toNat, by omega⟩
      rw [hw] at h1 e ⊢
      have q := (bit_cnt w (by omega) (c (k : Int)).toNat (by omega)).resolve_left (fun q => e (by
        have e2 : (w : Int) / ((2 ^ (c (k : Int)).toNat : Nat) : Int) % 2 = ((w / 2 ^ (c (k : Int)).toNat % 2 : Nat) : Int) := rfl
        rw [e2, q]; rfl))
      show pcZ ((w : Int) + ((2 ^ (c (k : Int)).toNat : Nat) : Int)) 10 = _
      rw [← h1]
      exact q
theorem uZ_up {c : Int → Int} : ∀ j k : Nat, j ≤ k → (uZ c j).2 ≤ (uZ c k).2 := by
  intro j k hk
  induction k with
  | zero => obtain rfl : j = 0 := by omega
            exact Int.le_refl _
  | succ k ih =>
    rcases Nat.eq_or_lt_of_le hk with e | e
    · rw [e]; exact Int.le_refl _
    · have := ih (by omega)
      rw [uZ_s]
      split
      · exact this
      · show (uZ c j).2 ≤ (uZ c k).2 + 1
        omega
/-- X's bounds -/
def CsB (S : CST) : Prop := 0 ≤ S.1.2 ∧ (S.1.2 = 0 → S.1.1 = 1000000) ∧ (S.1.2 ≠ 0 → 0 ≤ S.1.1 ∧ S.1.1 ≤ 6)
theorem kpZ_B {m : Nat} {c : Int → Int} {S : CST} (hm : m ≤ 6) (h : CsB S) : CsB (kpZ m c S) := by
  have h1 := uZ_2 c m
  obtain ⟨h2, h3, h4⟩ := h
  unfold kpZ CsB
  split
  · exact ⟨by show (0 : Int) ≤ 1; decide, fun e => by have e : (1 : Int) = 0 := e; omega, fun _ => ⟨by show 0 ≤ (uZ c m).2; omega, by show (uZ c m).2 ≤ 6; omega⟩⟩
  · split
    · refine ⟨by show 0 ≤ S.1.2 + 1; omega, fun e => ?_, fun e => ?_⟩
      · have e : S.1.2 + 1 = 0 := e; omega
      · show 0 ≤ S.1.1 ∧ S.1.1 ≤ 6
        omega
    · exact ⟨h2, h3, h4⟩
/-- too many already -/
theorem caT_cut {f : Int → Int} {n m : Nat} : ∀ (r k : Nat) (c : Int → Int) (S : CST), k + r = m → S.1.1 < (uZ c k).2 → caT f n m r k c S = S := by
  intro r
  induction r with
  | zero =>
    intro k c S hk h
    obtain rfl : k = m := by omega
    show kpZ k c S = S
    unfold kpZ
    rw [if_neg (by omega), if_neg (by omega)]
  | succ r ih =>
    intro k c S hk h
    rw [caT]
    have key : ∀ j : Nat, fdZ (cgZ f n m r k c) j S = S := by
      intro j
      induction j with
      | zero => rfl
      | succ j ihj =>
        rw [fdZ, ihj]
        unfold cgZ
        split
        · refine ih (k + 1) _ S (by omega) ?_
          have e : uZ (zu c (k : Int) (j : Int)) k = uZ c k := uZ_eq k (fun i i0 i1 => zu_n (by omega))
          have := uZ_up (c := zu c (k : Int) (j : Int)) k (k + 1) (by omega)
          rw [e] at this
          omega
        · rfl
    exact key n
def MayV (B : Nat) (V : VT) (f : Int → Int) : Prop := ∀ p h, 0 ≤ p → p < f 0 → 0 ≤ h → h < f 1 → V.1 (B + 59) (8 * p + h) = myZ f (8 * p + h)
def RowV (B : Nat) (V : VT) (c : Int → Int) (k : Nat) : Prop := ∀ i : Int, 0 ≤ i → i < (k : Int) → V.1 (B + 57) i = c i
def CxV (B : Nat) (V : VT) (m : Nat) (S : CST) : Prop := V.1 (B + 56) 3 = (if S.1.2 = 0 then 9 else S.1.1) ∧ V.1 (B + 56) 4 = S.1.2 ∧ (S.1.2 ≠ 0 → ∀ i, 0 ≤ i → i < (m : Int) → V.1 (B + 58) i = S.2 i)
theorem XSh.fr8 {B : Nat} {V V' : VT} (h : Fr [B + 56, B + 57, B + 58] V V') : FrS B V V' := FrS.of h (fun a ha => by
  simp only [List.mem_cons, List.not_mem_nil, or_false] at ha
  rcases ha with e | e | e
  · exact ⟨56, by omega, e⟩
  · exact ⟨57, by omega, e⟩
  · exact ⟨58, by omega, e⟩)
def CasOK (E : ET) (r : Nat) : Prop := ∀ {sh : SHT} {nn : Nat × Nat} {V : VT} {B : Nat} {ow : Nat → Nat} {z : ZT} {c : Int → Int} {S : CST} {k : Nat}, XR ow sh nn V B z → RWZ (z.2 3) → MayV B V (z.2 3) → k + r = (z.2 3 0).toNat → (∀ i : Int, 0 ≤ i → i < (k : Int) → 0 ≤ c i ∧ c i < z.2 3 1) → RowV B V c k → CxV B V (z.2 3 0).toNat S → CsB S → TN E mX8_tries (r + 4) [.ref (B + 56), .int (iI (k : Int)), .int (iI (uZ c k).1)] sh nn V (fun V' => XR ow sh nn V' B z ∧ Fr [B + 56, B + 57, B + 58] V V' ∧ RowV B V' c k ∧ CxV B V' (z.2 3 0).toNat (caT (z.2 3) (z.2 3 1).toNat (z.2 3 0).toNat r k c S) ∧ CsB (caT (z.2 3) (z.2 3 1).toNat (z.2 3 0).toNat r k c S))
set_option maxHeartbeats 4000000 in
theorem kX8_meet {E : ET} {sh : SHT} {nn : Nat × Nat} {V : VT} {B : Nat} {z : ZT} {a b : Int} (hB : XSh B sh) (hc : XC V B z) (W : RWZ (z.2 3)) (ha : 0 ≤ a ∧ a < z.2 3 0) (hb : 0 ≤ b ∧ b < z.2 3 0) : TF E mX8_meet 1 [.ref (B + 56), .int (iI a), .int (iI b)] sh nn V (.int (iI (bZ (z.2 3 (10 + 2 * a) < z.2 3 (10 + 2 * b + 1) ∧ z.2 3 (10 + 2 * b) < z.2 3 (10 + 2 * a + 1))))) := by
  have wa := W.2.1 a ha.1 ha.2
  have wb := W.2.1 b hb.1 hb.2
  have w0 := W.1.1
  refine TC.intro [some (.ref (B + 56)), some (.int (iI a)), some (.int (iI b))] rfl ?_
  refine TGo.al0 dX8_meet_0 rfl ?_
  refine TGo.getS (t := 16) 5 5 B (hB 56 (by decide)) rfl fgX8_3_8 dX8_meet_1 rfl rfl rfl ?_
  refine TGo.getS (t := 8) 2 2 (B + 2) (hB 0 (by decide)) rfl fgX8_33_0 dX8_meet_4 rfl rfl rfl ?_
  refine TGo.getS (t := 9) 1 1 (B + 22) (hB 2 (by decide)) rfl fgX8_67_1 dX8_meet_7 rfl rfl rfl ?_
  refine TGo.ic2 dX8_meet_10 ?_
  refine TGo.il1 dX8_meet_11 rfl ?_
  refine TGo.imul dX8_meet_12 ?_
  refine TGo.iald dX8_meet_13 (hB 22 (by decide)) (by omega) rfl ?_
  refine TGo.toz _ (hc.1.2.2.1 _ (by omega) (by omega)) ?_
  refine TGo.al0 dX8_meet_14 rfl ?_
  refine TGo.getS (t := 16) 5 5 B (hB 56 (by decide)) rfl fgX8_3_8 dX8_meet_15 rfl rfl rfl ?_
  refine TGo.getS (t := 8) 2 2 (B + 2) (hB 0 (by decide)) rfl fgX8_33_0 dX8_meet_18 rfl rfl rfl ?_
  refine TGo.getS (t := 9) 1 1 (B + 22) (hB 2 (by decide)) rfl fgX8_67_1 dX8_meet_21 rfl rfl rfl ?_
  refine TGo.ic2 dX8_meet_24 ?_
  refine TGo.il2 dX8_meet_25 rfl ?_
  refine TGo.imul dX8_meet_26 ?_
  refine TGo.ic1 dX8_meet_27 ?_
  refine TGo.iadd dX8_meet_28 ?_
  refine TGo.iald dX8_meet_29 (hB 22 (by decide)) (by omega) rfl ?_
  refine TGo.toz _ (hc.1.2.2.1 _ (by omega) (by omega)) ?_
  refine TGo.toz (z.2 3 (10 + 2 * b + 1)) (by rw [Int.add_assoc]) ?_
  refine TGo.icmp_ge 70 dX8_meet_30 (by decide) (by omega) (fun h30 => ?_) (fun h30 => ?_)
  · refine TGo.ic0 dX8_meet_70 ?_
    refine TGo.zret dX8_meet_71 rfl (by first | exact Or.inl rfl | exact Or.inr rfl | exact bZ_or _ | assumption) ?_
    refine leafF ?_
    first | exact (bZ_t (by omega)).symm | exact (bZ_f (by omega)).symm
  · refine TGo.al0 dX8_meet_33 rfl ?_
    refine TGo.getS (t := 16) 5 5 B (hB 56 (by decide)) rfl fgX8_3_8 dX8_meet_34 rfl rfl rfl ?_
    refine TGo.getS (t := 8) 2 2 (B + 2) (hB 0 (by decide)) rfl fgX8_33_0 dX8_meet_37 rfl rfl rfl ?_
    refine TGo.getS (t := 9) 1 1 (B + 22) (hB 2 (by decide)) rfl fgX8_67_1 dX8_meet_40 rfl rfl rfl ?_
    refine TGo.ic2 dX8_meet_43 ?_
    refine TGo.il2 dX8_meet_44 rfl ?_
    refine TGo.imul dX8_meet_45 ?_
    refine TGo.iald dX8_meet_46 (hB 22 (by decide)) (by omega) rfl ?_
    refine TGo.toz _ (hc.1.2.2.1 _ (by omega) (by omega)) ?_
    refine TGo.al0 dX8_meet_47 rfl ?_
    refine TGo.getS (t := 16) 5 5 B (hB 56 (by decide)) rfl fgX8_3_8 dX8_meet_48 rfl rfl rfl ?_
    refine TGo.getS (t := 8) 2 2 (B + 2) (hB 0 (by decide)) rfl fgX8_33_0 dX8_meet_51 rfl rfl rfl ?_
    refine TGo.getS (t := 9) 1 1 (B + 22) (hB 2 (by decide)) rfl fgX8_67_1 dX8_meet_54 rfl rfl rfl ?_
    refine TGo.ic2 dX8_meet_57 ?_
    refine TGo.il1 dX8_meet_58 rfl ?_
    refine TGo.imul dX8_meet_59 ?_
    refine TGo.ic1 dX8_meet_60 ?_
    refine TGo.iadd dX8_meet_61 ?_
    refine TGo.iald dX8_meet_62 (hB 22 (by decide)) (by omega) rfl ?_
    refine TGo.toz _ (hc.1.2.2.1 _ (by omega) (by omega)) ?_
    refine TGo.toz (z.2 3 (10 + 2 * a + 1)) (by rw [Int.add_assoc]) ?_
    refine TGo.icmp_ge 70 dX8_meet_63 (by decide) (by omega) (fun h63 => ?_) (fun h63 => ?_)
    · refine TGo.ic0 dX8_meet_70 ?_
      refine TGo.zret dX8_meet_71 rfl (by first | exact Or.inl rfl | exact Or.inr rfl | exact bZ_or _ | assumption) ?_
      refine leafF ?_
      first | exact (bZ_t (by omega)).symm | exact (bZ_f (by omega)).symm
    · refine TGo.ic1 dX8_meet_66 ?_
      refine TGo.goto 71 dX8_meet_67 (by decide) ?_
      refine TGo.zret dX8_meet_71 rfl (by first | exact Or.inl rfl | exact Or.inr rfl | exact bZ_or _ | assumption) ?_
      refine leafF ?_
      first | exact (bZ_t (by omega)).symm | exact (bZ_f (by omega)).symm
set_option maxHeartbeats 4000000 in
theorem iX8_tries {E : ET} {sh : SHT} {nn : Nat × Nat} {V : VT} {B : Nat} {z : ZT} {c : Int → Int} {k r : Nat} {u h : Int} {Q : AO → SHT → Nat × Nat → VT → Prop} (hz : RowV B V c k) (hB : XSh B sh) (hc : XC V B z) (W : RWZ (z.2 3)) (hkr : k + (r + 1) = (z.2 3 0).toNat) (hci : ∀ i : Int, 0 ≤ i → i < (k : Int) → 0 ≤ c i ∧ c i < z.2 3 1) (hh : 0 ≤ h ∧ h < z.2 3 1) (K : TGo E mX8_tries (r + 1 + 4) 156 [some (.ref (B + 56)), some (.int (iI (k : Int))), some (.int (iI u)), some (.int (iI h)), some (.int (iI (cpZ (z.2 3) (zu c (k : Int) h) (k : Int) (k)))), some (.int (iI (((k) : Nat) : Int)))] [] sh nn V Q) : ∀ (n j : Nat), k - j < n → j ≤ k → TGo E mX8_tries (r + 1 + 4) 111 [some (.ref (B + 56)), some (.int (iI (k : Int))), some (.int (iI u)), some (.int (iI h)), some (.int (iI (cpZ (z.2 3) (zu c (k : Int) h) (k : Int) (j)))), some (.int (iI (((j) : Nat) : Int)))] [] sh nn V Q := by
  intro n
  induction n with
  | zero => intro j h; omega
  | succ n ih =>
    intro j hn hj
    have w0 := W.1.1
    have w1 := W.1.2.1
    have h01 := cpZ_or (z.2 3) (zu c (k : Int) h) (k : Int) j
    have ekk : zu c (k : Int) h (k : Int) = h := zu_s
    have ejj : j < k → zu c (k : Int) h (j : Int) = c (j : Int) := fun q => zu_n (by omega)
    have hcj := fun (q : (j : Int) < (k : Int)) => hci (j : Int) (by omega) q
    refine TGo.il dX8_tries_111 rfl ?_
    refine TGo.il1 dX8_tries_113 rfl ?_
    refine TGo.icmp_ge 156 dX8_tries_114 (by decide) (by omega) (fun h114 => ?_) (fun h114 => ?_)
    · obtain rfl : j = k := by omega
      exact K
    · refine TGo.il dX8_tries_117 rfl ?_
      refine TGo.if_eq 147 dX8_tries_119 (by decide) (by omega) (fun h119 => ?_) (fun h119 => ?_)
      · refine TGo.ic0 dX8_tries_147 ?_
        refine TGo.is dX8_tries_148 rfl rfl ?_
        refine TGo.iinc dX8_tries_150 rfl rfl rfl ?_
        refine TGo.goto 111 dX8_tries_153 (by decide) ?_
        first | (exfalso; omega) | exact TGo.seq [some (.ref (B + 56)), some (.int (iI (k : Int))), some (.int (iI u)), some (.int (iI h)), some (.int (iI (cpZ (z.2 3) (zu c (k : Int) h) (k : Int) ((j + 1))))), some (.int (iI ((((j + 1)) : Nat) : Int)))] [] _ (by rw [cpZ, ekk]; first | (rw [if_pos ⟨by omega, by first | (rw [ejj (by omega)]; exact Or.inl (by omega)) | (exact Or.inr (by omega))⟩]; rfl) | (rw [if_neg (fun q => by first | omega | (rcases q.2 with q2 | q2; rw [ejj (by omega)] at q2; omega; omega))]; rfl)) rfl rfl (ih (j + 1) (by omega) (by omega))
      · have hcj := hcj (by omega)
        refine TGo.al0 dX8_tries_122 rfl ?_
        refine TGo.getS (t := 16) 0 0 (B + 57) (hB 56 (by decide)) rfl fgX8_15_8 dX8_tries_123 rfl rfl rfl ?_
        refine TGo.il dX8_tries_126 rfl ?_
        refine TGo.iald dX8_tries_128 (hB 57 (by decide)) (by omega) rfl ?_
        refine TGo.toz _ (hz _ (by omega) (by omega)) ?_
        refine TGo.il3 dX8_tries_129 rfl ?_
        refine TGo.icmp_ne 143 dX8_tries_130 (by decide) (by omega) (fun h130 => ?_) (fun h130 => ?_)
        · refine TGo.ic1 dX8_tries_143 ?_
          refine TGo.goto 148 dX8_tries_144 (by decide) ?_
          refine TGo.is dX8_tries_148 rfl rfl ?_
          refine TGo.iinc dX8_tries_150 rfl rfl rfl ?_
          refine TGo.goto 111 dX8_tries_153 (by decide) ?_
          first | (exfalso; omega) | exact TGo.seq [some (.ref (B + 56)), some (.int (iI (k : Int))), some (.int (iI u)), some (.int (iI h)), some (.int (iI (cpZ (z.2 3) (zu c (k : Int) h) (k : Int) ((j + 1))))), some (.int (iI ((((j + 1)) : Nat) : Int)))] [] _ (by rw [cpZ, ekk]; first | (rw [if_pos ⟨by omega, by first | (rw [ejj (by omega)]; exact Or.inl (by omega)) | (exact Or.inr (by omega))⟩]; rfl) | (rw [if_neg (fun q => by first | omega | (rcases q.2 with q2 | q2; rw [ejj (by omega)] at q2; omega; omega))]; rfl)) rfl rfl (ih (j + 1) (by omega) (by omega))
        · refine TGo.al0 dX8_tries_133 rfl ?_
          refine TGo.il dX8_tries_134 rfl ?_
          refine TGo.il1 dX8_tries_136 rfl ?_
          refine TGo.cF (csV2 (y2 := mX8_meet) (t := 16) 1 (Nat.ble_eq_true_of_le (by omega)) (hB 56 (by decide)) rfl rfl dX8_tries_137 q1716 q1718 qs34 okX8_meet npX8_meet rfl rfl) (kX8_meet hB hc W (by omega) (by omega)) ?_
          refine TGo.ifb_ne 147 dX8_tries_140 (by decide) (fun h140 => ?_) (fun h140 => ?_)
          · refine TGo.ic0 dX8_tries_147 ?_
            refine TGo.is dX8_tries_148 rfl rfl ?_
            refine TGo.iinc dX8_tries_150 rfl rfl rfl ?_
            refine TGo.goto 111 dX8_tries_153 (by decide) ?_
            first | (exfalso; omega) | exact TGo.seq [some (.ref (B + 56)), some (.int (iI (k : Int))), some (.int (iI u)), some (.int (iI h)), some (.int (iI (cpZ (z.2 3) (zu c (k : Int) h) (k : Int) ((j + 1))))), some (.int (iI ((((j + 1)) : Nat) : Int)))] [] _ (by rw [cpZ, ekk]; first | (rw [if_pos ⟨by omega, by first | (rw [ejj (by omega)]; exact Or.inl (by omega)) | (exact Or.inr (by omega))⟩]; rfl) | (rw [if_neg (fun q => by first | omega | (rcases q.2 with q2 | q2; rw [ejj (by omega)] at q2; omega; omega))]; rfl)) rfl rfl (ih (j + 1) (by omega) (by omega))
          · refine TGo.ic1 dX8_tries_143 ?_
            refine TGo.goto 148 dX8_tries_144 (by decide) ?_
            refine TGo.is dX8_tries_148 rfl rfl ?_
            refine TGo.iinc dX8_tries_150 rfl rfl rfl ?_
            refine TGo.goto 111 dX8_tries_153 (by decide) ?_
            first | (exfalso; omega) | exact TGo.seq [some (.ref (B + 56)), some (.int (iI (k : Int))), some (.int (iI u)), some (.int (iI h)), some (.int (iI (cpZ (z.2 3) (zu c (k : Int) h) (k : Int) ((j + 1))))), some (.int (iI ((((j + 1)) : Nat) : Int)))] [] _ (by rw [cpZ, ekk]; first | (rw [if_pos ⟨by omega, by first | (rw [ejj (by omega)]; exact Or.inl (by omega)) | (exact Or.inr (by omega))⟩]; rfl) | (rw [if_neg (fun q => by first | omega | (rcases q.2 with q2 | q2; rw [ejj (by omega)] at q2; omega; omega))]; rfl)) rfl rfl (ih (j + 1) (by omega) (by omega))
set_option maxHeartbeats 4000000 in
theorem lX8_tries {E : ET} {sh : SHT} {nn : Nat × Nat} {B : Nat} {ow : Nat → Nat} {z : ZT} {V0 : VT} {c : Int → Int} {S : CST} {k r : Nat} (W : RWZ (z.2 3)) (hM : MayV B V0 (z.2 3)) (hci : ∀ i : Int, 0 ≤ i → i < (k : Int) → 0 ≤ c i ∧ c i < z.2 3 1) (hkr : k + (r + 1) = (z.2 3 0).toNat) (REC : CasOK E r) : ∀ (n j : Nat) (V : VT) (x4 x5 : Option Value), (z.2 3 1).toNat - j < n → j ≤ (z.2 3 1).toNat → XR ow sh nn V B z → (Fr [B + 56, B + 57, B + 58] V0 V ∧ RowV B V c k ∧ CxV B V (z.2 3 0).toNat (fdZ (cgZ (z.2 3) (z.2 3 1).toNat (z.2 3 0).toNat r k c) (j) S) ∧ CsB (fdZ (cgZ (z.2 3) (z.2 3 1).toNat (z.2 3 0).toNat r k c) (j) S)) → TGo E mX8_tries (r + 1 + 4) 78 [some (.ref (B + 56)), some (.int (iI (k : Int))), some (.int (iI (uZ c k).1)), some (.int (iI (((j) : Nat) : Int))), x4, x5] [] sh nn V (fun o sh' nn' V' => o = .inl none ∧ sh' = sh ∧ nn' = nn ∧ XR ow sh nn V' B z ∧ Fr [B + 56, B + 57, B + 58] V0 V' ∧ RowV B V' c k ∧ CxV B V' (z.2 3 0).toNat (caT (z.2 3) (z.2 3 1).toNat (z.2 3 0).toNat (r + 1) k c S) ∧ CsB (caT (z.2 3) (z.2 3 1).toNat (z.2 3 0).toNat (r + 1) k c S)) := by
  intro n
  induction n with
  | zero => intro j V x4 x5 h; omega
  | succ n ih =>
    intro j V x4 x5 hn hj hz hx
    obtain ⟨hfr, hrow, hcx, hcb⟩ := hx
    obtain ⟨hB, how, hc, -⟩ := id hz
    have w0 := W.1.1
    have w1 := W.1.2.1
    obtain ⟨ap, av, al, cp, cv, cl, gp, gv, gl, hne, ⟨hp1, hp2⟩, ⟨hv1, hv2⟩, hl1, hl2⟩ := id hz.2.2.2.1
    have hMv : MayV B V (z.2 3) := fun p h p0 p1 h0 h1 => (congrFun (hfr.1 (B + 59) (by simp)) _).trans (hM p h p0 p1 h0 h1)
    have hu := uZ_in (c := c) (n := k) (fun i i0 i1 => by have := hci i i0 i1; omega) k (Nat.le_refl _)
    have efd : (fdZ (cgZ (z.2 3) (z.2 3 1).toNat (z.2 3 0).toNat r k c) (j + 1) S) = (cgZ (z.2 3) (z.2 3 1).toNat (z.2 3 0).toNat r k c) (j : Int) (fdZ (cgZ (z.2 3) (z.2 3 1).toNat (z.2 3 0).toNat r k c) (j) S) := rfl
    have ecg : (cgZ (z.2 3) (z.2 3 1).toNat (z.2 3 0).toNat r k c) (j : Int) (fdZ (cgZ (z.2 3) (z.2 3 1).toNat (z.2 3 0).toNat r k c) (j) S) = if cpZ (z.2 3) (zu c (k : Int) (j : Int)) (k : Int) k = 1 then caT (z.2 3) (z.2 3 1).toNat (z.2 3 0).toNat r (k + 1) (zu c (k : Int) (j : Int)) (fdZ (cgZ (z.2 3) (z.2 3 1).toNat (z.2 3 0).toNat r k c) (j) S) else (fdZ (cgZ (z.2 3) (z.2 3 1).toNat (z.2 3 0).toNat r k c) (j) S) := rfl
    refine TGo.il3 dX8_tries_78 rfl ?_
    refine TGo.al0 dX8_tries_79 rfl ?_
    refine TGo.getS (t := 16) 5 5 B (hB 56 (by decide)) rfl fgX8_3_8 dX8_tries_80 rfl rfl rfl ?_
    refine TGo.getS (t := 8) 2 2 (B + 2) (hB 0 (by decide)) rfl fgX8_33_0 dX8_tries_83 rfl rfl rfl ?_
    refine TGo.getS (t := 9) 5 5 (B + 26) (hB 2 (by decide)) rfl fgX8_42_1 dX8_tries_86 rfl rfl rfl ?_
    refine TGo.cF (csV0 (y2 := mJ2_size) (t := 20) 1 (Nat.ble_eq_true_of_le (by omega)) (hB 26 (by decide)) rfl rfl dX8_tries_89 q1706 q757 q758 okJ2_size npJ2_size rfl rfl) (kJ2_size hp1.1) ?_
    refine TGo.toz (z.2 3 1) (Int.toNat_of_nonneg (by omega)) ?_
    refine TGo.icmp_ge 189 dX8_tries_92 (by decide) (by omega) (fun h92 => ?_) (fun h92 => ?_)
    · refine TGo.vret dX8_tries_189 rfl ?_
      obtain rfl : j = (z.2 3 1).toNat := by omega
      exact ⟨rfl, rfl, rfl, hz, hfr, hrow, hcx, hcb⟩
    · refine TGo.al0 dX8_tries_95 rfl ?_
      refine TGo.getS (t := 16) 2 2 (B + 59) (hB 56 (by decide)) rfl fgX8_22_8 dX8_tries_96 rfl rfl rfl ?_
      refine TGo.bip 8 dX8_tries_99 (by decide) ?_
      refine TGo.il1 dX8_tries_101 rfl ?_
      refine TGo.imul dX8_tries_102 ?_
      refine TGo.il3 dX8_tries_103 rfl ?_
      refine TGo.iadd dX8_tries_104 ?_
      refine TGo.zald dX8_tries_105 (hB 59 (by decide)) (by omega) rfl ?_
      refine TGo.toz _ (hMv _ _ (by omega) (by omega) (by omega) (by omega)) ?_
      refine TGo.is dX8_tries_106 rfl rfl ?_
      refine TGo.ic0 dX8_tries_108 ?_
      refine TGo.is dX8_tries_109 rfl rfl ?_
      have e0 : (cpZ (z.2 3) (zu c (k : Int) (j : Int)) (k : Int) (0)) = myZ (z.2 3) (8 * (k : Int) + (j : Int)) := by
        show myZ (z.2 3) (8 * (k : Int) + (zu c (k : Int) (j : Int)) (k : Int)) = _
        rw [zu_s]
      refine TGo.seq [some (.ref (B + 56)), some (.int (iI (k : Int))), some (.int (iI (uZ c k).1)), some (.int (iI (j : Int))), some (.int (iI (cpZ (z.2 3) (zu c (k : Int) (j : Int)) (k : Int) (0)))), some (.int (iI (((0 : Nat)) : Int)))] [] _ (by rw [e0]; rfl) rfl rfl (iX8_tries (h := (j : Int)) hrow hB hc W hkr hci (by omega) ?_ (k + 1) 0 (by omega) (by omega))
      have hcp := cpZ_or (z.2 3) (zu c (k : Int) (j : Int)) (k : Int) k
      refine TGo.il dX8_tries_156 rfl ?_
      refine TGo.if_ne 164 dX8_tries_158 (by decide) (by omega) (fun h158 => ?_) (fun h158 => ?_)
      · have hci2 : ∀ i : Int, 0 ≤ i → i < ((k + 1 : Nat) : Int) → 0 ≤ (zu c (k : Int) (j : Int)) i ∧ (zu c (k : Int) (j : Int)) i < z.2 3 1 := fun i i0 i1 => by
          by_cases e : i = (k : Int)
          · rw [e, zu_s]; omega
          · rw [zu_n e]; exact hci i i0 (by omega)
        have hrow3 : RowV B (vI V (B + 57) (k : Int) (j : Int)) (zu c (k : Int) (j : Int)) (k + 1) := fun i i0 i1 => by
          by_cases e : i = (k : Int)
          · rw [e, zu_s]; exact u2_s
          · rw [zu_n e]; exact (u2_n (Or.inr e)).trans (hrow i i0 (by omega))
        have eu : uZ (zu c (k : Int) (j : Int)) (k + 1) = if (uZ c k).1 / ((2 ^ ((j : Int)).toNat : Nat) : Int) % 2 = 1 then uZ c k else ((uZ c k).1 + ((2 ^ ((j : Int)).toNat : Nat) : Int), (uZ c k).2 + 1) := by
          rw [uZ_s, uZ_eq k (fun i i0 i1 => zu_n (by omega) : ∀ i : Int, 0 ≤ i → i < (k : Int) → (zu c (k : Int) (j : Int)) i = c i), zu_s]
        have hor := (iI_orx (a := (uZ c k).1) (k := (j : Int)) hu.1 (by omega)).1
        refine TGo.al0 dX8_tries_164 rfl ?_
        refine TGo.getS (t := 16) 0 0 (B + 57) (hB 56 (by decide)) rfl fgX8_15_8 dX8_tries_165 rfl rfl rfl ?_
        refine TGo.il1 dX8_tries_168 rfl ?_
        refine TGo.il3 dX8_tries_169 rfl ?_
        refine TGo.iast dX8_tries_170 (hB 57 (by decide)) (by omega) rfl ?_
        refine TGo.al0 dX8_tries_171 rfl ?_
        refine TGo.il1 dX8_tries_172 rfl ?_
        refine TGo.ic1 dX8_tries_173 ?_
        refine TGo.iadd dX8_tries_174 ?_
        refine TGo.il2 dX8_tries_175 rfl ?_
        refine TGo.ic1 dX8_tries_176 ?_
        refine TGo.il3 dX8_tries_177 rfl ?_
        refine TGo.ishl dX8_tries_178 ?_
        refine TGo.ior dX8_tries_179 ?_
        refine TGo.tos (iI (uZ (zu c (k : Int) (j : Int)) (k + 1)).1) (by rw [hor, eu]; congr 1; split <;> rfl) ?_
        refine TGo.cN (csV2 (y2 := mX8_tries) (t := 16) (r + 4) (Nat.ble_eq_true_of_le (by omega)) (hB 56 (by decide)) rfl rfl dX8_tries_180 q1710 q1712 qs33 okX8_tries npX8_tries rfl rfl) (REC (c := (zu c (k : Int) (j : Int))) (S := (fdZ (cgZ (z.2 3) (z.2 3 1).toNat (z.2 3 0).toNat r k c) (j) S)) (k := k + 1) (hz.sc (FrS.rf.i 57 (by omega))) W (fun p h p0 p1 h0 h1 => (u2_n (Or.inl (by omega))).trans (hMv p h p0 p1 h0 h1)) (by omega) hci2 hrow3 ⟨(u2_n (Or.inl (by omega))).trans hcx.1, (u2_n (Or.inl (by omega))).trans hcx.2.1, fun q i i0 i1 => (u2_n (Or.inl (by omega))).trans (hcx.2.2 q i i0 i1)⟩ hcb) (fun V180 h180 => ?_)
        obtain ⟨hR180, hF180, hr180, hc180, hb180⟩ := h180
        have hrow2 : RowV B V180 c k := fun i i0 i1 => (hr180 i i0 (by omega)).trans (zu_n (by omega))
        refine TGo.iinc dX8_tries_183 rfl rfl rfl ?_
        refine TGo.goto 78 dX8_tries_186 (by decide) ?_
        exact TGo.seq [some (.ref (B + 56)), some (.int (iI (k : Int))), some (.int (iI (uZ c k).1)), some (.int (iI ((((j + 1)) : Nat) : Int))), _, _] [] _ (rfl) rfl rfl (ih (j + 1) _ _ _ (by omega) (by omega) hR180 (by
          rw [efd, ecg]
          first
          | (rw [if_pos (by omega)]; exact ⟨(hfr.i (by simp)).tr hF180, hrow2, hc180, hb180⟩)
          | (rw [if_neg (by omega)]; exact ⟨hfr, hrow, hcx, hcb⟩)))
      · refine TGo.goto 183 dX8_tries_161 (by decide) ?_
        refine TGo.iinc dX8_tries_183 rfl rfl rfl ?_
        refine TGo.goto 78 dX8_tries_186 (by decide) ?_
        exact TGo.seq [some (.ref (B + 56)), some (.int (iI (k : Int))), some (.int (iI (uZ c k).1)), some (.int (iI ((((j + 1)) : Nat) : Int))), _, _] [] _ (rfl) rfl rfl (ih (j + 1) _ _ _ (by omega) (by omega) hz (by
          rw [efd, ecg]
          first
          | (rw [if_pos (by omega)]; exact ⟨(hfr.i (by simp)).tr hF180, hrow2, hc180, hb180⟩)
          | (rw [if_neg (by omega)]; exact ⟨hfr, hrow, hcx, hcb⟩)))
theorem CxV.new {B : Nat} {V : VT} {m : Nat} {c : Int → Int} {S : CST} (hrow : RowV B V c m) (hm : m ≤ 6) : CxV B (vI (cpI (vI (vI V (B + 56) 3 (uZ c m).2) (B + 56) 4 0) (B + 57) (B + 58) 0 0 6) (B + 56) 4 (0 + 1)) m (((uZ c m).2, 1), fun i => if 0 ≤ i ∧ i < (m : Int) then c i else S.2 i) := by
  have q : ∀ b, b ≠ B + 58 → (cpI (vI (vI V (B + 56) 3 (uZ c m).2) (B + 56) 4 0) (B + 57) (B + 58) 0 0 6).1 b = (vI (vI V (B + 56) 3 (uZ c m).2) (B + 56) 4 0).1 b := fun b hb => u1_n hb
  refine ⟨?_, u2_s, fun _ i i0 i1 => ?_⟩
  · refine (u2_n (Or.inr (by decide))).trans ?_
    rw [q _ (by omega)]
    exact (u2_n (Or.inr (by decide))).trans u2_s
  · refine (u2_n (Or.inl (by omega))).trans ?_
    show u1 _ (B + 58) _ (B + 58) i = (if 0 ≤ i ∧ i < (m : Int) then c i else S.2 i)
    rw [u1_s, if_pos (by omega), if_pos ⟨i0, i1⟩, show (0 : Int) + (i - 0) = i by omega]
    exact (u2_n (Or.inl (by omega))).trans ((u2_n (Or.inl (by omega))).trans (hrow i i0 i1))
theorem CxV.one {B : Nat} {V : VT} {m : Nat} {S : CST} (h : CxV B V m S) (h0 : S.1.2 ≠ 0) (h1 : S.1.2 + 1 ≠ 0) : CxV B (vI V (B + 56) 4 (S.1.2 + 1)) m ((S.1.1, S.1.2 + 1), S.2) := by
  refine ⟨?_, u2_s, fun _ i i0 i1 => (u2_n (Or.inl (by omega))).trans (h.2.2 h0 i i0 i1)⟩
  refine (u2_n (Or.inr (by decide))).trans (h.1.trans ?_)
  rw [if_neg h0]
  exact (if_neg h1).symm
set_option maxHeartbeats 4000000 in
theorem eX8_tries {E : ET} {sh : SHT} {nn : Nat × Nat} {V : VT} {B : Nat} {ow : Nat → Nat} {z : ZT} {c : Int → Int} {S : CST} {k r : Nat} (hR : XR ow sh nn V B z) (W : RWZ (z.2 3)) (hM : MayV B V (z.2 3)) (hkr : k + r = (z.2 3 0).toNat) (hci : ∀ i : Int, 0 ≤ i → i < (k : Int) → 0 ≤ c i ∧ c i < z.2 3 1) (hrow : RowV B V c k) (hcx : CxV B V (z.2 3 0).toNat S) (hcb : CsB S) (REC : ∀ e, r = e + 1 → CasOK E e) : TN E mX8_tries (r + 4) [.ref (B + 56), .int (iI (k : Int)), .int (iI (uZ c k).1)] sh nn V (fun V' => XR ow sh nn V' B z ∧ Fr [B + 56, B + 57, B + 58] V V' ∧ RowV B V' c k ∧ CxV B V' (z.2 3 0).toNat (caT (z.2 3) (z.2 3 1).toNat (z.2 3 0).toNat r k c S) ∧ CsB (caT (z.2 3) (z.2 3 1).toNat (z.2 3 0).toNat r k c S)) := by
  obtain ⟨hB, how, hc, -⟩ := id hR
  have w0 := W.1.1
  have w1 := W.1.2.1
  obtain ⟨fw, hfw⟩ : ∃ fw, V.1 (B + 56) 3 = fw := ⟨_, rfl⟩
  have hfe := hfw.symm.trans hcx.1
  obtain ⟨hcb1, hcb2, hcb3⟩ := id hcb
  have hf0 : S.1.2 = 0 → fw = 9 := fun q => by rw [hfe, if_pos q]
  have hf1 : S.1.2 ≠ 0 → fw = S.1.1 := fun q => by rw [hfe, if_neg q]
  have hci8 : ∀ i : Int, 0 ≤ i → i < (k : Int) → 0 ≤ c i ∧ c i < 8 := fun i i0 i1 => by have := hci i i0 i1; omega
  have hu := uZ_in (c := c) (n := k) hci8 k (Nat.le_refl _)
  have hpc := uZ_pc hci8 k (Nat.le_refl _)
  clear hfe
  refine TC.intro [some (.ref (B + 56)), some (.int (iI (k : Int))), some (.int (iI (uZ c k).1)), none, none, none] rfl ?_
  refine TGo.il2 dX8_tries_0 rfl ?_
  refine TGo.cF (csSN1 (y2 := mX0_ones) 2 (Nat.ble_eq_true_of_le (by omega)) dX8_tries_1 q1714 q1658 okX0_ones npX0_ones rfl rfl) (kX0_ones (by omega)) ?_
  refine TGo.toz (uZ c k).2 hpc ?_
  refine TGo.al0 dX8_tries_4 rfl ?_
  refine TGo.getI (t := 16) 3 3 (hB 56 (by decide)) rfl fgX8_26_8 dX8_tries_5 rfl rfl rfl ?_
  refine TGo.toz _ (hfw) ?_
  refine TGo.icmp_le 12 dX8_tries_8 (by decide) (by omega) (fun h8 => ?_) (fun h8 => ?_)
  · refine TGo.il1 dX8_tries_12 rfl ?_
    refine TGo.al0 dX8_tries_13 rfl ?_
    refine TGo.getS (t := 16) 5 5 B (hB 56 (by decide)) rfl fgX8_3_8 dX8_tries_14 rfl rfl rfl ?_
    refine TGo.getS (t := 8) 2 2 (B + 2) (hB 0 (by decide)) rfl fgX8_33_0 dX8_tries_17 rfl rfl rfl ?_
    refine TGo.getI (t := 9) 8 8 (hB 2 (by decide)) rfl fgX8_37_1 dX8_tries_20 rfl rfl rfl ?_
    refine TGo.toz _ (hc.1.2.1.1) ?_
    refine TGo.icmp_ne 76 dX8_tries_23 (by decide) (by omega) (fun h23 => ?_) (fun h23 => ?_)
    · obtain ⟨e, he⟩ : ∃ e, r = e + 1 := ⟨r - 1, by omega⟩
      subst he
      refine TGo.ic0 dX8_tries_76 ?_
      refine TGo.is3 dX8_tries_77 rfl rfl ?_
      exact lX8_tries (V0 := V) (S := S) W hM hci hkr (REC e rfl) ((z.2 3 1).toNat + 1) 0 V _ _ (by omega) (by omega) hR ⟨Fr.rf, hrow, hcx, hcb⟩
    · obtain rfl : r = 0 := by omega
      have hkm : k = (z.2 3 0).toNat := by omega
      refine TGo.il2 dX8_tries_26 rfl ?_
      refine TGo.cF (csSN1 (y2 := mX0_ones) 2 (Nat.ble_eq_true_of_le (by omega)) dX8_tries_27 q1714 q1658 okX0_ones npX0_ones rfl rfl) (kX0_ones (by omega)) ?_
      refine TGo.toz (uZ c k).2 hpc ?_
      refine TGo.al0 dX8_tries_30 rfl ?_
      refine TGo.getI (t := 16) 3 3 (hB 56 (by decide)) rfl fgX8_26_8 dX8_tries_31 rfl rfl rfl ?_
      refine TGo.toz _ (hfw) ?_
      refine TGo.icmp_ge 65 dX8_tries_34 (by decide) (by omega) (fun h34 => ?_) (fun h34 => ?_)
      · refine TGo.al0 dX8_tries_65 rfl ?_
        refine TGo.dup dX8_tries_66 rfl ?_
        refine TGo.getI (t := 16) 4 4 (hB 56 (by decide)) rfl fgX8_30_8 dX8_tries_67 rfl rfl rfl ?_
        refine TGo.toz _ hcx.2.1 ?_
        refine TGo.ic1 dX8_tries_70 ?_
        refine TGo.iadd dX8_tries_71 ?_
        refine TGo.putI (t := 16) 4 4 (hB 56 (by decide)) rfl fpX8_30_8 dX8_tries_72 rfl rfl rfl ?_
        refine TGo.vret dX8_tries_75 rfl ?_
        have ek : caT (z.2 3) (z.2 3 1).toNat (z.2 3 0).toNat 0 k c S = ((S.1.1, S.1.2 + 1), S.2) := by
          show kpZ (z.2 3 0).toNat c S = _
          rw [← hkm]
          unfold kpZ
          rw [if_neg (by omega), if_pos (by omega)]
        have hF75 : Fr [B + 56, B + 57, B + 58] V (vI V (B + 56) 4 (S.1.2 + 1)) := Fr.rf.i (by simp)
        have hK := kpZ_B (c := c) (S := S) (show (z.2 3 0).toNat ≤ 6 by omega) hcb
        refine ⟨rfl, rfl, rfl, hR.sc (XSh.fr8 hF75), hF75, fun i i0 i1 => (u2_n (Or.inl (by omega))).trans (hrow i i0 i1), ?_, hK⟩
        rw [ek]; exact hcx.one (by omega) (by omega)
      · refine TGo.al0 dX8_tries_37 rfl ?_
        refine TGo.il2 dX8_tries_38 rfl ?_
        refine TGo.cF (csSN1 (y2 := mX0_ones) 2 (Nat.ble_eq_true_of_le (by omega)) dX8_tries_39 q1714 q1658 okX0_ones npX0_ones rfl rfl) (kX0_ones (by omega)) ?_
        refine TGo.toz (uZ c k).2 hpc ?_
        refine TGo.putI (t := 16) 3 3 (hB 56 (by decide)) rfl fpX8_26_8 dX8_tries_42 rfl rfl rfl ?_
        refine TGo.al0 dX8_tries_45 rfl ?_
        refine TGo.ic0 dX8_tries_46 ?_
        refine TGo.putI (t := 16) 4 4 (hB 56 (by decide)) rfl fpX8_30_8 dX8_tries_47 rfl rfl rfl ?_
        refine TGo.al0 dX8_tries_50 rfl ?_
        refine TGo.getS (t := 16) 0 0 (B + 57) (hB 56 (by decide)) rfl fgX8_15_8 dX8_tries_51 rfl rfl rfl ?_
        refine TGo.ic0 dX8_tries_54 ?_
        refine TGo.al0 dX8_tries_55 rfl ?_
        refine TGo.getS (t := 16) 1 1 (B + 58) (hB 56 (by decide)) rfl fgX8_19_8 dX8_tries_56 rfl rfl rfl ?_
        refine TGo.ic0 dX8_tries_59 ?_
        refine TGo.bip 6 dX8_tries_60 (by decide) ?_
        refine TGo.copyI dX8_tries_62 q1715 (hB 57 (by decide)) (hB 58 (by decide)) (by omega) rfl rfl rfl (by omega) ?_
        refine TGo.al0 dX8_tries_65 rfl ?_
        refine TGo.dup dX8_tries_66 rfl ?_
        refine TGo.getI (t := 16) 4 4 (hB 56 (by decide)) rfl fgX8_30_8 dX8_tries_67 rfl rfl rfl ?_
        refine TGo.toz 0 ((congrFun (u1_n (show B + 56 ≠ B + 58 by omega)) 4).trans u2_s) ?_
        refine TGo.ic1 dX8_tries_70 ?_
        refine TGo.iadd dX8_tries_71 ?_
        refine TGo.putI (t := 16) 4 4 (hB 56 (by decide)) rfl fpX8_30_8 dX8_tries_72 rfl rfl rfl ?_
        refine TGo.vret dX8_tries_75 rfl ?_
        have ek : caT (z.2 3) (z.2 3 1).toNat (z.2 3 0).toNat 0 k c S = (((uZ c k).2, 1), fun i => if 0 ≤ i ∧ i < (k : Int) then c i else S.2 i) := by
          show kpZ (z.2 3 0).toNat c S = _
          rw [← hkm]
          unfold kpZ
          rw [if_pos (by omega)]
        have hF75 : Fr [B + 56, B + 57, B + 58] V (vI (cpI (vI (vI V (B + 56) 3 (uZ c k).2) (B + 56) 4 0) (B + 57) (B + 58) 0 0 6) (B + 56) 4 (0 + 1)) := (((Fr.rf.i (by simp)).i (by simp)).cp (by simp)).i (by simp)
        have hK := kpZ_B (c := c) (S := S) (show (z.2 3 0).toNat ≤ 6 by omega) hcb
        refine ⟨rfl, rfl, rfl, hR.sc (XSh.fr8 hF75), hF75, fun i i0 i1 => ?_, ?_, hK⟩
        · exact (u2_n (Or.inl (by omega))).trans ((congrFun (u1_n (show B + 57 ≠ B + 58 by omega)) _).trans ((u2_n (Or.inl (by omega))).trans ((u2_n (Or.inl (by omega))).trans (hrow i i0 i1))))
        · rw [ek, ← hkm]; exact CxV.new hrow (by omega)
  · refine TGo.vret dX8_tries_11 rfl ?_
    have ec := caT_cut (f := z.2 3) (n := (z.2 3 1).toNat) (m := (z.2 3 0).toNat) r k c S hkr (by
      by_cases q : S.1.2 = 0
      · have := hf0 q; omega
      · have := hf1 q; omega)
    refine ⟨rfl, rfl, rfl, hR, Fr.rf, hrow, ?_, ?_⟩
    · rw [ec]; exact hcx
    · rw [ec]; exact hcb
theorem CasOK.all {E : ET} : ∀ r : Nat, CasOK E r := by
  intro r
  induction r with
  | zero => intro sh nn V B ow z c S k hR W hM hkr hci hrow hcx hcb; exact eX8_tries hR W hM hkr hci hrow hcx hcb (fun e he => by omega)
  | succ r ih => intro sh nn V B ow z c S k hR W hM hkr hci hrow hcx hcb; exact eX8_tries hR W hM hkr hci hrow hcx hcb (fun e he => (show r = e by omega) ▸ ih)
set_option maxHeartbeats 4000000 in
theorem iX8_finds {E : ET} {sh : SHT} {nn : Nat × Nat} {B : Nat} {ow : Nat → Nat} {z : ZT} {u : Nat} (W : RWZ (z.2 3)) (WL : LawsZ (z.2 3)) (hu : (u : Int) < z.2 3 0) (K : ∀ (V : VT) (x2 : Option Value), XR ow sh nn V B z → V.1 (B + 56) 3 = 9 ∧ V.1 (B + 56) 4 = 0 → (∀ p h, 0 ≤ p → p < z.2 3 0 → 0 ≤ h → h < z.2 3 1 → (p < ((u + 1 : Nat) : Int)) → V.1 (B + 59) (8 * p + h) = myZ (z.2 3) (8 * p + h)) → TGo E mX8_finds 213 13 [some (.ref (B + 56)), some (.int (iI (((u + 1) : Nat) : Int))), x2] [] sh nn V (fun o sh' nn' V' => o = .inl none ∧ sh' = sh ∧ nn' = nn ∧ XR ow sh nn V' B z ∧ CxV B V' (z.2 3 0).toNat (caZ (z.2 3)) ∧ CsB (caZ (z.2 3)))) : ∀ (n j : Nat) (V : VT), (z.2 3 1).toNat - j < n → j ≤ (z.2 3 1).toNat → XR ow sh nn V B z → ((V.1 (B + 56) 3 = 9 ∧ V.1 (B + 56) 4 = 0) ∧ (∀ p h, 0 ≤ p → p < z.2 3 0 → 0 ≤ h → h < z.2 3 1 → (p < (u : Int) ∨ (p = (u : Int) ∧ h < (j : Int))) → V.1 (B + 59) (8 * p + h) = myZ (z.2 3) (8 * p + h))) → TGo E mX8_finds 213 29 [some (.ref (B + 56)), some (.int (iI (u : Int))), some (.int (iI (((j) : Nat) : Int)))] [] sh nn V (fun o sh' nn' V' => o = .inl none ∧ sh' = sh ∧ nn' = nn ∧ XR ow sh nn V' B z ∧ CxV B V' (z.2 3 0).toNat (caZ (z.2 3)) ∧ CsB (caZ (z.2 3))) := by
  intro n
  induction n with
  | zero => intro j V h; omega
  | succ n ih =>
    intro j V hn hj hz hx
    obtain ⟨hB, how, hc, -⟩ := id hz
    have w0 := W.1.1
    have w1 := W.1.2.1
    have w7 := W.1.2.2.2.2.2.2.2.1
    obtain ⟨ap, av, al, cp, cv, cl, gp, gv, gl, hne, ⟨hp1, hp2⟩, ⟨hv1, hv2⟩, hl1, hl2⟩ := id hz.2.2.2.1
    refine TGo.il2 dX8_finds_29 rfl ?_
    refine TGo.al0 dX8_finds_30 rfl ?_
    refine TGo.getS (t := 16) 5 5 B (hB 56 (by decide)) rfl fgX8_3_8 dX8_finds_31 rfl rfl rfl ?_
    refine TGo.getS (t := 8) 2 2 (B + 2) (hB 0 (by decide)) rfl fgX8_33_0 dX8_finds_34 rfl rfl rfl ?_
    refine TGo.getS (t := 9) 5 5 (B + 26) (hB 2 (by decide)) rfl fgX8_42_1 dX8_finds_37 rfl rfl rfl ?_
    refine TGo.cF (csV0 (y2 := mJ2_size) (t := 20) 1 rfl (hB 26 (by decide)) rfl rfl dX8_finds_40 q1706 q757 q758 okJ2_size npJ2_size rfl rfl) (kJ2_size hp1.1) ?_
    refine TGo.toz (z.2 3 1) (Int.toNat_of_nonneg (by omega)) ?_
    refine TGo.icmp_ge 106 dX8_finds_43 (by decide) (by omega) (fun h43 => ?_) (fun h43 => ?_)
    · obtain rfl : j = (z.2 3 1).toNat := by omega
      refine TGo.iinc dX8_finds_106 rfl rfl rfl ?_
      refine TGo.goto 13 dX8_finds_109 (by decide) ?_
      exact K V _ hz hx.1 (fun p h p0 p1 h0 h1 hq => hx.2 p h p0 p1 h0 h1 (by omega))
    · refine TGo.al0 dX8_finds_46 rfl ?_
      refine TGo.getS (t := 16) 2 2 (B + 59) (hB 56 (by decide)) rfl fgX8_22_8 dX8_finds_47 rfl rfl rfl ?_
      refine TGo.bip 8 dX8_finds_50 (by decide) ?_
      refine TGo.il1 dX8_finds_52 rfl ?_
      refine TGo.imul dX8_finds_53 ?_
      refine TGo.il2 dX8_finds_54 rfl ?_
      refine TGo.iadd dX8_finds_55 ?_
      refine TGo.al0 dX8_finds_56 rfl ?_
      refine TGo.getS (t := 16) 5 5 B (hB 56 (by decide)) rfl fgX8_3_8 dX8_finds_57 rfl rfl rfl ?_
      refine TGo.il2 dX8_finds_60 rfl ?_
      refine TGo.al0 dX8_finds_61 rfl ?_
      refine TGo.getS (t := 16) 5 5 B (hB 56 (by decide)) rfl fgX8_3_8 dX8_finds_62 rfl rfl rfl ?_
      refine TGo.cF (csVN0 (y2 := mX0_year) (t := 8) 1 rfl (hB 0 (by decide)) rfl rfl dX8_finds_65 q1707 q829 qs8 okX0_year npX0_year rfl rfl) (kX0_year hB hc) ?_
      refine TGo.cF (csVN2 (y2 := mX0_isAlive) (t := 8) 4 rfl (hB 0 (by decide)) rfl rfl dX8_finds_68 q1708 q1457 qs17 okX0_isAlive npX0_isAlive rfl rfl) (kX0_isAlive hz W (by omega) (by omega)) ?_
      refine TGo.ifb_eq 98 dX8_finds_71 (by decide) (fun h71 => ?_) (fun h71 => ?_)
      · refine TGo.ic0 dX8_finds_98 ?_
        refine TGo.zast dX8_finds_99 (hB 59 (by decide)) (by omega) rfl (by first | exact Or.inl rfl | exact Or.inr rfl | exact bZ_or _ | assumption) ?_
        refine TGo.iinc dX8_finds_100 rfl rfl rfl ?_
        refine TGo.goto 29 dX8_finds_103 (by decide) ?_
        exact TGo.seq [some (.ref (B + 56)), some (.int (iI (u : Int))), some (.int (iI ((((j + 1)) : Nat) : Int)))] [] _ (rfl) rfl rfl (ih (j + 1) _ (by omega) (by omega) (hz.sc (FrS.rf.i 59 (by omega))) (by
          have em : myZ (z.2 3) (8 * (u : Int) + (j : Int)) = bZ ((u : Int) < z.2 3 0 ∧ (j : Int) < z.2 3 1 ∧ (z.2 3 (238 + 3 * (j : Int)) ≤ z.2 3 7 ∧ z.2 3 7 < z.2 3 (238 + 3 * (j : Int) + 1)) ∧ ¬ tellZ (z.2 3) 2 (j : Int) (u : Int) (-1) (z.2 3 7) 0 = 1) := by
            unfold myZ
            rw [show (8 * (u : Int) + (j : Int)) / 8 = (u : Int) by omega, show (8 * (u : Int) + (j : Int)) % 8 = (j : Int) by omega]
          refine ⟨⟨(u2_n (Or.inl (by omega))).trans hx.1.1, (u2_n (Or.inl (by omega))).trans hx.1.2⟩, fun p h p0 p1 h0 h1 hq => ?_⟩
          by_cases e : p = (u : Int) ∧ h = (j : Int)
          · rw [e.1, e.2, em]
            refine u2_s.trans ?_
            first
            | (exfalso; omega)
            | exact (bZ_t (by omega)).symm
            | exact (bZ_f (by omega)).symm
          · refine (u2_n (Or.inr (by omega))).trans ((hx.2 p h p0 p1 h0 h1 (by omega)))))
      · refine TGo.al0 dX8_finds_74 rfl ?_
        refine TGo.getS (t := 16) 5 5 B (hB 56 (by decide)) rfl fgX8_3_8 dX8_finds_75 rfl rfl rfl ?_
        refine TGo.il2 dX8_finds_78 rfl ?_
        refine TGo.il1 dX8_finds_79 rfl ?_
        refine TGo.icm1 dX8_finds_80 ?_
        refine TGo.al0 dX8_finds_81 rfl ?_
        refine TGo.getS (t := 16) 5 5 B (hB 56 (by decide)) rfl fgX8_3_8 dX8_finds_82 rfl rfl rfl ?_
        refine TGo.cF (csVN0 (y2 := mX0_year) (t := 8) 1 rfl (hB 0 (by decide)) rfl rfl dX8_finds_85 q1707 q829 qs8 okX0_year npX0_year rfl rfl) (kX0_year hB hc) ?_
        refine TGo.cS (csVN4 (y2 := mX0_isBarred) (t := 8) 212 rfl (hB 0 (by decide)) rfl rfl dX8_finds_88 q1709 q1441 qs16 okX0_isBarred npX0_isBarred rfl rfl) (kX0_isBarred hz W WL (by omega) (by omega) (by omega) (by omega)) (fun v88 V88 h88 => ?_)
        obtain ⟨rfl, hRb, hFb⟩ := h88
        refine TGo.ifb_ne 98 dX8_finds_91 (by decide) (fun h91 => ?_) (fun h91 => ?_)
        · refine TGo.ic0 dX8_finds_98 ?_
          refine TGo.zast dX8_finds_99 (hB 59 (by decide)) (by omega) rfl (by first | exact Or.inl rfl | exact Or.inr rfl | exact bZ_or _ | assumption) ?_
          refine TGo.iinc dX8_finds_100 rfl rfl rfl ?_
          refine TGo.goto 29 dX8_finds_103 (by decide) ?_
          exact TGo.seq [some (.ref (B + 56)), some (.int (iI (u : Int))), some (.int (iI ((((j + 1)) : Nat) : Int)))] [] _ (rfl) rfl rfl (ih (j + 1) _ (by omega) (by omega) (hRb.sc (FrS.rf.i 59 (by omega))) (by
            have em : myZ (z.2 3) (8 * (u : Int) + (j : Int)) = bZ ((u : Int) < z.2 3 0 ∧ (j : Int) < z.2 3 1 ∧ (z.2 3 (238 + 3 * (j : Int)) ≤ z.2 3 7 ∧ z.2 3 7 < z.2 3 (238 + 3 * (j : Int) + 1)) ∧ ¬ tellZ (z.2 3) 2 (j : Int) (u : Int) (-1) (z.2 3 7) 0 = 1) := by
              unfold myZ
              rw [show (8 * (u : Int) + (j : Int)) / 8 = (u : Int) by omega, show (8 * (u : Int) + (j : Int)) % 8 = (j : Int) by omega]
            refine ⟨⟨(u2_n (Or.inl (by omega))).trans ((congrFun (congrFun hFb.1 _) _).trans hx.1.1), (u2_n (Or.inl (by omega))).trans ((congrFun (congrFun hFb.1 _) _).trans hx.1.2)⟩, fun p h p0 p1 h0 h1 hq => ?_⟩
            by_cases e : p = (u : Int) ∧ h = (j : Int)
            · rw [e.1, e.2, em]
              refine u2_s.trans ?_
              first
              | (exfalso; omega)
              | exact (bZ_t (by omega)).symm
              | exact (bZ_f (by omega)).symm
            · refine (u2_n (Or.inr (by omega))).trans ((congrFun (congrFun hFb.1 _) _).trans (hx.2 p h p0 p1 h0 h1 (by omega)))))
        · refine TGo.ic1 dX8_finds_94 ?_
          refine TGo.goto 99 dX8_finds_95 (by decide) ?_
          refine TGo.zast dX8_finds_99 (hB 59 (by decide)) (by omega) rfl (by first | exact Or.inl rfl | exact Or.inr rfl | exact bZ_or _ | assumption) ?_
          refine TGo.iinc dX8_finds_100 rfl rfl rfl ?_
          refine TGo.goto 29 dX8_finds_103 (by decide) ?_
          exact TGo.seq [some (.ref (B + 56)), some (.int (iI (u : Int))), some (.int (iI ((((j + 1)) : Nat) : Int)))] [] _ (rfl) rfl rfl (ih (j + 1) _ (by omega) (by omega) (hRb.sc (FrS.rf.i 59 (by omega))) (by
            have em : myZ (z.2 3) (8 * (u : Int) + (j : Int)) = bZ ((u : Int) < z.2 3 0 ∧ (j : Int) < z.2 3 1 ∧ (z.2 3 (238 + 3 * (j : Int)) ≤ z.2 3 7 ∧ z.2 3 7 < z.2 3 (238 + 3 * (j : Int) + 1)) ∧ ¬ tellZ (z.2 3) 2 (j : Int) (u : Int) (-1) (z.2 3 7) 0 = 1) := by
              unfold myZ
              rw [show (8 * (u : Int) + (j : Int)) / 8 = (u : Int) by omega, show (8 * (u : Int) + (j : Int)) % 8 = (j : Int) by omega]
            refine ⟨⟨(u2_n (Or.inl (by omega))).trans ((congrFun (congrFun hFb.1 _) _).trans hx.1.1), (u2_n (Or.inl (by omega))).trans ((congrFun (congrFun hFb.1 _) _).trans hx.1.2)⟩, fun p h p0 p1 h0 h1 hq => ?_⟩
            by_cases e : p = (u : Int) ∧ h = (j : Int)
            · rw [e.1, e.2, em]
              refine u2_s.trans ?_
              first
              | (exfalso; omega)
              | exact (bZ_t (by omega)).symm
              | exact (bZ_f (by omega)).symm
            · refine (u2_n (Or.inr (by omega))).trans ((congrFun (congrFun hFb.1 _) _).trans (hx.2 p h p0 p1 h0 h1 (by omega)))))
set_option maxHeartbeats 4000000 in
theorem lX8_finds {E : ET} {sh : SHT} {nn : Nat × Nat} {B : Nat} {ow : Nat → Nat} {z : ZT} (W : RWZ (z.2 3)) (WL : LawsZ (z.2 3)) : ∀ (n j : Nat) (V : VT) (x2 : Option Value), (z.2 3 0).toNat - j < n → j ≤ (z.2 3 0).toNat → XR ow sh nn V B z → ((V.1 (B + 56) 3 = 9 ∧ V.1 (B + 56) 4 = 0) ∧ (∀ p h, 0 ≤ p → p < z.2 3 0 → 0 ≤ h → h < z.2 3 1 → (p < (j : Int)) → V.1 (B + 59) (8 * p + h) = myZ (z.2 3) (8 * p + h))) → TGo E mX8_finds 213 13 [some (.ref (B + 56)), some (.int (iI (((j) : Nat) : Int))), x2] [] sh nn V (fun o sh' nn' V' => o = .inl none ∧ sh' = sh ∧ nn' = nn ∧ XR ow sh nn V' B z ∧ CxV B V' (z.2 3 0).toNat (caZ (z.2 3)) ∧ CsB (caZ (z.2 3))) := by
  intro n
  induction n with
  | zero => intro j V x2 h; omega
  | succ n ih =>
    intro j V x2 hn hj hz hx
    obtain ⟨hB, how, hc, -⟩ := id hz
    have w0 := W.1.1
    have w1 := W.1.2.1
    refine TGo.il1 dX8_finds_13 rfl ?_
    refine TGo.al0 dX8_finds_14 rfl ?_
    refine TGo.getS (t := 16) 5 5 B (hB 56 (by decide)) rfl fgX8_3_8 dX8_finds_15 rfl rfl rfl ?_
    refine TGo.getS (t := 8) 2 2 (B + 2) (hB 0 (by decide)) rfl fgX8_33_0 dX8_finds_18 rfl rfl rfl ?_
    refine TGo.getI (t := 9) 8 8 (hB 2 (by decide)) rfl fgX8_37_1 dX8_finds_21 rfl rfl rfl ?_
    refine TGo.toz _ (hc.1.2.1.1) ?_
    refine TGo.icmp_ge 112 dX8_finds_24 (by decide) (by omega) (fun h24 => ?_) (fun h24 => ?_)
    · refine TGo.al0 dX8_finds_112 rfl ?_
      refine TGo.ic0 dX8_finds_113 ?_
      refine TGo.ic0 dX8_finds_114 ?_
      refine TGo.cN (csV2 (y2 := mX8_tries) (t := 16) ((z.2 3 0).toNat + 4) (Nat.ble_eq_true_of_le (by omega)) (hB 56 (by decide)) rfl rfl dX8_finds_115 q1710 q1712 qs33 okX8_tries npX8_tries rfl rfl) (CasOK.all (z.2 3 0).toNat (c := fun _ => 0) (S := ((1000000, 0), fun _ => 0)) (k := 0) hz W (fun p h p0 p1 h0 h1 => hx.2 p h p0 p1 h0 h1 (by omega)) (by omega) (fun i i0 i1 => by omega) (fun i i0 i1 => by omega) ⟨hx.1.1, hx.1.2, fun q => absurd rfl q⟩ ⟨by decide, fun _ => rfl, fun q => absurd rfl q⟩) (fun V115 h115 => ?_)
      obtain ⟨hR115, hF115, -, hcx, hcb⟩ := h115
      refine TGo.vret dX8_finds_118 rfl ?_
      exact ⟨rfl, rfl, rfl, hR115, hcx, hcb⟩
    · refine TGo.ic0 dX8_finds_27 ?_
      refine TGo.is2 dX8_finds_28 rfl rfl ?_
      exact TGo.seq [some (.ref (B + 56)), some (.int (iI (j : Int))), some (.int (iI (((0) : Nat) : Int)))] [] _ rfl rfl rfl (iX8_finds (u := j) W WL (by omega) (fun V1 y2 hz1 h1 h2 => ih (j + 1) V1 y2 (by omega) (by omega) hz1 ⟨h1, h2⟩) ((z.2 3 1).toNat + 1) 0 V (by omega) (by omega) hz ⟨hx.1, fun p h p0 p1 h0 h1 hq => hx.2 p h p0 p1 h0 h1 (by omega)⟩)
set_option maxHeartbeats 4000000 in
theorem kX8_finds {E : ET} {sh : SHT} {nn : Nat × Nat} {V : VT} {B : Nat} {ow : Nat → Nat} {z : ZT} (hR : XR ow sh nn V B z) (W : RWZ (z.2 3)) (WL : LawsZ (z.2 3)) : TC E mX8_finds 213 [.ref (B + 56)] sh nn V (fun o sh' nn' V' => o = .inl none ∧ sh' = sh ∧ nn' = nn ∧ XR ow sh nn V' B z ∧ CxV B V' (z.2 3 0).toNat (caZ (z.2 3)) ∧ CsB (caZ (z.2 3))) := by
  obtain ⟨hB, -, hc, -⟩ := id hR
  have w0 := W.1.1
  have w1 := W.1.2.1
  refine TC.intro [some (.ref (B + 56)), none, none] rfl ?_
  refine TGo.al0 dX8_finds_0 rfl ?_
  refine TGo.bip 9 dX8_finds_1 (by decide) ?_
  refine TGo.putI (t := 16) 3 3 (hB 56 (by decide)) rfl fpX8_26_8 dX8_finds_3 rfl rfl rfl ?_
  refine TGo.al0 dX8_finds_6 rfl ?_
  refine TGo.ic0 dX8_finds_7 ?_
  refine TGo.putI (t := 16) 4 4 (hB 56 (by decide)) rfl fpX8_30_8 dX8_finds_8 rfl rfl rfl ?_
  refine TGo.ic0 dX8_finds_11 ?_
  refine TGo.is1 dX8_finds_12 rfl rfl ?_
  exact lX8_finds W WL ((z.2 3 0).toNat + 1) 0 _ _ (by omega) (by omega) (hR.sc ((FrS.rf.i 56 (by omega)).i 56 (by omega))) ⟨⟨(u2_n (Or.inr (by decide))).trans u2_s, u2_s⟩, fun p h p0 p1 h0 h1 hq => by omega⟩
set_option maxHeartbeats 4000000 in
theorem kX0_cast {E : ET} {sh : SHT} {nn : Nat × Nat} {V : VT} {B : Nat} {ow : Nat → Nat} {z : ZT} {w : Int} (hR : XR ow sh nn V B z) (W : RWZ (z.2 3)) (WL : LawsZ (z.2 3)) (rw : R32 w) : TC E mX0_cast 214 [.ref B, .int (iI w)] sh nn V (XP B nn (zp_cast z w)) := by
  obtain ⟨hB, -, hc, -⟩ := id hR
  have w0 := W.1.1
  have w1 := W.1.2.1
  have hcab := caZ_b W
  have hcab2 := hcab.2.1
  refine TC.intro [some (.ref B), some (.int (iI w))] rfl ?_
  refine TGo.il1 dX0_cast_0 rfl ?_
  refine TGo.ic0 dX0_cast_1 ?_
  refine TGo.al0 dX0_cast_2 rfl ?_
  refine TGo.getS (t := 8) 2 2 (B + 2) (hB 0 (by decide)) rfl fgX0_16_0 dX0_cast_3 rfl rfl rfl ?_
  refine TGo.getI (t := 9) 8 8 (hB 2 (by decide)) rfl fgX0_119_1 dX0_cast_6 rfl rfl rfl ?_
  refine TGo.toz _ (hc.1.2.1.1) ?_
  refine TGo.cF (csS3 (y2 := mX0_in) 1 rfl dX0_cast_9 q598 q599 okX0_in npX0_in rfl rfl) (kX0_in (by omega) (by omega) (by omega)) ?_
  refine TGo.ifb_ne 23 dX0_cast_12 (by decide) (fun h12 => ?_) (fun h12 => ?_)
  · refine TGo.al0 dX0_cast_23 rfl ?_
    refine TGo.getS (t := 8) 15 15 (B + 56) (hB 0 (by decide)) rfl fgX0_78_0 dX0_cast_24 rfl rfl rfl ?_
    refine TGo.callG (csV0 (y2 := mX8_finds) (t := 16) 213 rfl (hB 56 (by decide)) rfl rfl dX0_cast_27 q1702 q1703 q1704 okX8_finds npX8_finds rfl rfl) (kX8_finds hR W WL) (fun o27 sh27 nn27 V27 e27 h27 => ?_)
    obtain ⟨rfl, rfl, rfl, hR27, hcx, hcb⟩ := h27
    obtain ⟨hcb1, hcb2, hcb3⟩ := id hcb
    obtain ⟨fw, hfw⟩ : ∃ fw, V27.1 (B + 56) 3 = fw := ⟨_, rfl⟩
    have hf1 : (caZ (z.2 3)).1.2 ≠ 0 → fw = (caZ (z.2 3)).1.1 := fun q => by rw [← hfw, hcx.1, if_neg q]
    show TGo _ _ _ _ _ _ _ _ _ _
    refine TGo.il1 dX0_cast_30 rfl ?_
    refine TGo.bip 20 dX0_cast_31 (by decide) ?_
    refine TGo.icmp_ne 44 dX0_cast_33 (by decide) (by omega) (fun h33 => ?_) (fun h33 => ?_)
    · refine TGo.al0 dX0_cast_44 rfl ?_
      refine TGo.getS (t := 8) 15 15 (B + 56) (hB 0 (by decide)) rfl fgX0_78_0 dX0_cast_45 rfl rfl rfl ?_
      refine TGo.getI (t := 16) 4 4 (hB 56 (by decide)) rfl fgX0_477_8 dX0_cast_48 rfl rfl rfl ?_
      refine TGo.toz _ (hcx.2.1) ?_
      refine TGo.if_ne 56 dX0_cast_51 (by decide) (by omega) (fun h51 => ?_) (fun h51 => ?_)
      · refine TGo.il1 dX0_cast_56 rfl ?_
        refine TGo.if_ne 70 dX0_cast_57 (by decide) (by omega) (fun h57 => ?_) (fun h57 => ?_)
        · refine TGo.al0 dX0_cast_70 rfl ?_
          refine TGo.getS (t := 8) 15 15 (B + 56) (hB 0 (by decide)) rfl fgX0_78_0 dX0_cast_71 rfl rfl rfl ?_
          refine TGo.getS (t := 16) 1 1 (B + 58) (hB 56 (by decide)) rfl fgX0_481_8 dX0_cast_74 rfl rfl rfl ?_
          refine TGo.il1 dX0_cast_77 rfl ?_
          refine TGo.ic1 dX0_cast_78 ?_
          refine TGo.isub dX0_cast_79 ?_
          refine TGo.iald dX0_cast_80 (hB 58 (by decide)) (by omega) rfl ?_
          refine TGo.toz _ ((hcx.2.2 (by omega) _ (by omega) (by omega))) ?_
          refine TGo.iret dX0_cast_81 rfl ?_
          first
          | (exfalso; omega)
          | (refine hR.same ?_
             unfold zp_cast
             rw [if_pos (by omega)])
          | (refine hR27.same ?_
             unfold zp_cast
             rw [if_neg (by omega)]
             first
             | (rw [if_pos (show w = 20 by omega)])
             | (rw [if_neg (show ¬ w = 20 by omega), if_pos (by omega)])
             | (rw [if_neg (show ¬ w = 20 by omega), if_neg (by omega), if_pos (show w = 0 by omega), hf1 (by omega)])
             | (rw [if_neg (show ¬ w = 20 by omega), if_neg (by omega), if_neg (show ¬ w = 0 by omega)]))
        · refine TGo.al0 dX0_cast_60 rfl ?_
          refine TGo.getS (t := 8) 15 15 (B + 56) (hB 0 (by decide)) rfl fgX0_78_0 dX0_cast_61 rfl rfl rfl ?_
          refine TGo.getI (t := 16) 3 3 (hB 56 (by decide)) rfl fgX0_478_8 dX0_cast_64 rfl rfl rfl ?_
          refine TGo.toz _ (hfw) ?_
          refine TGo.goto 81 dX0_cast_67 (by decide) ?_
          refine TGo.iret dX0_cast_81 rfl ?_
          first
          | (exfalso; omega)
          | (refine hR.same ?_
             unfold zp_cast
             rw [if_pos (by omega)])
          | (refine hR27.same ?_
             unfold zp_cast
             rw [if_neg (by omega)]
             first
             | (rw [if_pos (show w = 20 by omega)])
             | (rw [if_neg (show ¬ w = 20 by omega), if_pos (by omega)])
             | (rw [if_neg (show ¬ w = 20 by omega), if_neg (by omega), if_pos (show w = 0 by omega), hf1 (by omega)])
             | (rw [if_neg (show ¬ w = 20 by omega), if_neg (by omega), if_neg (show ¬ w = 0 by omega)]))
      · refine TGo.icm1 dX0_cast_54 ?_
        refine TGo.iret dX0_cast_55 rfl ?_
        first
        | (exfalso; omega)
        | (refine hR.same ?_
           unfold zp_cast
           rw [if_pos (by omega)])
        | (refine hR27.same ?_
           unfold zp_cast
           rw [if_neg (by omega)]
           first
           | (rw [if_pos (show w = 20 by omega)])
           | (rw [if_neg (show ¬ w = 20 by omega), if_pos (by omega)])
           | (rw [if_neg (show ¬ w = 20 by omega), if_neg (by omega), if_pos (show w = 0 by omega), hf1 (by omega)])
           | (rw [if_neg (show ¬ w = 20 by omega), if_neg (by omega), if_neg (show ¬ w = 0 by omega)]))
    · refine TGo.al0 dX0_cast_36 rfl ?_
      refine TGo.getS (t := 8) 15 15 (B + 56) (hB 0 (by decide)) rfl fgX0_78_0 dX0_cast_37 rfl rfl rfl ?_
      refine TGo.getI (t := 16) 4 4 (hB 56 (by decide)) rfl fgX0_477_8 dX0_cast_40 rfl rfl rfl ?_
      refine TGo.toz _ (hcx.2.1) ?_
      refine TGo.iret dX0_cast_43 rfl ?_
      first
      | (exfalso; omega)
      | (refine hR.same ?_
         unfold zp_cast
         rw [if_pos (by omega)])
      | (refine hR27.same ?_
         unfold zp_cast
         rw [if_neg (by omega)]
         first
         | (rw [if_pos (show w = 20 by omega)])
         | (rw [if_neg (show ¬ w = 20 by omega), if_pos (by omega)])
         | (rw [if_neg (show ¬ w = 20 by omega), if_neg (by omega), if_pos (show w = 0 by omega), hf1 (by omega)])
         | (rw [if_neg (show ¬ w = 20 by omega), if_neg (by omega), if_neg (show ¬ w = 0 by omega)]))
  · refine TGo.il1 dX0_cast_15 rfl ?_
    refine TGo.bip 20 dX0_cast_16 (by decide) ?_
    refine TGo.icmp_eq 23 dX0_cast_18 (by decide) (by omega) (fun h18 => ?_) (fun h18 => ?_)
    · refine TGo.al0 dX0_cast_23 rfl ?_
      refine TGo.getS (t := 8) 15 15 (B + 56) (hB 0 (by decide)) rfl fgX0_78_0 dX0_cast_24 rfl rfl rfl ?_
      refine TGo.callG (csV0 (y2 := mX8_finds) (t := 16) 213 rfl (hB 56 (by decide)) rfl rfl dX0_cast_27 q1702 q1703 q1704 okX8_finds npX8_finds rfl rfl) (kX8_finds hR W WL) (fun o27 sh27 nn27 V27 e27 h27 => ?_)
      obtain ⟨rfl, rfl, rfl, hR27, hcx, hcb⟩ := h27
      obtain ⟨hcb1, hcb2, hcb3⟩ := id hcb
      obtain ⟨fw, hfw⟩ : ∃ fw, V27.1 (B + 56) 3 = fw := ⟨_, rfl⟩
      have hf1 : (caZ (z.2 3)).1.2 ≠ 0 → fw = (caZ (z.2 3)).1.1 := fun q => by rw [← hfw, hcx.1, if_neg q]
      show TGo _ _ _ _ _ _ _ _ _ _
      refine TGo.il1 dX0_cast_30 rfl ?_
      refine TGo.bip 20 dX0_cast_31 (by decide) ?_
      refine TGo.icmp_ne 44 dX0_cast_33 (by decide) (by omega) (fun h33 => ?_) (fun h33 => ?_)
      · refine TGo.al0 dX0_cast_44 rfl ?_
        refine TGo.getS (t := 8) 15 15 (B + 56) (hB 0 (by decide)) rfl fgX0_78_0 dX0_cast_45 rfl rfl rfl ?_
        refine TGo.getI (t := 16) 4 4 (hB 56 (by decide)) rfl fgX0_477_8 dX0_cast_48 rfl rfl rfl ?_
        refine TGo.toz _ (hcx.2.1) ?_
        refine TGo.if_ne 56 dX0_cast_51 (by decide) (by omega) (fun h51 => ?_) (fun h51 => ?_)
        · refine TGo.il1 dX0_cast_56 rfl ?_
          refine TGo.if_ne 70 dX0_cast_57 (by decide) (by omega) (fun h57 => ?_) (fun h57 => ?_)
          · refine TGo.al0 dX0_cast_70 rfl ?_
            refine TGo.getS (t := 8) 15 15 (B + 56) (hB 0 (by decide)) rfl fgX0_78_0 dX0_cast_71 rfl rfl rfl ?_
            refine TGo.getS (t := 16) 1 1 (B + 58) (hB 56 (by decide)) rfl fgX0_481_8 dX0_cast_74 rfl rfl rfl ?_
            refine TGo.il1 dX0_cast_77 rfl ?_
            refine TGo.ic1 dX0_cast_78 ?_
            refine TGo.isub dX0_cast_79 ?_
            refine TGo.iald dX0_cast_80 (hB 58 (by decide)) (by omega) rfl ?_
            refine TGo.toz _ ((hcx.2.2 (by omega) _ (by omega) (by omega))) ?_
            refine TGo.iret dX0_cast_81 rfl ?_
            first
            | (exfalso; omega)
            | (refine hR.same ?_
               unfold zp_cast
               rw [if_pos (by omega)])
            | (refine hR27.same ?_
               unfold zp_cast
               rw [if_neg (by omega)]
               first
               | (rw [if_pos (show w = 20 by omega)])
               | (rw [if_neg (show ¬ w = 20 by omega), if_pos (by omega)])
               | (rw [if_neg (show ¬ w = 20 by omega), if_neg (by omega), if_pos (show w = 0 by omega), hf1 (by omega)])
               | (rw [if_neg (show ¬ w = 20 by omega), if_neg (by omega), if_neg (show ¬ w = 0 by omega)]))
          · refine TGo.al0 dX0_cast_60 rfl ?_
            refine TGo.getS (t := 8) 15 15 (B + 56) (hB 0 (by decide)) rfl fgX0_78_0 dX0_cast_61 rfl rfl rfl ?_
            refine TGo.getI (t := 16) 3 3 (hB 56 (by decide)) rfl fgX0_478_8 dX0_cast_64 rfl rfl rfl ?_
            refine TGo.toz _ (hfw) ?_
            refine TGo.goto 81 dX0_cast_67 (by decide) ?_
            refine TGo.iret dX0_cast_81 rfl ?_
            first
            | (exfalso; omega)
            | (refine hR.same ?_
               unfold zp_cast
               rw [if_pos (by omega)])
            | (refine hR27.same ?_
               unfold zp_cast
               rw [if_neg (by omega)]
               first
               | (rw [if_pos (show w = 20 by omega)])
               | (rw [if_neg (show ¬ w = 20 by omega), if_pos (by omega)])
               | (rw [if_neg (show ¬ w = 20 by omega), if_neg (by omega), if_pos (show w = 0 by omega), hf1 (by omega)])
               | (rw [if_neg (show ¬ w = 20 by omega), if_neg (by omega), if_neg (show ¬ w = 0 by omega)]))
        · refine TGo.icm1 dX0_cast_54 ?_
          refine TGo.iret dX0_cast_55 rfl ?_
          first
          | (exfalso; omega)
          | (refine hR.same ?_
             unfold zp_cast
             rw [if_pos (by omega)])
          | (refine hR27.same ?_
             unfold zp_cast
             rw [if_neg (by omega)]
             first
             | (rw [if_pos (show w = 20 by omega)])
             | (rw [if_neg (show ¬ w = 20 by omega), if_pos (by omega)])
             | (rw [if_neg (show ¬ w = 20 by omega), if_neg (by omega), if_pos (show w = 0 by omega), hf1 (by omega)])
             | (rw [if_neg (show ¬ w = 20 by omega), if_neg (by omega), if_neg (show ¬ w = 0 by omega)]))
      · refine TGo.al0 dX0_cast_36 rfl ?_
        refine TGo.getS (t := 8) 15 15 (B + 56) (hB 0 (by decide)) rfl fgX0_78_0 dX0_cast_37 rfl rfl rfl ?_
        refine TGo.getI (t := 16) 4 4 (hB 56 (by decide)) rfl fgX0_477_8 dX0_cast_40 rfl rfl rfl ?_
        refine TGo.toz _ (hcx.2.1) ?_
        refine TGo.iret dX0_cast_43 rfl ?_
        first
        | (exfalso; omega)
        | (refine hR.same ?_
           unfold zp_cast
           rw [if_pos (by omega)])
        | (refine hR27.same ?_
           unfold zp_cast
           rw [if_neg (by omega)]
           first
           | (rw [if_pos (show w = 20 by omega)])
           | (rw [if_neg (show ¬ w = 20 by omega), if_pos (by omega)])
           | (rw [if_neg (show ¬ w = 20 by omega), if_neg (by omega), if_pos (show w = 0 by omega), hf1 (by omega)])
           | (rw [if_neg (show ¬ w = 20 by omega), if_neg (by omega), if_neg (show ¬ w = 0 by omega)]))
    · refine TGo.icm1 dX0_cast_21 ?_
      refine TGo.iret dX0_cast_22 rfl ?_
      first
      | (exfalso; omega)
      | (refine hR.same ?_
         unfold zp_cast
         rw [if_pos (by omega)])
      | (refine hR27.same ?_
         unfold zp_cast
         rw [if_neg (by omega)]
         first
         | (rw [if_pos (show w = 20 by omega)])
         | (rw [if_neg (show ¬ w = 20 by omega), if_pos (by omega)])
         | (rw [if_neg (show ¬ w = 20 by omega), if_neg (by omega), if_pos (show w = 0 by omega), hf1 (by omega)])
         | (rw [if_neg (show ¬ w = 20 by omega), if_neg (by omega), if_neg (show ¬ w = 0 by omega)]))
