/-! THE MODEL: drift, origins, what was drawn -/
set_option maxRecDepth 100000
theorem leafZL {T : Nat} {V : VT} {sh : SHT} {nn : Nat × Nat} {x : Int × ZT} {r : Int} {z : ZT} (hp : PE T V z) (h : x = (r, z)) : (Sum.inl (some (Value.long (lI r))) : AO) = .inl (some (.long (lI x.1))) ∧ sh = sh ∧ nn = nn ∧ PE T V x.2 := by subst h; exact ⟨rfl, rfl, rfl, hp⟩
abbrev ZPL (T : Nat) (sh : SHT) (nn : Nat × Nat) (x : Int × ZT) : AO → SHT → Nat × Nat → VT → Prop := fun o sh' nn' V' => o = .inl (some (.long (lI x.1))) ∧ sh' = sh ∧ nn' = nn ∧ PE T V' x.2
theorem iI_or0 (a : Int) : iI a ||| iI 0 = iI a := by
  apply Int32.toBitVec_inj.mp
  show (iI a).toBitVec ||| (iI 0).toBitVec = _
  have : (iI 0).toBitVec = 0#32 := rfl
  rw [this, BitVec.or_zero]
theorem nI_or (n m : Nat) : nI n ||| nI m = nI (n ||| m) := by
  apply Int32.toBitVec_inj.mp
  show BitVec.ofNat 32 n ||| BitVec.ofNat 32 m = BitVec.ofNat 32 (n ||| m)
  rw [BitVec.ofNat_or]
theorem iI_shl {k : Nat} (hk : k < 31) : iI 1 <<< (iI (k : Int) &&& 31) = nI (2 ^ k) := by
  have : ∀ m : Nat, m < 31 → iI 1 <<< (iI (m : Int) &&& 31) = nI (2 ^ m) := by decide +kernel
  exact this k hk
theorem iI_orb {a : Int} {k : Nat} (h : 0 ≤ a ∧ a < ((2 ^ k : Nat) : Int)) (hk : k < 31) : iI a ||| (iI 1 <<< (iI (k : Int) &&& 31)) = iI (a + ((2 ^ k : Nat) : Int)) := by
  obtain ⟨n, rfl⟩ := iI_get h.1
  rw [iI_shl hk, iI_nat, nI_or]
  have h1 : n < 2 ^ k := by omega
  have h2 := Nat.two_pow_add_eq_or_of_lt h1 1
  rw [Nat.mul_one] at h2
  rw [Nat.or_comm, ← h2, Nat.add_comm, ← iI_nat]
  rfl
theorem iI_and1 (x : Int32) : x &&& iI 1 = iI (x.toInt % 2) := by
  apply Int32.toInt_inj.mp
  rw [iI_to (by omega)]
  have h1 : (x &&& iI 1).toInt = (x.toBitVec &&& 1#32).toInt := rfl
  have h2 : x.toInt = x.toBitVec.toInt := rfl
  have h3 : x.toBitVec.toNat &&& 1 = x.toBitVec.toNat % 2 := Nat.and_two_pow_sub_one_eq_mod _ 1
  have h4 := x.toBitVec.isLt
  rw [h1, h2, BitVec.toInt_eq_toNat_cond, BitVec.toInt_eq_toNat_cond, BitVec.toNat_and]
  have h5 : (1#32).toNat = 1 := rfl
  rw [h5, h3]
  split <;> split <;> omega
theorem iI_bit {a : Int} (h : -2147483648 ≤ a ∧ a ≤ 2147483647) {k : Nat} (hk : k < 32) : (iI a >>> (iI (k : Int) &&& 31)) &&& iI 1 = iI (a / ((2 ^ k : Nat) : Int) % 2) := by
  rw [iI_shr _ k hk, iI_and1, iI_to h]
  have h1 : (1 : Int) ≤ ((2 ^ k : Nat) : Int) := Int.ofNat_le.mpr Nat.one_le_two_pow
  generalize ((2 ^ k : Nat) : Int) = dd at h1
  have h2 : -2147483648 ≤ a / dd := (Int.le_ediv_iff_mul_le (by omega)).mpr (by omega)
  have h3 : a / dd < 2147483648 := (Int.ediv_lt_iff_lt_mul (by omega)).mpr (by omega)
  rw [iI_to (by omega)]
/-- choices of k out of n -/
def chZ (n k : Int) : Nat → Int
  | 0 => 1
  | i + 1 => (chZ n k i * (n - k + ((i : Int) + 1))).tdiv ((i : Int) + 1)
def dvZ (v k s : Int) : Nat → Int
  | 0 => v
  | i + 1 => dvZ v k s i * (if (i : Int) < k then s else 100 - s)
theorem chZ_r {n k : Int} (hn : 0 ≤ n ∧ n ≤ 6) (hk : 0 ≤ k ∧ k ≤ n) (i : Nat) (hi : (i : Int) ≤ k) : 0 ≤ chZ n k i ∧ chZ n k i ≤ 1000 := by
  have h : ∀ n : Nat, n < 7 → ∀ k : Nat, k < n + 1 → ∀ i : Nat, i < k + 1 → 0 ≤ chZ n k i ∧ chZ n k i ≤ 1000 := by decide +kernel
  have h1 := h n.toNat (by omega) k.toNat (by omega) i (by omega)
  rw [show ((n.toNat : Nat) : Int) = n by omega, show ((k.toNat : Nat) : Int) = k by omega] at h1
  exact h1
def zp_drift (z : ZT) (n k : Int) : Int × ZT := if ¬ ((0 ≤ n ∧ n ≤ 6) ∧ 0 ≤ k ∧ k ≤ 9) then (-1, z) else if n < k then (0, z) else (dvZ (chZ n k k.toNat) k (z.2 3 9) n.toNat, z)
set_option maxHeartbeats 4000000 in
theorem lX10_drift2 {E : ET} {sh : SHT} {nn : Nat × Nat} {T : Nat} {z : ZT} {n0 k v : Int} {m : Nat} (hT : MSh T sh) (hn0 : 0 ≤ n0 ∧ n0 ≤ 6) (hm : n0 = (m : Int)) (hk : 0 ≤ k ∧ k ≤ n0) (W : RWZ (z.2 3)) : ∀ (n j : Nat) (V : VT), m - j < n → j ≤ m → PE T V z → TGo E mX10_drift 2 74 [some (.ref T), some (.int (iI n0)), some (.int (iI k)), some (.long (lI (dvZ v k (z.2 3 9) (j)))), none, some (.int (iI (((j) : Nat) : Int)))] [] sh nn V (fun o sh' nn' V' => o = .inl (some (.long (lI (dvZ v k (z.2 3 9) m)))) ∧ sh' = sh ∧ nn' = nn ∧ PE T V' z) := by
  intro n
  induction n with
  | zero => intro j V h; omega
  | succ n ih =>
    intro j V hn hj hz
    have w9 := W.1.2.2.2.2.2.2.2.2.2
    refine TGo.il dX10_drift_74 rfl ?_
    refine TGo.il1 dX10_drift_76 rfl ?_
    refine TGo.icmp_ge 117 dX10_drift_77 (by decide) (by omega) (fun h77 => ?_) (fun h77 => ?_)
    · refine TGo.ll3 dX10_drift_117 rfl ?_
      refine TGo.lret dX10_drift_118 rfl ?_
      obtain rfl : j = m := by omega
      exact ⟨rfl, rfl, rfl, hz⟩
    · refine TGo.ll3 dX10_drift_80 rfl ?_
      refine TGo.il dX10_drift_81 rfl ?_
      refine TGo.il2 dX10_drift_83 rfl ?_
      refine TGo.icmp_ge 98 dX10_drift_84 (by decide) (by omega) (fun h84 => ?_) (fun h84 => ?_)
      · refine TGo.bip 100 dX10_drift_98 (by decide) ?_
        refine TGo.al0 dX10_drift_100 rfl ?_
        refine TGo.getS (t := 18) 3 3 (T + 2) (hT 0 (by decide)) rfl fgX10_13_10 dX10_drift_101 rfl rfl rfl ?_
        refine TGo.bip 9 dX10_drift_104 (by decide) ?_
        refine TGo.iald dX10_drift_106 (hT 2 (by decide)) (by omega) rfl ?_
        refine TGo.toz _ (hz.2.1 3 (by decide) _) ?_
        refine TGo.isub dX10_drift_107 ?_
        refine TGo.i2l dX10_drift_108 (by omega) ?_
        refine TGo.lmul dX10_drift_109 ?_
        refine TGo.ls3 dX10_drift_110 rfl rfl ?_
        refine TGo.iinc dX10_drift_111 rfl rfl rfl ?_
        refine TGo.goto 74 dX10_drift_114 (by decide) ?_
        exact TGo.seq [some (.ref T), some (.int (iI n0)), some (.int (iI k)), some (.long (lI (dvZ v k (z.2 3 9) ((j + 1))))), none, some (.int (iI ((((j + 1)) : Nat) : Int)))] [] _ (by rw [dvZ]; first | (rw [if_pos (by first | assumption | omega)]; rfl) | (rw [if_neg (by first | assumption | omega)]; rfl)) rfl rfl (ih (j + 1) _ (by omega) (by omega) hz)
      · refine TGo.al0 dX10_drift_87 rfl ?_
        refine TGo.getS (t := 18) 3 3 (T + 2) (hT 0 (by decide)) rfl fgX10_13_10 dX10_drift_88 rfl rfl rfl ?_
        refine TGo.bip 9 dX10_drift_91 (by decide) ?_
        refine TGo.iald dX10_drift_93 (hT 2 (by decide)) (by omega) rfl ?_
        refine TGo.toz _ (hz.2.1 3 (by decide) _) ?_
        refine TGo.i2l dX10_drift_94 (by omega) ?_
        refine TGo.goto 109 dX10_drift_95 (by decide) ?_
        refine TGo.lmul dX10_drift_109 ?_
        refine TGo.ls3 dX10_drift_110 rfl rfl ?_
        refine TGo.iinc dX10_drift_111 rfl rfl rfl ?_
        refine TGo.goto 74 dX10_drift_114 (by decide) ?_
        exact TGo.seq [some (.ref T), some (.int (iI n0)), some (.int (iI k)), some (.long (lI (dvZ v k (z.2 3 9) ((j + 1))))), none, some (.int (iI ((((j + 1)) : Nat) : Int)))] [] _ (by rw [dvZ]; first | (rw [if_pos (by first | assumption | omega)]; rfl) | (rw [if_neg (by first | assumption | omega)]; rfl)) rfl rfl (ih (j + 1) _ (by omega) (by omega) hz)
set_option maxHeartbeats 4000000 in
theorem lX10_drift1 {E : ET} {sh : SHT} {nn : Nat × Nat} {T : Nat} {z : ZT} {n0 k : Int} {m : Nat} (hT : MSh T sh) (hn0 : 0 ≤ n0 ∧ n0 ≤ 6) (hm : k = (m : Int)) (hk : 0 ≤ k ∧ k ≤ n0) (W : RWZ (z.2 3)) : ∀ (n j : Nat) (V : VT), m - j < n → j ≤ m → PE T V z → TGo E mX10_drift 2 45 [some (.ref T), some (.int (iI n0)), some (.int (iI k)), some (.long (lI (chZ n0 k (j)))), none, some (.int (iI (((j) : Nat) + 1 : Int)))] [] sh nn V (fun o sh' nn' V' => o = .inl (some (.long (lI (dvZ (chZ n0 k m) k (z.2 3 9) n0.toNat)))) ∧ sh' = sh ∧ nn' = nn ∧ PE T V' z) := by
  intro n
  induction n with
  | zero => intro j V h; omega
  | succ n ih =>
    intro j V hn hj hz
    have hc := chZ_r hn0 hk j (by omega)
    have hmul : chZ n0 k j * (n0 - k + ((j : Int) + 1)) ≤ 1000 * 20 ∧ 0 ≤ chZ n0 k j * (n0 - k + ((j : Int) + 1)) := ⟨Int.mul_le_mul hc.2 (by omega) (by omega) (by omega), Int.mul_nonneg hc.1 (by omega)⟩
    refine TGo.il dX10_drift_45 rfl ?_
    refine TGo.il2 dX10_drift_47 rfl ?_
    refine TGo.icmp_gt 71 dX10_drift_48 (by decide) (by omega) (fun h48 => ?_) (fun h48 => ?_)
    · refine TGo.ic0 dX10_drift_71 ?_
      refine TGo.is dX10_drift_72 rfl rfl ?_
      obtain rfl : j = m := by omega
      exact lX10_drift2 (m := n0.toNat) hT hn0 (by omega) hk W (n0.toNat + 1) 0 _ (by omega) (by omega) hz
    · refine TGo.ll3 dX10_drift_51 rfl ?_
      refine TGo.il1 dX10_drift_52 rfl ?_
      refine TGo.il2 dX10_drift_53 rfl ?_
      refine TGo.isub dX10_drift_54 ?_
      refine TGo.il dX10_drift_55 rfl ?_
      refine TGo.iadd dX10_drift_57 ?_
      refine TGo.i2l dX10_drift_58 (by omega) ?_
      refine TGo.lmul dX10_drift_59 ?_
      refine TGo.il dX10_drift_60 rfl ?_
      refine TGo.i2l dX10_drift_62 (by omega) ?_
      refine TGo.ldiv dX10_drift_63 (by omega) (by omega) ?_
      refine TGo.ls3 dX10_drift_64 rfl rfl ?_
      refine TGo.iinc dX10_drift_65 rfl rfl rfl ?_
      refine TGo.goto 45 dX10_drift_68 (by decide) ?_
      exact TGo.seq [some (.ref T), some (.int (iI n0)), some (.int (iI k)), some (.long (lI (chZ n0 k ((j + 1))))), none, some (.int (iI ((((j + 1)) : Nat) + 1 : Int)))] [] _ (rfl) rfl rfl (ih (j + 1) _ (by omega) (by omega) hz)
set_option maxHeartbeats 4000000 in
theorem kX10_drift {E : ET} {sh : SHT} {nn : Nat × Nat} {V : VT} {T : Nat} {z : ZT} {n k : Int} (hT : MSh T sh) (hz : PE T V z) (W : RWZ (z.2 3)) (rn : R32 n) (rk : R32 k) : TC E mX10_drift 2 [.ref T, .int (iI n), .int (iI k)] sh nn V (ZPL T sh nn (zp_drift z n k)) := by
  have w9 := W.1.2.2.2.2.2.2.2.2.2
  refine TC.intro [some (.ref T), some (.int (iI n)), some (.int (iI k)), none, none, none] rfl ?_
  refine TGo.al0 dX10_drift_0 rfl ?_
  refine TGo.ic0 dX10_drift_1 ?_
  refine TGo.putI (t := 18) 0 0 (hT 0 (by decide)) rfl fpX10_163_10 dX10_drift_2 rfl rfl rfl ?_
  refine TGo.il1 dX10_drift_5 rfl ?_
  refine TGo.i2l dX10_drift_6 (by omega) ?_
  refine TGo.lc0 dX10_drift_7 ?_
  refine TGo.ldc2 6 dX10_drift_8 q2450 (by decide) ?_
  refine TGo.cF (csS3 (y2 := mX10_in) 1 rfl dX10_drift_11 q2032 q2033 okX10_in npX10_in rfl rfl) (kX10_in (by omega) (by omega) (by omega)) ?_
  refine TGo.ifb_eq 29 dX10_drift_14 (by decide) (fun h14 => ?_) (fun h14 => ?_)
  · refine TGo.ldc2 (-1) dX10_drift_29 q2182 (by decide) ?_
    refine TGo.lret dX10_drift_32 rfl ?_
    first
    | (exfalso; omega)
    | (refine leafZL (hz.s rfl) ?_
       unfold zp_drift
       (repeat (first | rw [if_pos (by first | rfl | assumption | omega)] | rw [if_neg (by first | decide | assumption | omega)]))
       (try first | rfl | rw [bZ_t (by first | assumption | omega)] | rw [bZ_f (by first | assumption | omega)]))
  · refine TGo.il2 dX10_drift_17 rfl ?_
    refine TGo.i2l dX10_drift_18 (by omega) ?_
    refine TGo.lc0 dX10_drift_19 ?_
    refine TGo.ldc2 9 dX10_drift_20 q2060 (by decide) ?_
    refine TGo.cF (csS3 (y2 := mX10_in) 1 rfl dX10_drift_23 q2032 q2033 okX10_in npX10_in rfl rfl) (kX10_in (by omega) (by omega) (by omega)) ?_
    refine TGo.ifb_ne 33 dX10_drift_26 (by decide) (fun h26 => ?_) (fun h26 => ?_)
    · refine TGo.il2 dX10_drift_33 rfl ?_
      refine TGo.il1 dX10_drift_34 rfl ?_
      refine TGo.icmp_le 40 dX10_drift_35 (by decide) (by omega) (fun h35 => ?_) (fun h35 => ?_)
      · refine TGo.lc1 dX10_drift_40 ?_
        refine TGo.ls3 dX10_drift_41 rfl rfl ?_
        refine TGo.ic1 dX10_drift_42 ?_
        refine TGo.is dX10_drift_43 rfl rfl ?_
        first
        | (exfalso; omega)
        | (refine (lX10_drift1 (n0 := n) (k := k) (m := k.toNat) hT (by omega) (by omega) (by omega) W (k.toNat + 1) 0 _ (by omega) (by omega) (hz.s rfl)).mono ?_
           rintro o sh' nn' V' ⟨ho, hs, hn, hp⟩
           unfold zp_drift
           rw [if_neg (by omega), if_neg (by omega)]
           exact ⟨ho, hs, hn, hp⟩)
      · refine TGo.lc0 dX10_drift_38 ?_
        refine TGo.lret dX10_drift_39 rfl ?_
        first
        | (exfalso; omega)
        | (refine leafZL (hz.s rfl) ?_
           unfold zp_drift
           (repeat (first | rw [if_pos (by first | rfl | assumption | omega)] | rw [if_neg (by first | decide | assumption | omega)]))
           (try first | rfl | rw [bZ_t (by first | assumption | omega)] | rw [bZ_f (by first | assumption | omega)]))
    · refine TGo.ldc2 (-1) dX10_drift_29 q2182 (by decide) ?_
      refine TGo.lret dX10_drift_32 rfl ?_
      first
      | (exfalso; omega)
      | (refine leafZL (hz.s rfl) ?_
         unfold zp_drift
         (repeat (first | rw [if_pos (by first | rfl | assumption | omega)] | rw [if_neg (by first | decide | assumption | omega)]))
         (try first | rfl | rw [bZ_t (by first | assumption | omega)] | rw [bZ_f (by first | assumption | omega)]))
/-- what a part's versions say at a rule, of the first k: how many each word, how many in all -/
def hrZ (f : Int → Int) (p a : Int) : Nat → (Int → Int) × Int
  | 0 => (fun _ => 0, 0)
  | k + 1 => if f (262 + 3 * (k : Int)) = p ∧ wZ (f (298 + 36 * (k : Int) + a)) ≠ -1 then (zu (hrZ f p a k).1 (wZ (f (298 + 36 * (k : Int) + a))) ((hrZ f p a k).1 (wZ (f (298 + 36 * (k : Int) + a))) + 1), (hrZ f p a k).2 + 1) else hrZ f p a k
theorem hrZ_r (f : Int → Int) (p a : Int) (k : Nat) : (∀ w, 0 ≤ (hrZ f p a k).1 w ∧ (hrZ f p a k).1 w ≤ k) ∧ 0 ≤ (hrZ f p a k).2 ∧ (hrZ f p a k).2 ≤ k ∧ ((hrZ f p a k).2 = 0 → ∀ w, (hrZ f p a k).1 w = 0) := by
  induction k with
  | zero => exact ⟨fun w => ⟨Int.le_refl _, Int.le_refl _⟩, Int.le_refl _, Int.le_refl _, fun _ _ => rfl⟩
  | succ k ih =>
    rw [hrZ]
    split
    · refine ⟨fun w => ?_, by simp only; omega, by simp only; omega, fun h => by simp only at h; omega⟩
      simp only
      unfold zu
      have h1 := ih.1 w
      have h2 := ih.1 (wZ (f (298 + 36 * (k : Int) + a)))
      split <;> omega
    · exact ⟨fun w => by have := ih.1 w; omega, by omega, by omega, ih.2.2.2⟩
set_option maxHeartbeats 4000000 in
theorem lX10_findOrigin {E : ET} {sh : SHT} {nn : Nat × Nat} {T : Nat} {z : ZT} {p a : Int} {m : Nat} {V0 : VT} (hT : MSh T sh) (W : RWZ (z.2 3)) (hp : 0 ≤ p ∧ p < z.2 3 0) (ha : 0 ≤ a ∧ a < 36) (hm : z.2 3 2 = (m : Int)) : ∀ (n j : Nat) (V : VT) (x : Option Value), m - j < n → j ≤ m → PE T V z → ((∀ w, 0 ≤ w → w < 10 → V.1 (T + 24) w = (hrZ (z.2 3) p a j).1 w) ∧ Fr [T + 24] V0 V) → TGo E mX10_findOrigin 2 29 [some (.ref T), some (.int (iI p)), some (.int (iI a)), some (.int (iI (hrZ (z.2 3) p a (j)).2)), some (.int (iI (((j) : Nat) : Int))), x] [] sh nn V (fun o sh' nn' V' => ∃ v, o = .inl (some v) ∧ sh' = sh ∧ nn' = nn ∧ (fun v V' => v = .int (iI (hrZ (z.2 3) p a m).2) ∧ PE T V' z ∧ (∀ w, 0 ≤ w → w < 10 → V'.1 (T + 24) w = (hrZ (z.2 3) p a m).1 w) ∧ Fr [T + 24] V0 V') v V') := by
  intro n
  induction n with
  | zero => intro j V x h; omega
  | succ n ih =>
    intro j V x hn hj hz hx
    have w0 := W.1.1
    have w2 := W.1.2.2.1
    have hr := hrZ_r (z.2 3) p a j
    refine TGo.il dX10_findOrigin_29 rfl ?_
    refine TGo.al0 dX10_findOrigin_31 rfl ?_
    refine TGo.getS (t := 18) 3 3 (T + 2) (hT 0 (by decide)) rfl fgX10_13_10 dX10_findOrigin_32 rfl rfl rfl ?_
    refine TGo.ic2 dX10_findOrigin_35 ?_
    refine TGo.iald dX10_findOrigin_36 (hT 2 (by decide)) (by omega) rfl ?_
    refine TGo.toz _ (hz.2.1 3 (by decide) _) ?_
    refine TGo.icmp_ge 95 dX10_findOrigin_37 (by decide) (by omega) (fun h37 => ?_) (fun h37 => ?_)
    · refine TGo.il3 dX10_findOrigin_95 rfl ?_
      refine TGo.iret dX10_findOrigin_96 rfl ?_
      obtain rfl : j = m := by omega
      exact ⟨_, rfl, rfl, rfl, rfl, hz, hx⟩
    · have wc := W.2.2.2.2.2.1 j a (by omega) (by omega) (by omega) (by omega)
      have wv := W.2.2.2.2.1 j (by omega) (by omega)
      have hw := wZ_r wc
      refine TGo.al0 dX10_findOrigin_40 rfl ?_
      refine TGo.il dX10_findOrigin_41 rfl ?_
      refine TGo.il2 dX10_findOrigin_43 rfl ?_
      refine TGo.cF (csV2 (y2 := mX10_ruleOf) (t := 18) 1 rfl (hT 0 (by decide)) rfl rfl dX10_findOrigin_44 q2372 q2374 qs85 okX10_ruleOf npX10_ruleOf rfl rfl) (kX10_ruleOf hT hz (by omega) (by omega)) ?_
      refine TGo.cF (csS1 (y2 := mX10_wordOf) 1 rfl dX10_findOrigin_47 q2069 q2070 okX10_wordOf npX10_wordOf rfl rfl) (kX10_wordOf (by omega)) ?_
      refine TGo.is dX10_findOrigin_50 rfl rfl ?_
      refine TGo.al0 dX10_findOrigin_52 rfl ?_
      refine TGo.getS (t := 18) 3 3 (T + 2) (hT 0 (by decide)) rfl fgX10_13_10 dX10_findOrigin_53 rfl rfl rfl ?_
      refine TGo.sip 262 dX10_findOrigin_56 (by decide) ?_
      refine TGo.ic3 dX10_findOrigin_59 ?_
      refine TGo.il dX10_findOrigin_60 rfl ?_
      refine TGo.imul dX10_findOrigin_62 ?_
      refine TGo.iadd dX10_findOrigin_63 ?_
      refine TGo.iald dX10_findOrigin_64 (hT 2 (by decide)) (by omega) rfl ?_
      refine TGo.toz _ (hz.2.1 3 (by decide) _) ?_
      refine TGo.il1 dX10_findOrigin_65 rfl ?_
      refine TGo.icmp_ne 89 dX10_findOrigin_66 (by decide) (by omega) (fun h66 => ?_) (fun h66 => ?_)
      · refine TGo.iinc dX10_findOrigin_89 rfl rfl rfl ?_
        refine TGo.goto 29 dX10_findOrigin_92 (by decide) ?_
        first | (exfalso; omega) | exact TGo.seq [some (.ref T), some (.int (iI p)), some (.int (iI a)), some (.int (iI (hrZ (z.2 3) p a ((j + 1))).2)), some (.int (iI ((((j + 1)) : Nat) : Int))), _] [] _ (by first | (rw [hrZ, if_neg (by omega)]; rfl) | (rw [hrZ, if_pos (by omega)]; rfl)) rfl rfl (ih (j + 1) _ _ (by omega) (by omega) hz (by
          first
          | (rw [hrZ, if_neg (by omega)]; exact hx)
          | (rw [hrZ, if_pos (by omega)]
             refine ⟨fun i h0 h1 => ?_, hx.2.i (by simp)⟩
             by_cases e : i = wZ (z.2 3 (298 + 36 * (j : Int) + a))
             · rw [e]; exact u2_s.trans zu_s.symm
             · exact (u2_n (Or.inr e)).trans ((hx.1 i h0 h1).trans (zu_n e).symm))))
      · refine TGo.il dX10_findOrigin_69 rfl ?_
        refine TGo.icm1 dX10_findOrigin_71 ?_
        refine TGo.icmp_eq 89 dX10_findOrigin_72 (by decide) (by omega) (fun h72 => ?_) (fun h72 => ?_)
        · refine TGo.iinc dX10_findOrigin_89 rfl rfl rfl ?_
          refine TGo.goto 29 dX10_findOrigin_92 (by decide) ?_
          first | (exfalso; omega) | exact TGo.seq [some (.ref T), some (.int (iI p)), some (.int (iI a)), some (.int (iI (hrZ (z.2 3) p a ((j + 1))).2)), some (.int (iI ((((j + 1)) : Nat) : Int))), _] [] _ (by first | (rw [hrZ, if_neg (by omega)]; rfl) | (rw [hrZ, if_pos (by omega)]; rfl)) rfl rfl (ih (j + 1) _ _ (by omega) (by omega) hz (by
            first
            | (rw [hrZ, if_neg (by omega)]; exact hx)
            | (rw [hrZ, if_pos (by omega)]
               refine ⟨fun i h0 h1 => ?_, hx.2.i (by simp)⟩
               by_cases e : i = wZ (z.2 3 (298 + 36 * (j : Int) + a))
               · rw [e]; exact u2_s.trans zu_s.symm
               · exact (u2_n (Or.inr e)).trans ((hx.1 i h0 h1).trans (zu_n e).symm))))
        · refine TGo.al0 dX10_findOrigin_75 rfl ?_
          refine TGo.getS (t := 18) 50 50 (T + 24) (hT 0 (by decide)) rfl fgX10_109_10 dX10_findOrigin_76 rfl rfl rfl ?_
          refine TGo.il dX10_findOrigin_79 rfl ?_
          refine TGo.dup2 dX10_findOrigin_81 rfl rfl ?_
          refine TGo.iald dX10_findOrigin_82 (hT 24 (by decide)) (by omega) rfl ?_
          refine TGo.toz _ (hx.1 _ (by omega) (by omega)) ?_
          refine TGo.ic1 dX10_findOrigin_83 ?_
          refine TGo.iadd dX10_findOrigin_84 ?_
          refine TGo.iast dX10_findOrigin_85 (hT 24 (by decide)) (by omega) rfl ?_
          refine TGo.iinc dX10_findOrigin_86 rfl rfl rfl ?_
          refine TGo.iinc dX10_findOrigin_89 rfl rfl rfl ?_
          refine TGo.goto 29 dX10_findOrigin_92 (by decide) ?_
          first | (exfalso; omega) | exact TGo.seq [some (.ref T), some (.int (iI p)), some (.int (iI a)), some (.int (iI (hrZ (z.2 3) p a ((j + 1))).2)), some (.int (iI ((((j + 1)) : Nat) : Int))), _] [] _ (by first | (rw [hrZ, if_neg (by omega)]; rfl) | (rw [hrZ, if_pos (by omega)]; rfl)) rfl rfl (ih (j + 1) _ _ (by omega) (by omega) (hz.t 24 rfl) (by
            first
            | (rw [hrZ, if_neg (by omega)]; exact hx)
            | (rw [hrZ, if_pos (by omega)]
               refine ⟨fun i h0 h1 => ?_, hx.2.i (by simp)⟩
               by_cases e : i = wZ (z.2 3 (298 + 36 * (j : Int) + a))
               · rw [e]; exact u2_s.trans zu_s.symm
               · exact (u2_n (Or.inr e)).trans ((hx.1 i h0 h1).trans (zu_n e).symm))))
set_option maxHeartbeats 4000000 in
theorem zX10_findOrigin {E : ET} {sh : SHT} {nn : Nat × Nat} {T : Nat} {z : ZT} {p a : Int} {m : Nat} {V0 : VT} (hT : MSh T sh) (W : RWZ (z.2 3)) (hp : 0 ≤ p ∧ p < z.2 3 0) (ha : 0 ≤ a ∧ a < 36) (hm : z.2 3 2 = (m : Int)) : ∀ (n j : Nat) (V : VT), 10 - j < n → j ≤ 10 → PE T V z → ((∀ r, 0 ≤ r → r < (j : Int) → V.1 (T + 24) r = 0) ∧ Fr [T + 24] V0 V) → TGo E mX10_findOrigin 2 5 [some (.ref T), some (.int (iI p)), some (.int (iI a)), some (.int (iI 0)), some (.int (iI (((j) : Nat) : Int))), none] [] sh nn V (fun o sh' nn' V' => ∃ v, o = .inl (some v) ∧ sh' = sh ∧ nn' = nn ∧ (fun v V' => v = .int (iI (hrZ (z.2 3) p a m).2) ∧ PE T V' z ∧ (∀ w, 0 ≤ w → w < 10 → V'.1 (T + 24) w = (hrZ (z.2 3) p a m).1 w) ∧ Fr [T + 24] V0 V') v V') := by
  intro n
  induction n with
  | zero => intro j V h; omega
  | succ n ih =>
    intro j V hn hj hz hx
    refine TGo.il dX10_findOrigin_5 rfl ?_
    refine TGo.bip 10 dX10_findOrigin_7 (by decide) ?_
    refine TGo.icmp_ge 26 dX10_findOrigin_9 (by decide) (by omega) (fun h9 => ?_) (fun h9 => ?_)
    · refine TGo.ic0 dX10_findOrigin_26 ?_
      refine TGo.is dX10_findOrigin_27 rfl rfl ?_
      exact lX10_findOrigin hT W hp ha hm (m + 1) 0 _ _ (by omega) (by omega) hz ⟨fun r h0 h1 => hx.1 r h0 (by omega), hx.2⟩
    · refine TGo.al0 dX10_findOrigin_12 rfl ?_
      refine TGo.getS (t := 18) 50 50 (T + 24) (hT 0 (by decide)) rfl fgX10_109_10 dX10_findOrigin_13 rfl rfl rfl ?_
      refine TGo.il dX10_findOrigin_16 rfl ?_
      refine TGo.ic0 dX10_findOrigin_18 ?_
      refine TGo.iast dX10_findOrigin_19 (hT 24 (by decide)) (by omega) rfl ?_
      refine TGo.iinc dX10_findOrigin_20 rfl rfl rfl ?_
      refine TGo.goto 5 dX10_findOrigin_23 (by decide) ?_
      exact TGo.seq [some (.ref T), some (.int (iI p)), some (.int (iI a)), some (.int (iI 0)), some (.int (iI ((((j + 1)) : Nat) : Int))), none] [] _ (rfl) rfl rfl (ih (j + 1) _ (by omega) (by omega) (hz.t 24 rfl) ⟨fun r h0 h1 => by
        by_cases e : r = (j : Int)
        · rw [e]; exact u2_s
        · exact (u2_n (Or.inr e)).trans (hx.1 r h0 (by omega)), hx.2.i (by simp)⟩)
set_option maxHeartbeats 4000000 in
theorem kX10_findOrigin {E : ET} {sh : SHT} {nn : Nat × Nat} {V : VT} {T : Nat} {z : ZT} {p a : Int} (hT : MSh T sh) (hz : PE T V z) (W : RWZ (z.2 3)) (hp : 0 ≤ p ∧ p < z.2 3 0) (ha : 0 ≤ a ∧ a < 36) : TS E mX10_findOrigin 2 [.ref T, .int (iI p), .int (iI a)] sh nn V (fun v V' => v = .int (iI (hrZ (z.2 3) p a (z.2 3 2).toNat).2) ∧ PE T V' z ∧ (∀ w, 0 ≤ w → w < 10 → V'.1 (T + 24) w = (hrZ (z.2 3) p a (z.2 3 2).toNat).1 w) ∧ Fr [T + 24] V V') := by
  have w2 := W.1.2.2.1
  refine TC.intro [some (.ref T), some (.int (iI p)), some (.int (iI a)), none, none, none] rfl ?_
  refine TGo.ic0 dX10_findOrigin_0 ?_
  refine TGo.is3 dX10_findOrigin_1 rfl rfl ?_
  refine TGo.ic0 dX10_findOrigin_2 ?_
  refine TGo.is dX10_findOrigin_3 rfl rfl ?_
  exact zX10_findOrigin (m := (z.2 3 2).toNat) hT W hp ha (by omega) 11 0 _ (by omega) (by omega) hz ⟨fun r h0 h1 => by omega, Fr.rf⟩
/-- the words said as often as b, as bits, of the first k -/
def mbZ (g : Int → Int) (b : Int) : Nat → Int
  | 0 => 0
  | k + 1 => mbZ g b k + if g (k : Int) = b then ((2 ^ k : Nat) : Int) else 0
theorem mbZ_r (g : Int → Int) (b : Int) (k : Nat) : 0 ≤ mbZ g b k ∧ mbZ g b k < ((2 ^ k : Nat) : Int) := by
  induction k with
  | zero => rw [mbZ]; decide
  | succ k ih =>
    rw [mbZ, Nat.pow_succ]
    have : ((2 ^ k * 2 : Nat) : Int) = ((2 ^ k : Nat) : Int) + ((2 ^ k : Nat) : Int) := by omega
    split <;> omega
/-- the loudest as bits; none if nothing is said -/
def mzZ (g : Int → Int) : Int := if (moZ g 10).1 = -1 then 0 else mbZ g (g (moZ g 10).1) 10
set_option maxHeartbeats 4000000 in
theorem lX10_mostBits {E : ET} {sh : SHT} {nn : Nat × Nat} {V : VT} {T : Nat} {z : ZT} {g : Int → Int} {o0 : Int} (hT : MSh T sh) (hz : PE T V z) (hg : ∀ w, 0 ≤ w → w < 10 → V.1 (T + 24) w = g w) (hr : ∀ w, 0 ≤ w → w < 10 → 0 ≤ g w ∧ g w ≤ 1000) (ho : 0 ≤ o0 ∧ o0 < 10) : ∀ (n j : Nat), 10 - j < n → j ≤ 10 → TGo E mX10_mostBits 2 9 [some (.ref T), some (.int (iI o0)), some (.int (iI (mbZ g (g o0) (j)))), some (.int (iI (((j) : Nat) : Int)))] [] sh nn V (fun o sh' nn' V' => o = .inl (some (.int (iI (mbZ g (g o0) 10)))) ∧ sh' = sh ∧ nn' = nn ∧ V' = V) := by
  intro n
  induction n with
  | zero => intro j h; omega
  | succ n ih =>
    intro j hn hj
    have h1 := mbZ_r g (g o0) j
    have h9 := hr o0 ho.1 ho.2
    refine TGo.il3 dX10_mostBits_9 rfl ?_
    refine TGo.bip 10 dX10_mostBits_10 (by decide) ?_
    refine TGo.icmp_ge 51 dX10_mostBits_12 (by decide) (by omega) (fun h12 => ?_) (fun h12 => ?_)
    · refine TGo.il2 dX10_mostBits_51 rfl ?_
      refine TGo.iret dX10_mostBits_52 rfl ?_
      first
      | (exfalso; omega)
      | (obtain rfl : j = 10 := by omega
         exact ⟨rfl, rfl, rfl, rfl⟩)
    · have h2 := hr j (by omega) (by omega)
      refine TGo.il1 dX10_mostBits_15 rfl ?_
      refine TGo.icm1 dX10_mostBits_16 ?_
      refine TGo.icmp_eq 51 dX10_mostBits_17 (by decide) (by omega) (fun h17 => ?_) (fun h17 => ?_)
      · refine TGo.il2 dX10_mostBits_51 rfl ?_
        refine TGo.iret dX10_mostBits_52 rfl ?_
        first
        | (exfalso; omega)
        | (obtain rfl : j = 10 := by omega
           exact ⟨rfl, rfl, rfl, rfl⟩)
      · refine TGo.il2 dX10_mostBits_20 rfl ?_
        refine TGo.al0 dX10_mostBits_21 rfl ?_
        refine TGo.getS (t := 18) 50 50 (T + 24) (hT 0 (by decide)) rfl fgX10_109_10 dX10_mostBits_22 rfl rfl rfl ?_
        refine TGo.il3 dX10_mostBits_25 rfl ?_
        refine TGo.iald dX10_mostBits_26 (hT 24 (by decide)) (by omega) rfl ?_
        refine TGo.toz _ (hg _ (by omega) (by omega)) ?_
        refine TGo.al0 dX10_mostBits_27 rfl ?_
        refine TGo.getS (t := 18) 50 50 (T + 24) (hT 0 (by decide)) rfl fgX10_109_10 dX10_mostBits_28 rfl rfl rfl ?_
        refine TGo.il1 dX10_mostBits_31 rfl ?_
        refine TGo.iald dX10_mostBits_32 (hT 24 (by decide)) (by omega) rfl ?_
        refine TGo.toz _ (hg _ (by omega) (by omega)) ?_
        refine TGo.icmp_ne 42 dX10_mostBits_33 (by decide) (by omega) (fun h33 => ?_) (fun h33 => ?_)
        · refine TGo.ic0 dX10_mostBits_42 ?_
          refine TGo.ior dX10_mostBits_43 ?_
          first | (refine TGo.tos _ (iI_or0 _) ?_) | (refine TGo.tos _ (iI_orb h1 (by omega)) ?_)
          refine TGo.is2 dX10_mostBits_44 rfl rfl ?_
          refine TGo.iinc dX10_mostBits_45 rfl rfl rfl ?_
          refine TGo.goto 9 dX10_mostBits_48 (by decide) ?_
          first | (exfalso; omega) | exact TGo.seq [some (.ref T), some (.int (iI o0)), some (.int (iI (mbZ g (g o0) ((j + 1))))), some (.int (iI ((((j + 1)) : Nat) : Int)))] [] _ (by rw [mbZ]; first | (rw [if_pos (by first | assumption | omega)]; rfl) | (rw [if_neg (by first | assumption | omega)]; simp only [Int.add_zero]; rfl)) rfl rfl (ih (j + 1) (by omega) (by omega))
        · refine TGo.ic1 dX10_mostBits_36 ?_
          refine TGo.il3 dX10_mostBits_37 rfl ?_
          refine TGo.ishl dX10_mostBits_38 ?_
          refine TGo.goto 43 dX10_mostBits_39 (by decide) ?_
          refine TGo.ior dX10_mostBits_43 ?_
          first | (refine TGo.tos _ (iI_or0 _) ?_) | (refine TGo.tos _ (iI_orb h1 (by omega)) ?_)
          refine TGo.is2 dX10_mostBits_44 rfl rfl ?_
          refine TGo.iinc dX10_mostBits_45 rfl rfl rfl ?_
          refine TGo.goto 9 dX10_mostBits_48 (by decide) ?_
          first | (exfalso; omega) | exact TGo.seq [some (.ref T), some (.int (iI o0)), some (.int (iI (mbZ g (g o0) ((j + 1))))), some (.int (iI ((((j + 1)) : Nat) : Int)))] [] _ (by rw [mbZ]; first | (rw [if_pos (by first | assumption | omega)]; rfl) | (rw [if_neg (by first | assumption | omega)]; simp only [Int.add_zero]; rfl)) rfl rfl (ih (j + 1) (by omega) (by omega))
set_option maxHeartbeats 4000000 in
theorem kX10_mostBits {E : ET} {sh : SHT} {nn : Nat × Nat} {V : VT} {T : Nat} {z : ZT} {g : Int → Int} (hT : MSh T sh) (hz : PE T V z) (hg : ∀ w, 0 ≤ w → w < 10 → V.1 (T + 24) w = g w) (hr : ∀ w, 0 ≤ w → w < 10 → 0 ≤ g w ∧ g w ≤ 1000) : TF E mX10_mostBits 2 [.ref T] sh nn V (.int (iI (mzZ g))) := by
  have hm := moZ_r g 10
  refine TC.intro [some (.ref T), none, none, none] rfl ?_
  refine TGo.al0 dX10_mostBits_0 rfl ?_
  refine TGo.cF (csV0 (y2 := mX10_most) (t := 18) 1 rfl (hT 0 (by decide)) rfl rfl dX10_mostBits_1 q2442 q2444 qs92 okX10_most npX10_most rfl rfl) (kX10_most hT hz hg hr) ?_
  refine TGo.is1 dX10_mostBits_4 rfl rfl ?_
  refine TGo.ic0 dX10_mostBits_5 ?_
  refine TGo.is2 dX10_mostBits_6 rfl rfl ?_
  refine TGo.ic0 dX10_mostBits_7 ?_
  refine TGo.is3 dX10_mostBits_8 rfl rfl ?_
  unfold mzZ
  by_cases e : (moZ g 10).1 = -1
  · rw [if_pos e]
    refine TGo.il3 dX10_mostBits_9 rfl ?_
    refine TGo.bip 10 dX10_mostBits_10 (by decide) ?_
    refine TGo.icmp_ge 51 dX10_mostBits_12 (by decide) (by decide) (fun h => absurd h (by decide)) (fun _ => ?_)
    refine TGo.il1 dX10_mostBits_15 rfl ?_
    refine TGo.icm1 dX10_mostBits_16 ?_
    refine TGo.icmp_eq 51 dX10_mostBits_17 (by decide) (by omega) (fun _ => ?_) (fun h => absurd e h)
    refine TGo.il2 dX10_mostBits_51 rfl ?_
    exact TGo.iret dX10_mostBits_52 rfl ⟨rfl, rfl, rfl, rfl⟩
  · rw [if_neg e]
    exact lX10_mostBits hT hz hg hr (by omega) 11 0 (by omega) (by omega)
def zp_origin (z : ZT) (p a b : Int) : Int × ZT :=
  if ¬ ((0 ≤ p ∧ p < z.2 3 0) ∧ ((0 ≤ a ∧ a ≤ 5) ∧ 0 ≤ b ∧ b ≤ 5)) then (-1, z) else (mzZ (hrZ (z.2 3) p (6 * a + b) (z.2 3 2).toNat).1, z)
set_option maxHeartbeats 4000000 in
theorem kX10_origin {E : ET} {sh : SHT} {nn : Nat × Nat} {V : VT} {T : Nat} {z : ZT} {p a b : Int} (hT : MSh T sh) (hz : PE T V z) (W : RWZ (z.2 3)) (rp : R32 p) (ra : R32 a) (rb : R32 b) : TC E mX10_origin 3 [.ref T, .int (iI p), .int (iI a), .int (iI b)] sh nn V (ZP T sh nn (zp_origin z p a b)) := by
  have w0 := W.1.1
  have w2 := W.1.2.2.1
  refine TC.intro [some (.ref T), some (.int (iI p)), some (.int (iI a)), some (.int (iI b))] rfl ?_
  refine TGo.al0 dX10_origin_0 rfl ?_
  refine TGo.ic0 dX10_origin_1 ?_
  refine TGo.putI (t := 18) 0 0 (hT 0 (by decide)) rfl fpX10_163_10 dX10_origin_2 rfl rfl rfl ?_
  refine TGo.al0 dX10_origin_5 rfl ?_
  refine TGo.il1 dX10_origin_6 rfl ?_
  refine TGo.cF (csV1 (y2 := mX10_isPart) (t := 18) 2 rfl (hT 0 (by decide)) rfl rfl dX10_origin_7 q2061 q2063 qs40 okX10_isPart npX10_isPart rfl rfl) (kX10_isPart hT (hz.s rfl) w0 (by omega)) ?_
  refine TGo.ifb_eq 21 dX10_origin_10 (by decide) (fun h10 => ?_) (fun h10 => ?_)
  · refine TGo.icm1 dX10_origin_21 ?_
    refine TGo.iret dX10_origin_22 rfl ?_
    first
    | (exfalso; omega)
    | (refine leafZ (hz.s rfl) ?_
       unfold zp_origin
       (repeat (first | rw [if_pos (by first | rfl | assumption | omega)] | rw [if_neg (by first | decide | assumption | omega)]))
       (try first | rfl | rw [bZ_t (by first | assumption | omega)] | rw [bZ_f (by first | assumption | omega)]))
  · refine TGo.il2 dX10_origin_13 rfl ?_
    refine TGo.il3 dX10_origin_14 rfl ?_
    refine TGo.cF (csS2 (y2 := mX10_isPlace) 2 rfl dX10_origin_15 q2053 q2054 okX10_isPlace npX10_isPlace rfl rfl) (kX10_isPlace (by omega) (by omega)) ?_
    refine TGo.ifb_ne 23 dX10_origin_18 (by decide) (fun h18 => ?_) (fun h18 => ?_)
    · refine TGo.al0 dX10_origin_23 rfl ?_
      refine TGo.il1 dX10_origin_24 rfl ?_
      refine TGo.bip 6 dX10_origin_25 (by decide) ?_
      refine TGo.il2 dX10_origin_27 rfl ?_
      refine TGo.imul dX10_origin_28 ?_
      refine TGo.il3 dX10_origin_29 rfl ?_
      refine TGo.iadd dX10_origin_30 ?_
      refine TGo.cS (csV2 (y2 := mX10_findOrigin) (t := 18) 2 rfl (hT 0 (by decide)) rfl rfl dX10_origin_31 q2455 q2457 qs93 okX10_findOrigin npX10_findOrigin rfl rfl) (kX10_findOrigin hT (hz.s rfl) W (by omega) (by omega)) (fun v31 V31 h31 => ?_)
      obtain ⟨rfl, hz31, hg31, hf31⟩ := h31
      have hr := hrZ_r (z.2 3) p (6 * a + b) (z.2 3 2).toNat
      refine TGo.pop dX10_origin_34 rfl ?_
      refine TGo.al0 dX10_origin_35 rfl ?_
      refine TGo.cF (csV0 (y2 := mX10_mostBits) (t := 18) 2 rfl (hT 0 (by decide)) rfl rfl dX10_origin_36 q2459 q2461 qs94 okX10_mostBits npX10_mostBits rfl rfl) (kX10_mostBits hT hz31 hg31 (fun w h0 h1 => by have := hr.1 w; omega)) ?_
      refine TGo.iret dX10_origin_39 rfl ?_
      first
      | (exfalso; omega)
      | (refine leafZ hz31 ?_
         unfold zp_origin
         (repeat (first | rw [if_pos (by first | rfl | assumption | omega)] | rw [if_neg (by first | decide | assumption | omega)]))
         (try first | rfl | rw [bZ_t (by first | assumption | omega)] | rw [bZ_f (by first | assumption | omega)]))
    · refine TGo.icm1 dX10_origin_21 ?_
      refine TGo.iret dX10_origin_22 rfl ?_
      first
      | (exfalso; omega)
      | (refine leafZ (hz.s rfl) ?_
         unfold zp_origin
         (repeat (first | rw [if_pos (by first | rfl | assumption | omega)] | rw [if_neg (by first | decide | assumption | omega)]))
         (try first | rfl | rw [bZ_t (by first | assumption | omega)] | rw [bZ_f (by first | assumption | omega)]))
def zp_drawn (z : ZT) (a b w : Int) : Int × ZT :=
  if ¬ (z.1 75 ≠ 0 ∧ 0 ≤ w ∧ w ≤ 1) then (-1, z) else if w = 1 then (if (0 ≤ a ∧ a < z.1 74) ∧ b = 0 then z.2 73 a else -1, z) else (if (0 ≤ a ∧ a ≤ 5) ∧ 0 ≤ b ∧ b ≤ 5 then wZ (z.2 72 (6 * a + b)) else -1, z)
set_option maxHeartbeats 4000000 in
theorem kX10_drawn {E : ET} {sh : SHT} {nn : Nat × Nat} {V : VT} {T : Nat} {z : ZT} {a b w : Int} (hT : MSh T sh) (hz : PE T V z) (w74 : 0 ≤ z.1 74 ∧ z.1 74 ≤ 8) (w75 : z.1 75 = 0 ∨ z.1 75 = 1) (w72 : ∀ r, 0 ≤ r → r < 36 → cOK (z.2 72 r)) (ra : R32 a) (rb : R32 b) (rw : R32 w) : TC E mX10_drawn 3 [.ref T, .int (iI a), .int (iI b), .int (iI w)] sh nn V (ZP T sh nn (zp_drawn z a b w)) := by
  refine TC.intro [some (.ref T), some (.int (iI a)), some (.int (iI b)), some (.int (iI w))] rfl ?_
  refine TGo.al0 dX10_drawn_0 rfl ?_
  refine TGo.ic0 dX10_drawn_1 ?_
  refine TGo.putI (t := 18) 0 0 (hT 0 (by decide)) rfl fpX10_163_10 dX10_drawn_2 rfl rfl rfl ?_
  refine TGo.al0 dX10_drawn_5 rfl ?_
  refine TGo.getI (t := 18) 75 75 (hT 0 (by decide)) rfl fgX10_613_10 dX10_drawn_6 rfl rfl rfl ?_
  refine TGo.toz _ ((u2_n (Or.inr (by decide))).trans (hz.1 75 rfl)) ?_
  refine TGo.if_eq 22 dX10_drawn_9 (by decide) (by omega) (fun h9 => ?_) (fun h9 => ?_)
  · refine TGo.icm1 dX10_drawn_22 ?_
    refine TGo.iret dX10_drawn_23 rfl ?_
    first
    | (exfalso; omega)
    | (refine leafZ (hz.s rfl) ?_
       unfold zp_drawn
       (repeat (first | rw [if_pos (by first | rfl | assumption | omega)] | rw [if_neg (by first | decide | assumption | omega)]))
       (try first | rfl | rw [bZ_t (by first | assumption | omega)] | rw [bZ_f (by first | assumption | omega)]))
  · refine TGo.il3 dX10_drawn_12 rfl ?_
    refine TGo.i2l dX10_drawn_13 (by omega) ?_
    refine TGo.lc0 dX10_drawn_14 ?_
    refine TGo.lc1 dX10_drawn_15 ?_
    refine TGo.cF (csS3 (y2 := mX10_in) 1 rfl dX10_drawn_16 q2032 q2033 okX10_in npX10_in rfl rfl) (kX10_in (by omega) (by omega) (by omega)) ?_
    refine TGo.ifb_ne 24 dX10_drawn_19 (by decide) (fun h19 => ?_) (fun h19 => ?_)
    · refine TGo.il3 dX10_drawn_24 rfl ?_
      refine TGo.ic1 dX10_drawn_25 ?_
      refine TGo.icmp_ne 60 dX10_drawn_26 (by decide) (by omega) (fun h26 => ?_) (fun h26 => ?_)
      · refine TGo.il1 dX10_drawn_60 rfl ?_
        refine TGo.il2 dX10_drawn_61 rfl ?_
        refine TGo.cF (csS2 (y2 := mX10_isPlace) 2 rfl dX10_drawn_62 q2053 q2054 okX10_isPlace npX10_isPlace rfl rfl) (kX10_isPlace (by omega) (by omega)) ?_
        refine TGo.ifb_eq 85 dX10_drawn_65 (by decide) (fun h65 => ?_) (fun h65 => ?_)
        · refine TGo.icm1 dX10_drawn_85 ?_
          refine TGo.iret dX10_drawn_86 rfl ?_
          first
          | (exfalso; omega)
          | (refine leafZ (hz.s rfl) ?_
             unfold zp_drawn
             (repeat (first | rw [if_pos (by first | rfl | assumption | omega)] | rw [if_neg (by first | decide | assumption | omega)]))
             (try first | rfl | rw [bZ_t (by first | assumption | omega)] | rw [bZ_f (by first | assumption | omega)]))
        · refine TGo.al0 dX10_drawn_68 rfl ?_
          refine TGo.getS (t := 18) 72 72 (T + 40) (hT 0 (by decide)) rfl fgX10_157_10 dX10_drawn_69 rfl rfl rfl ?_
          refine TGo.bip 6 dX10_drawn_72 (by decide) ?_
          refine TGo.il1 dX10_drawn_74 rfl ?_
          refine TGo.imul dX10_drawn_75 ?_
          refine TGo.il2 dX10_drawn_76 rfl ?_
          refine TGo.iadd dX10_drawn_77 ?_
          have h72 := w72 (6 * a + b) (by omega) (by omega)
          refine TGo.iald dX10_drawn_78 (hT 40 (by decide)) (by omega) rfl ?_
          refine TGo.toz _ ((u2_n (Or.inl (by omega))).trans (hz.2.1 72 (by decide) _)) ?_
          refine TGo.cF (csS1 (y2 := mX10_wordOf) 1 rfl dX10_drawn_79 q2069 q2070 okX10_wordOf npX10_wordOf rfl rfl) (kX10_wordOf (by omega)) ?_
          refine TGo.goto 86 dX10_drawn_82 (by decide) ?_
          refine TGo.iret dX10_drawn_86 rfl ?_
          first
          | (exfalso; omega)
          | (refine leafZ (hz.s rfl) ?_
             unfold zp_drawn
             (repeat (first | rw [if_pos (by first | rfl | assumption | omega)] | rw [if_neg (by first | decide | assumption | omega)]))
             (try first | rfl | rw [bZ_t (by first | assumption | omega)] | rw [bZ_f (by first | assumption | omega)]))
      · refine TGo.il1 dX10_drawn_29 rfl ?_
        refine TGo.i2l dX10_drawn_30 (by omega) ?_
        refine TGo.lc0 dX10_drawn_31 ?_
        refine TGo.al0 dX10_drawn_32 rfl ?_
        refine TGo.getI (t := 18) 74 74 (hT 0 (by decide)) rfl fgX10_616_10 dX10_drawn_33 rfl rfl rfl ?_
        refine TGo.toz _ ((u2_n (Or.inr (by decide))).trans (hz.1 74 rfl)) ?_
        refine TGo.i2l dX10_drawn_36 (by omega) ?_
        refine TGo.lc1 dX10_drawn_37 ?_
        refine TGo.lsub dX10_drawn_38 ?_
        refine TGo.cF (csS3 (y2 := mX10_in) 1 rfl dX10_drawn_39 q2032 q2033 okX10_in npX10_in rfl rfl) (kX10_in (by omega) (by omega) (by omega)) ?_
        refine TGo.ifb_eq 58 dX10_drawn_42 (by decide) (fun h42 => ?_) (fun h42 => ?_)
        · refine TGo.icm1 dX10_drawn_58 ?_
          refine TGo.iret dX10_drawn_59 rfl ?_
          first
          | (exfalso; omega)
          | (refine leafZ (hz.s rfl) ?_
             unfold zp_drawn
             (repeat (first | rw [if_pos (by first | rfl | assumption | omega)] | rw [if_neg (by first | decide | assumption | omega)]))
             (try first | rfl | rw [bZ_t (by first | assumption | omega)] | rw [bZ_f (by first | assumption | omega)]))
        · refine TGo.il2 dX10_drawn_45 rfl ?_
          refine TGo.if_ne 58 dX10_drawn_46 (by decide) (by omega) (fun h46 => ?_) (fun h46 => ?_)
          · refine TGo.icm1 dX10_drawn_58 ?_
            refine TGo.iret dX10_drawn_59 rfl ?_
            first
            | (exfalso; omega)
            | (refine leafZ (hz.s rfl) ?_
               unfold zp_drawn
               (repeat (first | rw [if_pos (by first | rfl | assumption | omega)] | rw [if_neg (by first | decide | assumption | omega)]))
               (try first | rfl | rw [bZ_t (by first | assumption | omega)] | rw [bZ_f (by first | assumption | omega)]))
          · refine TGo.al0 dX10_drawn_49 rfl ?_
            refine TGo.getS (t := 18) 73 73 (T + 41) (hT 0 (by decide)) rfl fgX10_160_10 dX10_drawn_50 rfl rfl rfl ?_
            refine TGo.il1 dX10_drawn_53 rfl ?_
            refine TGo.iald dX10_drawn_54 (hT 41 (by decide)) (by omega) rfl ?_
            refine TGo.toz _ ((u2_n (Or.inl (by omega))).trans (hz.2.1 73 (by decide) _)) ?_
            refine TGo.goto 59 dX10_drawn_55 (by decide) ?_
            refine TGo.iret dX10_drawn_59 rfl ?_
            first
            | (exfalso; omega)
            | (refine leafZ (hz.s rfl) ?_
               unfold zp_drawn
               (repeat (first | rw [if_pos (by first | rfl | assumption | omega)] | rw [if_neg (by first | decide | assumption | omega)]))
               (try first | rfl | rw [bZ_t (by first | assumption | omega)] | rw [bZ_f (by first | assumption | omega)]))
    · refine TGo.icm1 dX10_drawn_22 ?_
      refine TGo.iret dX10_drawn_23 rfl ?_
      first
      | (exfalso; omega)
      | (refine leafZ (hz.s rfl) ?_
         unfold zp_drawn
         (repeat (first | rw [if_pos (by first | rfl | assumption | omega)] | rw [if_neg (by first | decide | assumption | omega)]))
         (try first | rfl | rw [bZ_t (by first | assumption | omega)] | rw [bZ_f (by first | assumption | omega)]))
theorem mbZ_bit (g : Int → Int) (b : Int) (w : Nat) : ∀ k, w < k → mbZ g b k / ((2 ^ w : Nat) : Int) % 2 = if g (w : Int) = b then 1 else 0 := by
  intro k
  induction k with
  | zero => intro h; omega
  | succ k ih =>
    intro h
    have hp : (0 : Int) < ((2 ^ w : Nat) : Int) := by have := Nat.two_pow_pos w; omega
    rw [mbZ]
    by_cases e : w = k
    · subst e
      have h1 := mbZ_r g b w
      have h2 : mbZ g b w / ((2 ^ w : Nat) : Int) = 0 := Int.ediv_eq_zero_of_lt h1.1 h1.2
      split
      · rw [show mbZ g b w + ((2 ^ w : Nat) : Int) = mbZ g b w + 1 * ((2 ^ w : Nat) : Int) by omega, Int.add_mul_ediv_right _ _ (by omega), h2]; decide
      · rw [Int.add_zero, h2]; decide
    · have e2 : ((2 ^ k : Nat) : Int) = (2 * ((2 ^ (k - w - 1) : Nat) : Int)) * ((2 ^ w : Nat) : Int) := by
        have : 2 ^ k = 2 * 2 ^ (k - w - 1) * 2 ^ w := by
          rw [← Nat.pow_succ', ← Nat.pow_add]; congr 1; omega
        rw [this]; rfl
      split
      · rw [e2, Int.add_mul_ediv_right _ _ (by omega), ← ih (by omega)]; omega
      · rw [Int.add_zero]; exact ih (by omega)
/-- how many bits of the first k -/
def pcZ (x : Int) : Nat → Int
  | 0 => 0
  | k + 1 => pcZ x k + x / ((2 ^ k : Nat) : Int) % 2
theorem pcZ_r (x : Int) (k : Nat) : 0 ≤ pcZ x k ∧ pcZ x k ≤ k := by
  induction k with
  | zero => exact ⟨Int.le_refl _, Int.le_refl _⟩
  | succ k ih => rw [pcZ]; omega
theorem pcZ_mb {g : Int → Int} {b : Int} {w : Nat} (hw : g (w : Int) = b) {n : Nat} (hn : w < n) : ∀ k, w < k → k ≤ n → 1 ≤ pcZ (mbZ g b n) k := by
  intro k
  induction k with
  | zero => intro h; omega
  | succ k ih =>
    intro h1 h2
    have h0 := pcZ_r (mbZ g b n) k
    rw [pcZ]
    by_cases e : w = k
    · subst e
      rw [mbZ_bit g b w n hn, if_pos hw]; omega
    · have := ih (by omega) (by omega)
      omega
theorem pcZ_mz {g : Int → Int} (h : 0 ≤ (moZ g 10).1) : 1 ≤ pcZ (mzZ g) 10 := by
  have h1 := moZ_r g 10
  unfold mzZ
  rw [if_neg (by omega)]
  exact pcZ_mb (w := (moZ g 10).1.toNat) (by rw [show (((moZ g 10).1.toNat : Nat) : Int) = (moZ g 10).1 by omega]) (by omega) 10 (by omega) (Nat.le_refl _)
theorem moZ_z {g : Int → Int} : ∀ k, (moZ g k).1 = -1 → ∀ i : Nat, i < k → g (i : Int) ≤ 0 := by
  intro k
  induction k with
  | zero => intro _ i h; omega
  | succ k ih =>
    intro h i hi
    have h1 := moZ_r g k
    rw [moZ] at h
    split at h
    · simp only at h; omega
    · by_cases e : i = k
      · subst e; have := h1.2.2.2.1 h; omega
      · exact ih h i (by omega)
theorem mzZ_r (g : Int → Int) : 0 ≤ mzZ g ∧ mzZ g ≤ 1023 := by
  unfold mzZ
  split
  · omega
  · have := mbZ_r g (g (moZ g 10).1) 10; omega
def wayZ (w n : Int) : Int := if (1000000000000000000 : Int).tdiv n < w then 1000000000000000000 else w * n
theorem tdiv_r {n : Int} (h : 1 ≤ n ∧ n ≤ 10) : 100000000000000000 ≤ (1000000000000000000 : Int).tdiv n ∧ (1000000000000000000 : Int).tdiv n ≤ 1000000000000000000 ∧ (1000000000000000000 : Int).tdiv n * n ≤ 1000000000000000000 := by
  have : ∀ m : Nat, m < 11 → 1 ≤ m → 100000000000000000 ≤ (1000000000000000000 : Int).tdiv (m : Int) ∧ (1000000000000000000 : Int).tdiv (m : Int) ≤ 1000000000000000000 ∧ (1000000000000000000 : Int).tdiv (m : Int) * (m : Int) ≤ 1000000000000000000 := by decide +kernel
  have h2 := this n.toNat (by omega) (by omega)
  rw [show ((n.toNat : Nat) : Int) = n by omega] at h2
  exact h2
theorem wayZ_r {w n : Int} (hw : 1 ≤ w ∧ w ≤ 1000000000000000000) (hn : 1 ≤ n ∧ n ≤ 10) : 1 ≤ wayZ w n ∧ wayZ w n ≤ 1000000000000000000 := by
  have h1 := tdiv_r hn
  unfold wayZ
  split
  · omega
  · have h2 : w * n ≤ (1000000000000000000 : Int).tdiv n * n := Int.mul_le_mul_of_nonneg_right (by omega) (by omega)
    have h3 : 1 * 1 ≤ w * n := Int.mul_le_mul hw.1 hn.1 (by decide) (by omega)
    omega
/-- slips and ways of the first rules -/
def ogZ (f : Int → Int) (p : Int) (m : Nat) : Nat → Int × Int
  | 0 => (0, 1)
  | r + 1 => if 0 < (hrZ f p (r : Int) m).2 then ((ogZ f p m r).1 + ((hrZ f p (r : Int) m).2 - (hrZ f p (r : Int) m).1 (moZ (hrZ f p (r : Int) m).1 10).1), wayZ (ogZ f p m r).2 (pcZ (mzZ (hrZ f p (r : Int) m).1) 10)) else ogZ f p m r
theorem hrZ_some {f : Int → Int} {p a : Int} (hc : ∀ v : Nat, wZ (f (298 + 36 * (v : Int) + a)) ≤ 9 ∧ -1 ≤ wZ (f (298 + 36 * (v : Int) + a))) : ∀ k, 0 < (hrZ f p a k).2 → ∃ i : Nat, i < 10 ∧ 0 < (hrZ f p a k).1 (i : Int) := by
  intro k
  induction k with
  | zero => intro h; exact absurd h (by show ¬ (0 : Int) < 0; decide)
  | succ k ih =>
    intro h
    have h0 := hrZ_r f p a k
    have h1 := hc k
    by_cases e : f (262 + 3 * (k : Int)) = p ∧ wZ (f (298 + 36 * (k : Int) + a)) ≠ -1
    · rw [hrZ, if_pos e]
      refine ⟨(wZ (f (298 + 36 * (k : Int) + a))).toNat, by omega, ?_⟩
      rw [show (((wZ (f (298 + 36 * (k : Int) + a))).toNat : Nat) : Int) = wZ (f (298 + 36 * (k : Int) + a)) by omega]
      show 0 < zu _ _ _ _
      rw [zu_s]
      have := h0.1 (wZ (f (298 + 36 * (k : Int) + a)))
      omega
    · rw [hrZ, if_neg e] at h ⊢
      exact ih h
def zp_origins (z : ZT) (p w : Int) : Int × ZT := if ¬ ((0 ≤ p ∧ p < z.2 3 0) ∧ 0 ≤ w ∧ w ≤ 1) then (-1, z) else (if w = 0 then (ogZ (z.2 3) p (z.2 3 2).toNat 36).1 else (ogZ (z.2 3) p (z.2 3 2).toNat 36).2, z)
set_option maxHeartbeats 4000000 in
theorem iX10_origins {E : ET} {sh : SHT} {nn : Nat × Nat} {V : VT} {T : Nat} {z : ZT} {p w c1 c2 c3 c4 x : Int} {Q : AO → SHT → Nat × Nat → VT → Prop} (hT : MSh T sh) (hz : PE T V z) (hx0 : 0 ≤ x ∧ x ≤ 1023) (K : TGo E mX10_origins 3 109 [some (.ref T), some (.int (iI p)), some (.int (iI w)), some (.long (lI c1)), none, some (.long (lI c2)), none, some (.int (iI c3)), some (.int (iI c4)), some (.int (iI x)), some (.int (iI (pcZ x (10)))), some (.int (iI (((10) : Nat) : Int)))] [] sh nn V Q) : ∀ (n j : Nat), 10 - j < n → j ≤ 10 → TGo E mX10_origins 3 84 [some (.ref T), some (.int (iI p)), some (.int (iI w)), some (.long (lI c1)), none, some (.long (lI c2)), none, some (.int (iI c3)), some (.int (iI c4)), some (.int (iI x)), some (.int (iI (pcZ x (j)))), some (.int (iI (((j) : Nat) : Int)))] [] sh nn V Q := by
  intro n
  induction n with
  | zero => intro j h; omega
  | succ n ih =>
    intro j hn hj
    have h1 := pcZ_r x j
    refine TGo.il dX10_origins_84 rfl ?_
    refine TGo.bip 10 dX10_origins_86 (by decide) ?_
    refine TGo.icmp_ge 109 dX10_origins_88 (by decide) (by omega) (fun h88 => ?_) (fun h88 => ?_)
    · obtain rfl : j = 10 := by omega
      exact K
    · refine TGo.il dX10_origins_91 rfl ?_
      refine TGo.il dX10_origins_93 rfl ?_
      refine TGo.il dX10_origins_95 rfl ?_
      refine TGo.ishr dX10_origins_97 ?_
      refine TGo.ic1 dX10_origins_98 ?_
      refine TGo.iand dX10_origins_99 ?_
      refine TGo.tos _ (iI_bit (by omega) (by omega)) ?_
      refine TGo.iadd dX10_origins_100 ?_
      refine TGo.is dX10_origins_101 rfl rfl ?_
      refine TGo.iinc dX10_origins_103 rfl rfl rfl ?_
      refine TGo.goto 84 dX10_origins_106 (by decide) ?_
      exact TGo.seq [some (.ref T), some (.int (iI p)), some (.int (iI w)), some (.long (lI c1)), none, some (.long (lI c2)), none, some (.int (iI c3)), some (.int (iI c4)), some (.int (iI x)), some (.int (iI (pcZ x ((j + 1))))), some (.int (iI ((((j + 1)) : Nat) : Int)))] [] _ (by rw [pcZ]; rfl) rfl rfl (ih (j + 1) (by omega) (by omega))
theorem hrZ_sum (f : Int → Int) (p a : Int) (k : Nat) (w : Int) : (hrZ f p a k).1 w ≤ (hrZ f p a k).2 := by
  induction k with
  | zero => exact Int.le_refl _
  | succ k ih =>
    rw [hrZ]
    split
    · simp only
      unfold zu
      split
      · rename_i e; subst e; omega
      · omega
    · exact ih
theorem hrZ_mo {f : Int → Int} {p a : Int} {m : Nat} (hc : ∀ (v : Nat) (a : Int), v < m → 0 ≤ a → a < 36 → cOK (f (298 + 36 * (v : Int) + a))) (ha : 0 ≤ a ∧ a < 36) (h : 0 < (hrZ f p a m).2) : 0 ≤ (moZ (hrZ f p a m).1 10).1 := by
  have h1 := moZ_r (hrZ f p a m).1 10
  by_cases e : (moZ (hrZ f p a m).1 10).1 = -1
  · have h2 := moZ_z 10 e
    have h3 : ∀ k, k ≤ m → 0 < (hrZ f p a k).2 → ∃ i : Nat, i < 10 ∧ 0 < (hrZ f p a k).1 (i : Int) := by
      intro k
      induction k with
      | zero => intro _ h; exact absurd h (by show ¬ (0 : Int) < 0; decide)
      | succ k ih =>
        intro hk h
        have h0 := hrZ_r f p a k
        have hw := wZ_r (hc k a (by omega) ha.1 ha.2)
        by_cases e : f (262 + 3 * (k : Int)) = p ∧ wZ (f (298 + 36 * (k : Int) + a)) ≠ -1
        · rw [hrZ, if_pos e]
          refine ⟨(wZ (f (298 + 36 * (k : Int) + a))).toNat, by omega, ?_⟩
          rw [show (((wZ (f (298 + 36 * (k : Int) + a))).toNat : Nat) : Int) = wZ (f (298 + 36 * (k : Int) + a)) by omega]
          show 0 < zu _ _ _ _
          rw [zu_s]
          have := h0.1 (wZ (f (298 + 36 * (k : Int) + a)))
          omega
        · rw [hrZ, if_neg e] at h ⊢
          exact ih (by omega) h
    obtain ⟨i, hi, hp⟩ := h3 m (Nat.le_refl _) h
    have := h2 i hi
    omega
  · omega
theorem ogZ_r {f : Int → Int} {p : Int} {m : Nat} (hm : m ≤ 12) (hc : ∀ (v : Nat) (a : Int), v < m → 0 ≤ a → a < 36 → cOK (f (298 + 36 * (v : Int) + a))) : ∀ r : Nat, r ≤ 36 → (0 ≤ (ogZ f p m r).1 ∧ (ogZ f p m r).1 ≤ 12 * r) ∧ 1 ≤ (ogZ f p m r).2 ∧ (ogZ f p m r).2 ≤ 1000000000000000000 := by
  intro r
  induction r with
  | zero => intro _; show (0 ≤ (0 : Int) ∧ (0 : Int) ≤ 12 * 0) ∧ 1 ≤ (1 : Int) ∧ (1 : Int) ≤ 1000000000000000000; omega
  | succ r ih =>
    intro hr
    have h := ih (by omega)
    rw [ogZ]
    split
    · rename_i h2
      have h3 := hrZ_r f p (r : Int) m
      have h4 := moZ_r (hrZ f p (r : Int) m).1 10
      have h5 := h3.1 (moZ (hrZ f p (r : Int) m).1 10).1
      have h6 : 0 ≤ (moZ (hrZ f p (r : Int) m).1 10).1 := hrZ_mo hc (by omega) h2
      have h7 := pcZ_mz h6
      have h8 := pcZ_r (mzZ (hrZ f p (r : Int) m).1) 10
      have h9 := wayZ_r (w := (ogZ f p m r).2) (n := pcZ (mzZ (hrZ f p (r : Int) m).1) 10) h.2 (by omega)
      have ha := hrZ_sum f p (r : Int) m (moZ (hrZ f p (r : Int) m).1 10).1
      exact ⟨by simp only; omega, h9⟩
    · omega
set_option maxHeartbeats 4000000 in
theorem lX10_origins {E : ET} {sh : SHT} {nn : Nat × Nat} {T : Nat} {z : ZT} {p w : Int} {m : Nat} (hT : MSh T sh) (W : RWZ (z.2 3)) (hp : 0 ≤ p ∧ p < z.2 3 0) (hw : 0 ≤ w ∧ w ≤ 1) (hm : (z.2 3 2).toNat = m) : ∀ (n j : Nat) (V : VT) (x1 x2 x3 x4 : Option Value), 36 - j < n → j ≤ 36 → PE T V z → TGo E mX10_origins 3 35 [some (.ref T), some (.int (iI p)), some (.int (iI w)), some (.long (lI (ogZ (z.2 3) p m (j)).1)), none, some (.long (lI (ogZ (z.2 3) p m (j)).2)), none, some (.int (iI (((j) : Nat) : Int))), x1, x2, x3, x4] [] sh nn V (fun o sh' nn' V' => o = .inl (some (.long (lI (if w = 0 then (ogZ (z.2 3) p m 36).1 else (ogZ (z.2 3) p m 36).2)))) ∧ sh' = sh ∧ nn' = nn ∧ PE T V' z) := by
  intro n
  induction n with
  | zero => intro j V x1 x2 x3 x4 h; omega
  | succ n ih =>
    intro j V x1 x2 x3 x4 hn hj hz
    have w0 := W.1.1
    have w2 := W.1.2.2.1
    have hc : ∀ (v : Nat) (a : Int), v < m → 0 ≤ a → a < 36 → cOK (z.2 3 (298 + 36 * (v : Int) + a)) := fun v a h0 h1 h2 => W.2.2.2.2.2.1 v a (by omega) (by omega) h1 h2
    have ho := ogZ_r (p := p) (by omega) hc j hj
    have hr := hrZ_r (z.2 3) p (j : Int) m
    have hu := hrZ_sum (z.2 3) p (j : Int) m (moZ (hrZ (z.2 3) p (j : Int) m).1 10).1
    have hv := hr.1 (moZ (hrZ (z.2 3) p (j : Int) m).1 10).1
    have hmo := moZ_r (hrZ (z.2 3) p (j : Int) m).1 10
    refine TGo.il dX10_origins_35 rfl ?_
    refine TGo.bip 36 dX10_origins_37 (by decide) ?_
    refine TGo.icmp_ge 142 dX10_origins_39 (by decide) (by omega) (fun h39 => ?_) (fun h39 => ?_)
    · refine TGo.il2 dX10_origins_142 rfl ?_
      refine TGo.if_ne 150 dX10_origins_143 (by decide) (by omega) (fun h143 => ?_) (fun h143 => ?_)
      · refine TGo.ll dX10_origins_150 rfl ?_
        refine TGo.lret dX10_origins_152 rfl ?_
        obtain rfl : j = 36 := by omega
        refine ⟨rvL ?_, rfl, rfl, hz⟩
        first | rw [if_pos (by omega)] | rw [if_neg (by omega)]
      · refine TGo.ll3 dX10_origins_146 rfl ?_
        refine TGo.goto 152 dX10_origins_147 (by decide) ?_
        refine TGo.lret dX10_origins_152 rfl ?_
        obtain rfl : j = 36 := by omega
        refine ⟨rvL ?_, rfl, rfl, hz⟩
        first | rw [if_pos (by omega)] | rw [if_neg (by omega)]
    · refine TGo.al0 dX10_origins_42 rfl ?_
      refine TGo.il1 dX10_origins_43 rfl ?_
      refine TGo.il dX10_origins_44 rfl ?_
      refine TGo.cS (csV2 (y2 := mX10_findOrigin) (t := 18) 2 rfl (hT 0 (by decide)) rfl rfl dX10_origins_46 q2455 q2457 qs93 okX10_findOrigin npX10_findOrigin rfl rfl) (kX10_findOrigin (p := p) (a := (j : Int)) hT hz W (by omega) (by omega)) (fun v46 V46 h46 => ?_)
      obtain ⟨rfl, hz46, hg46, hf46⟩ := h46
      rw [hm] at hg46
      refine TGo.toz (hrZ (z.2 3) p (j : Int) m).2 (by rw [hm]) ?_
      refine TGo.is dX10_origins_49 rfl rfl ?_
      refine TGo.il dX10_origins_51 rfl ?_
      refine TGo.if_le 136 dX10_origins_53 (by decide) (by omega) (fun h53 => ?_) (fun h53 => ?_)
      · refine TGo.iinc dX10_origins_136 rfl rfl rfl ?_
        refine TGo.goto 35 dX10_origins_139 (by decide) ?_
        first | (exfalso; omega) | exact TGo.seq [some (.ref T), some (.int (iI p)), some (.int (iI w)), some (.long (lI (ogZ (z.2 3) p m ((j + 1))).1)), none, some (.long (lI (ogZ (z.2 3) p m ((j + 1))).2)), none, some (.int (iI ((((j + 1)) : Nat) : Int))), _, _, _, _] [] _ (by rw [ogZ]; first | (rw [if_neg (by omega)]; rfl) | (rw [if_pos (by omega)]; unfold wayZ; first | (rw [if_pos (by omega)]; rfl) | (rw [if_neg (by omega)]; rfl))) rfl rfl (ih (j + 1) _ _ _ _ _ (by omega) (by omega) hz46)
      · have hmp := hrZ_mo hc (by omega) (by omega) (p := p) (a := (j : Int))
        have hpz := pcZ_mz hmp
        have hpr := pcZ_r (mzZ (hrZ (z.2 3) p (j : Int) m).1) 10
        have htd := tdiv_r (n := pcZ (mzZ (hrZ (z.2 3) p (j : Int) m).1) 10) (by omega)
        refine TGo.ll3 dX10_origins_56 rfl ?_
        refine TGo.il dX10_origins_57 rfl ?_
        refine TGo.al0 dX10_origins_59 rfl ?_
        refine TGo.getS (t := 18) 50 50 (T + 24) (hT 0 (by decide)) rfl fgX10_109_10 dX10_origins_60 rfl rfl rfl ?_
        refine TGo.al0 dX10_origins_63 rfl ?_
        refine TGo.cF (csV0 (y2 := mX10_most) (t := 18) 1 rfl (hT 0 (by decide)) rfl rfl dX10_origins_64 q2442 q2444 qs92 okX10_most npX10_most rfl rfl) (kX10_most (g := (hrZ (z.2 3) p (j : Int) m).1) hT hz46 hg46 (fun v h0 h1 => by have := hr.1 v; omega)) ?_
        refine TGo.iald dX10_origins_67 (hT 24 (by decide)) (by omega) rfl ?_
        refine TGo.toz _ (hg46 _ (by omega) (by omega)) ?_
        refine TGo.isub dX10_origins_68 ?_
        refine TGo.i2l dX10_origins_69 (by omega) ?_
        refine TGo.ladd dX10_origins_70 ?_
        refine TGo.ls3 dX10_origins_71 rfl rfl ?_
        refine TGo.al0 dX10_origins_72 rfl ?_
        refine TGo.cF (csV0 (y2 := mX10_mostBits) (t := 18) 2 rfl (hT 0 (by decide)) rfl rfl dX10_origins_73 q2459 q2461 qs94 okX10_mostBits npX10_mostBits rfl rfl) (kX10_mostBits (g := (hrZ (z.2 3) p (j : Int) m).1) hT hz46 hg46 (fun v h0 h1 => by have := hr.1 v; omega)) ?_
        have hmz := mzZ_r (hrZ (z.2 3) p (j : Int) m).1
        refine TGo.is dX10_origins_76 rfl rfl ?_
        refine TGo.ic0 dX10_origins_78 ?_
        refine TGo.is dX10_origins_79 rfl rfl ?_
        refine TGo.ic0 dX10_origins_81 ?_
        refine TGo.is dX10_origins_82 rfl rfl ?_
        refine iX10_origins hT hz46 (by omega) ?_ 11 0 (by omega) (by omega)
        refine TGo.ll dX10_origins_109 rfl ?_
        refine TGo.ldc2 1000000000000000000 dX10_origins_111 q2467 (by decide) ?_
        refine TGo.il dX10_origins_114 rfl ?_
        refine TGo.i2l dX10_origins_116 (by omega) ?_
        refine TGo.ldiv dX10_origins_117 (by omega) (by omega) ?_
        refine TGo.lc_le 128 dX10_origins_118 dX10_origins_119 (by decide) (by omega) (fun h118 => ?_) (fun h118 => ?_)
        · refine TGo.ll dX10_origins_128 rfl ?_
          refine TGo.il dX10_origins_130 rfl ?_
          refine TGo.i2l dX10_origins_132 (by omega) ?_
          refine TGo.lmul dX10_origins_133 ?_
          refine TGo.ls dX10_origins_134 rfl rfl ?_
          refine TGo.iinc dX10_origins_136 rfl rfl rfl ?_
          refine TGo.goto 35 dX10_origins_139 (by decide) ?_
          first | (exfalso; omega) | exact TGo.seq [some (.ref T), some (.int (iI p)), some (.int (iI w)), some (.long (lI (ogZ (z.2 3) p m ((j + 1))).1)), none, some (.long (lI (ogZ (z.2 3) p m ((j + 1))).2)), none, some (.int (iI ((((j + 1)) : Nat) : Int))), _, _, _, _] [] _ (by rw [ogZ]; first | (rw [if_neg (by omega)]; rfl) | (rw [if_pos (by omega)]; unfold wayZ; first | (rw [if_pos (by omega)]; rfl) | (rw [if_neg (by omega)]; rfl))) rfl rfl (ih (j + 1) _ _ _ _ _ (by omega) (by omega) hz46)
        · refine TGo.ldc2 1000000000000000000 dX10_origins_122 q2467 (by decide) ?_
          refine TGo.goto 134 dX10_origins_125 (by decide) ?_
          refine TGo.ls dX10_origins_134 rfl rfl ?_
          refine TGo.iinc dX10_origins_136 rfl rfl rfl ?_
          refine TGo.goto 35 dX10_origins_139 (by decide) ?_
          first | (exfalso; omega) | exact TGo.seq [some (.ref T), some (.int (iI p)), some (.int (iI w)), some (.long (lI (ogZ (z.2 3) p m ((j + 1))).1)), none, some (.long (lI (ogZ (z.2 3) p m ((j + 1))).2)), none, some (.int (iI ((((j + 1)) : Nat) : Int))), _, _, _, _] [] _ (by rw [ogZ]; first | (rw [if_neg (by omega)]; rfl) | (rw [if_pos (by omega)]; unfold wayZ; first | (rw [if_pos (by omega)]; rfl) | (rw [if_neg (by omega)]; rfl))) rfl rfl (ih (j + 1) _ _ _ _ _ (by omega) (by omega) hz46)
set_option maxHeartbeats 4000000 in
theorem kX10_origins {E : ET} {sh : SHT} {nn : Nat × Nat} {V : VT} {T : Nat} {z : ZT} {p w : Int} (hT : MSh T sh) (hz : PE T V z) (W : RWZ (z.2 3)) (rp : R32 p) (rw : R32 w) : TC E mX10_origins 3 [.ref T, .int (iI p), .int (iI w)] sh nn V (ZPL T sh nn (zp_origins z p w)) := by
  have w0 := W.1.1
  have w2 := W.1.2.2.1
  refine TC.intro [some (.ref T), some (.int (iI p)), some (.int (iI w)), none, none, none, none, none, none, none, none, none] rfl ?_
  refine TGo.al0 dX10_origins_0 rfl ?_
  refine TGo.ic0 dX10_origins_1 ?_
  refine TGo.putI (t := 18) 0 0 (hT 0 (by decide)) rfl fpX10_163_10 dX10_origins_2 rfl rfl rfl ?_
  refine TGo.al0 dX10_origins_5 rfl ?_
  refine TGo.il1 dX10_origins_6 rfl ?_
  refine TGo.cF (csV1 (y2 := mX10_isPart) (t := 18) 2 rfl (hT 0 (by decide)) rfl rfl dX10_origins_7 q2061 q2063 qs40 okX10_isPart npX10_isPart rfl rfl) (kX10_isPart hT (hz.s rfl) w0 (by omega)) ?_
  refine TGo.ifb_eq 23 dX10_origins_10 (by decide) (fun h10 => ?_) (fun h10 => ?_)
  · refine TGo.ldc2 (-1) dX10_origins_23 q2182 (by decide) ?_
    refine TGo.lret dX10_origins_26 rfl ?_
    first
    | (exfalso; omega)
    | (refine leafZL (hz.s rfl) ?_
       unfold zp_origins
       (repeat (first | rw [if_pos (by first | rfl | assumption | omega)] | rw [if_neg (by first | decide | assumption | omega)]))
       (try first | rfl | rw [bZ_t (by first | assumption | omega)] | rw [bZ_f (by first | assumption | omega)]))
  · refine TGo.il2 dX10_origins_13 rfl ?_
    refine TGo.i2l dX10_origins_14 (by omega) ?_
    refine TGo.lc0 dX10_origins_15 ?_
    refine TGo.lc1 dX10_origins_16 ?_
    refine TGo.cF (csS3 (y2 := mX10_in) 1 rfl dX10_origins_17 q2032 q2033 okX10_in npX10_in rfl rfl) (kX10_in (by omega) (by omega) (by omega)) ?_
    refine TGo.ifb_ne 27 dX10_origins_20 (by decide) (fun h20 => ?_) (fun h20 => ?_)
    · refine TGo.lc0 dX10_origins_27 ?_
      refine TGo.ls3 dX10_origins_28 rfl rfl ?_
      refine TGo.lc1 dX10_origins_29 ?_
      refine TGo.ls dX10_origins_30 rfl rfl ?_
      refine TGo.ic0 dX10_origins_32 ?_
      refine TGo.is dX10_origins_33 rfl rfl ?_
      first
      | (exfalso; omega)
      | (refine (lX10_origins (p := p) (w := w) (m := (z.2 3 2).toNat) hT W (by omega) (by omega) rfl 37 0 _ _ _ _ _ (by omega) (by omega) (hz.s rfl)).mono ?_
         rintro o sh' nn' V' ⟨ho, hs, hn, hp⟩
         unfold zp_origins
         rw [if_neg (by omega)]
         exact ⟨ho, hs, hn, hp⟩)
    · refine TGo.ldc2 (-1) dX10_origins_23 q2182 (by decide) ?_
      refine TGo.lret dX10_origins_26 rfl ?_
      first
      | (exfalso; omega)
      | (refine leafZL (hz.s rfl) ?_
         unfold zp_origins
         (repeat (first | rw [if_pos (by first | rfl | assumption | omega)] | rw [if_neg (by first | decide | assumption | omega)]))
         (try first | rfl | rw [bZ_t (by first | assumption | omega)] | rw [bZ_f (by first | assumption | omega)]))
