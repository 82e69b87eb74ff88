/-! lists -/
set_option maxRecDepth 100000
theorem blt31 {c : Nat} (h : c < 2147483648) : Nat.blt c 2147483648 = true := Nat.ble_eq_true_of_le h
theorem blt_of {a b : Nat} (h : a < b) : Nat.blt a b = true := Nat.ble_eq_true_of_le h
/-- a list of n references, in the array A of c places -/
def LiR (sh : SHT) (V : VT) (L A c n : Nat) (g : Nat → Nat) : Prop := sh L = (20, 0) ∧ V.1 L 2 = (n : Int) ∧ V.2.2 L 1 = some A ∧ sh A = (5, c) ∧ (2 ≤ c ∧ n ≤ c ∧ c ≤ 2000) ∧ (∀ i : Nat, i < n → V.2.2 A (i : Int) = some (g i)) ∧ ∀ i : Int, 0 ≤ i → i < (c : Int) → ∀ y, V.2.2 A i = some y → objO (sh y).1 = true
/-- the cells but those of X are as they were -/
def FrC (X : List Nat) (n : Nat) (sh sh' : SHT) (V V' : VT) : Prop := ∀ a, a < n → a ∉ X → sh' a = sh a ∧ V'.1 a = V.1 a ∧ V'.2.1 a = V.2.1 a ∧ V'.2.2 a = V.2.2 a
theorem shr1 {c : Nat} (h : c ≤ 2147483647) : iI (c : Int) >>> (iI 1 &&& 31) = iI ((c / 2 : Nat) : Int) := by
  have e := iI_shr (iI (c : Int)) 1 (by decide)
  rw [iI_to (by omega)] at e
  rw [show ((c / 2 : Nat) : Int) = (c : Int) / ((2 ^ 1 : Nat) : Int) by show ((c / 2 : Nat) : Int) = (c : Int) / 2; omega]
  exact e
set_option maxHeartbeats 4000000 in
theorem kJ2_size {E : ET} {sh : SHT} {nn : Nat × Nat} {V : VT} {L A c n : Nat} {g : Nat → Nat} (hL : LiR sh V L A c n g) : TF E mJ2_size 1 [.ref L] sh nn V (.int (iI (n : Int))) := by
  have hLx := hL
  obtain ⟨k1, k2, k3, k4, k5, k6, k7⟩ := hL
  have hb := blt31 (c := c) (by omega)
  refine TC.intro [some (.ref L)] rfl ?_
  refine TGo.al0 dJ2_size_0 rfl ?_
  refine TGo.getI (t := 20) 2 2 k1 rfl fgJ2_48_12 dJ2_size_1 rfl rfl rfl ?_
  refine TGo.toz (n : Int) k2 ?_
  refine TGo.iret dJ2_size_4 rfl ?_
  exact ⟨rfl, rfl, rfl, rfl⟩
set_option maxHeartbeats 4000000 in
theorem kJ2_isEmpty {E : ET} {sh : SHT} {nn : Nat × Nat} {V : VT} {L A c n : Nat} {g : Nat → Nat} (hL : LiR sh V L A c n g) : TF E mJ2_isEmpty 1 [.ref L] sh nn V (.int (iI (bZ (n = 0)))) := by
  have hLx := hL
  obtain ⟨k1, k2, k3, k4, k5, k6, k7⟩ := hL
  have hb := blt31 (c := c) (by omega)
  refine TC.intro [some (.ref L)] rfl ?_
  refine TGo.al0 dJ2_isEmpty_0 rfl ?_
  refine TGo.getI (t := 20) 2 2 k1 rfl fgJ2_48_12 dJ2_isEmpty_1 rfl rfl rfl ?_
  refine TGo.toz (n : Int) k2 ?_
  refine TGo.if_ne 11 dJ2_isEmpty_4 (by decide) (by omega) (fun h4 => ?_) (fun h4 => ?_)
  · refine TGo.ic0 dJ2_isEmpty_11 ?_
    refine TGo.zret dJ2_isEmpty_12 rfl (by first | exact Or.inl rfl | exact Or.inr rfl | exact bZ_or _ | assumption) ?_
    refine leafF ?_
    first | exact (bZ_t (by omega)).symm | exact (bZ_f (by omega)).symm
  · refine TGo.ic1 dJ2_isEmpty_7 ?_
    refine TGo.goto 12 dJ2_isEmpty_8 (by decide) ?_
    refine TGo.zret dJ2_isEmpty_12 rfl (by first | exact Or.inl rfl | exact Or.inr rfl | exact bZ_or _ | assumption) ?_
    refine leafF ?_
    first | exact (bZ_t (by omega)).symm | exact (bZ_f (by omega)).symm
set_option maxHeartbeats 4000000 in
theorem kJ6_checkIndex {E : ET} {sh : SHT} {nn : Nat × Nat} {V : VT} {i n : Int} (h : 0 ≤ i ∧ i < n) (hn : n ≤ 2147483647) : TF E mJ6_checkIndex 1 [.int (iI i), .int (iI n), .null] sh nn V (.int (iI i)) := by
  refine TC.intro [some (.int (iI i)), some (.int (iI n)), some (.null)] rfl ?_
  refine TGo.il0 dJ6_checkIndex_0 rfl ?_
  refine TGo.if_lt 9 dJ6_checkIndex_1 (by decide) (by omega) (fun h1 => ?_) (fun h1 => ?_)
  · exact absurd h.1 (by omega)
  · refine TGo.il0 dJ6_checkIndex_4 rfl ?_
    refine TGo.il1 dJ6_checkIndex_5 rfl ?_
    refine TGo.icmp_lt 16 dJ6_checkIndex_6 (by decide) (by omega) (fun h6 => ?_) (fun h6 => ?_)
    · refine TGo.il0 dJ6_checkIndex_16 rfl ?_
      refine TGo.iret dJ6_checkIndex_17 rfl ?_
      exact ⟨rfl, rfl, rfl, rfl⟩
    · exact absurd h.2 (by omega)
set_option maxHeartbeats 4000000 in
theorem kJ5_checkIndex {E : ET} {sh : SHT} {nn : Nat × Nat} {V : VT} {i n : Int} (h : 0 ≤ i ∧ i < n) (hn : n ≤ 2147483647) : TF E mJ5_checkIndex 2 [.int (iI i), .int (iI n)] sh nn V (.int (iI i)) := by
  refine TC.intro [some (.int (iI i)), some (.int (iI n))] rfl ?_
  refine TGo.il0 dJ5_checkIndex_0 rfl ?_
  refine TGo.il1 dJ5_checkIndex_1 rfl ?_
  refine TGo.null dJ5_checkIndex_2 ?_
  refine TGo.cF (csS3 (y2 := mJ6_checkIndex) 1 rfl dJ5_checkIndex_3 q767 q768 okJ6_checkIndex npJ6_checkIndex rfl rfl) (kJ6_checkIndex h hn) ?_
  refine TGo.iret dJ5_checkIndex_6 rfl ?_
  exact ⟨rfl, rfl, rfl, rfl⟩
set_option maxHeartbeats 4000000 in
theorem kJ2_elementData {E : ET} {sh : SHT} {nn : Nat × Nat} {V : VT} {L A c n : Nat} {g : Nat → Nat} {k : Nat} (hL : LiR sh V L A c n g) (hk : k < n) : TF E mJ2_elementData 1 [.ref L, .int (iI (k : Int))] sh nn V (.ref (g k)) := by
  have hLx := hL
  obtain ⟨k1, k2, k3, k4, k5, k6, k7⟩ := hL
  have hb := blt31 (c := c) (by omega)
  refine TC.intro [some (.ref L), some (.int (iI (k : Int)))] rfl ?_
  refine TGo.al0 dJ2_elementData_0 rfl ?_
  refine TGo.getQ (t := 20) 1 1 A k1 rfl fgJ2_9_12 dJ2_elementData_1 rfl ⟨rfl, k3⟩ rfl ?_
  refine TGo.il1 dJ2_elementData_4 rfl ?_
  refine TGo.aaldOq (g k) dJ2_elementData_5 k4 (by omega) hb (k6 k hk) ?_
  refine TGo.aret dJ2_elementData_6 rfl ?_
  exact ⟨rfl, rfl, rfl, rfl⟩
set_option maxHeartbeats 4000000 in
theorem kJ2_get {E : ET} {sh : SHT} {nn : Nat × Nat} {V : VT} {L A c n : Nat} {g : Nat → Nat} {k : Nat} (hL : LiR sh V L A c n g) (hk : k < n) : TF E mJ2_get 3 [.ref L, .int (iI (k : Int))] sh nn V (.ref (g k)) := by
  have hLx := hL
  obtain ⟨k1, k2, k3, k4, k5, k6, k7⟩ := hL
  have hb := blt31 (c := c) (by omega)
  refine TC.intro [some (.ref L), some (.int (iI (k : Int)))] rfl ?_
  refine TGo.il1 dJ2_get_0 rfl ?_
  refine TGo.al0 dJ2_get_1 rfl ?_
  refine TGo.getI (t := 20) 2 2 k1 rfl fgJ2_48_12 dJ2_get_2 rfl rfl rfl ?_
  refine TGo.toz (n : Int) k2 ?_
  refine TGo.cF (csS2 (y2 := mJ5_checkIndex) 2 rfl dJ2_get_5 q764 q765 okJ5_checkIndex npJ5_checkIndex rfl rfl) (kJ5_checkIndex (by omega) (by omega)) ?_
  refine TGo.pop dJ2_get_8 rfl ?_
  refine TGo.al0 dJ2_get_9 rfl ?_
  refine TGo.il1 dJ2_get_10 rfl ?_
  refine TGo.cF (csV1 (y2 := mJ2_elementData) (t := 20) 1 rfl k1 rfl rfl dJ2_get_11 q770 q771 q772 okJ2_elementData npJ2_elementData rfl rfl) (kJ2_elementData hLx hk) ?_
  refine TGo.aret dJ2_get_14 rfl ?_
  exact ⟨rfl, rfl, rfl, rfl⟩
set_option maxHeartbeats 4000000 in
theorem kJ7_newLength {E : ET} {sh : SHT} {nn : Nat × Nat} {V : VT} {a b x : Int} (ha : 0 ≤ a ∧ a ≤ 2000) (hb : 0 < b ∧ b ≤ 2000) (hx : 0 ≤ x ∧ x ≤ 2000) : TF E mJ7_newLength 2 [.int (iI a), .int (iI b), .int (iI x)] sh nn V (.int (iI (a + max b x))) := by
  refine TC.intro [some (.int (iI a)), some (.int (iI b)), some (.int (iI x)), none] rfl ?_
  refine TGo.il0 dJ7_newLength_0 rfl ?_
  refine TGo.il1 dJ7_newLength_1 rfl ?_
  refine TGo.il2 dJ7_newLength_2 rfl ?_
  refine TGo.mmax dJ7_newLength_3 q686 (by omega) rfl (by omega) ?_
  refine TGo.iadd dJ7_newLength_6 ?_
  refine TGo.is3 dJ7_newLength_7 rfl rfl ?_
  refine TGo.ic0 dJ7_newLength_8 ?_
  refine TGo.il3 dJ7_newLength_9 rfl ?_
  refine TGo.icmp_ge 21 dJ7_newLength_10 (by decide) (by omega) (fun h10 => ?_) (fun h10 => ?_)
  · exact absurd hb.1 (by omega)
  · refine TGo.il3 dJ7_newLength_13 rfl ?_
    refine TGo.ldc 2147483639 dJ7_newLength_14 q689 (by decide) ?_
    refine TGo.icmp_gt 21 dJ7_newLength_16 (by decide) (by omega) (fun h16 => ?_) (fun h16 => ?_)
    · exact absurd hb.2 (by omega)
    · refine TGo.il3 dJ7_newLength_19 rfl ?_
      refine TGo.iret dJ7_newLength_20 rfl ?_
      refine leafF ?_
      omega
set_option maxHeartbeats 4000000 in
theorem kJ9_copyOf_2 {E : ET} {sh : SHT} {nn : Nat × Nat} {V : VT} {A c m : Nat} (hA : sh A = (5, c)) (hc : c ≤ 2000) (hm : m ≤ 4000) (hel : ∀ i : Int, 0 ≤ i → i < (min c m : Nat) → ∀ y, V.2.2 A i = some y → objO (sh y).1 = true) : TC E mJ9_copyOf_2 2 [.ref A, .int (iI (m : Int)), .ref (eS E 2)] sh nn V (fun o sh' nn' V' => o = .inl (some (.ref nn.1)) ∧ sh' = va_up sh nn.1 (5, m) ∧ nn' = (nn.1 + 1, nn.2 + m) ∧ V' = cpQ V A nn.1 0 0 ((min c m : Nat) : Int)) := by
  refine TGo.known (fun kn => ?_)
  have hAn : A < nn.1 := kn A (by rw [hA]; show (5 : Nat) ≠ 0; decide)
  refine TC.intro [some (.ref A), some (.int (iI (m : Int))), some (.ref (eS E 2)), none] rfl ?_
  refine TGo.al2 dJ9_copyOf_2_0 rfl ?_
  refine TGo.ldcM dJ9_copyOf_2_1 q671 ?_
  refine TGo.acmp_ne (rx := some _) (ry := some _) 13 dJ9_copyOf_2_3 (by decide) (fun h3 => ?_) (fun h3 => ?_)
  · exact absurd rfl h3
  · refine TGo.il1 dJ9_copyOf_2_6 rfl ?_
    refine TGo.anewO m dJ9_copyOf_2_7 q672 (by omega) (by omega) (fun z7 e7 => ?_)
    have hA2 : va_up sh nn.1 (5, m) A = (5, c) := (va_up_ne sh _ (by omega)).trans hA
    have hN2 : va_up sh nn.1 (5, m) nn.1 = (5, m) := va_up_self sh _ _
    have hob : ∀ y, (sh y).1 ≠ 0 → va_up sh nn.1 (5, m) y = sh y := fun y hy => va_up_ne sh _ (by have := kn y hy; omega)
    refine TGo.goto 24 dJ9_copyOf_2_10 (by decide) ?_
    refine TGo.as3 dJ9_copyOf_2_24 rfl rfl ?_
    refine TGo.al0 dJ9_copyOf_2_25 rfl ?_
    refine TGo.ic0 dJ9_copyOf_2_26 ?_
    refine TGo.al3 dJ9_copyOf_2_27 rfl ?_
    refine TGo.ic0 dJ9_copyOf_2_28 ?_
    refine TGo.al0 dJ9_copyOf_2_29 rfl ?_
    refine TGo.alen5 dJ9_copyOf_2_30 hA2 ?_
    refine TGo.il1 dJ9_copyOf_2_31 rfl ?_
    refine TGo.mmin dJ9_copyOf_2_32 q673 (by omega) rfl (by omega) ?_
    refine TGo.toz ((min c m : Nat) : Int) (by omega) ?_
    refine TGo.copyO dJ9_copyOf_2_35 q676 hA2 hN2 (by omega) (by omega) (by omega) (fun i i0 i1 y hy => by rw [Int.zero_add] at hy; have q := hel i i0 (by omega) y hy; rw [hob y (fun e => by rw [e] at q; exact absurd q (by decide))]; exact q) rfl (by omega) ?_
    refine TGo.al3 dJ9_copyOf_2_38 rfl ?_
    refine TGo.aretA dJ9_copyOf_2_39 rfl ?_
    exact ⟨rfl, rfl, rfl, rfl⟩
set_option maxHeartbeats 4000000 in
theorem kJ9_copyOf {E : ET} {sh : SHT} {nn : Nat × Nat} {V : VT} {A c m : Nat} (hA : sh A = (5, c)) (hc : c ≤ 2000) (hm : m ≤ 4000) (hel : ∀ i : Int, 0 ≤ i → i < (min c m : Nat) → ∀ y, V.2.2 A i = some y → objO (sh y).1 = true) : TC E mJ9_copyOf 3 [.ref A, .int (iI (m : Int))] sh nn V (fun o sh' nn' V' => o = .inl (some (.ref nn.1)) ∧ sh' = va_up sh nn.1 (5, m) ∧ nn' = (nn.1 + 1, nn.2 + m) ∧ V' = cpQ V A nn.1 0 0 ((min c m : Nat) : Int)) := by
  refine TC.intro [some (.ref A), some (.int (iI (m : Int)))] rfl ?_
  refine TGo.al0 dJ9_copyOf_0 rfl ?_
  refine TGo.il1 dJ9_copyOf_1 rfl ?_
  refine TGo.al0 dJ9_copyOf_2 rfl ?_
  refine TGo.getC dJ9_copyOf_3 q638 hA rfl (by omega) ?_
  refine TGo.callG (csS3 (y2 := mJ9_copyOf_2) 2 rfl dJ9_copyOf_6 q668 q669 okJ9_copyOf_2 npJ9_copyOf_2 rfl rfl) (kJ9_copyOf_2 hA hc hm hel) (fun o6 sh6 nn6 V6 e6 h6 => ?_)
  obtain ⟨rfl, rfl, rfl, rfl⟩ := h6
  show TGo _ _ _ _ _ _ _ _ _ _
  refine TGo.aretA dJ9_copyOf_9 rfl ?_
  exact ⟨rfl, rfl, rfl, rfl⟩
theorem TGo.aastOx {E : ET} {y : MI} {d pc : Nat} {ls : LV} {st : List Value} {sh : SHT} {nn : Nat × Nat} {V : VT} {Q : AO → SHT → Nat × Nat → VT → Prop} {a n v t : Nat} {i : Int} (hd : decode y.2.1 pc = .ok (.aastore, 1)) (hs : sh a = (5, n)) (hi : 0 ≤ i ∧ i < (n : Int)) (hn : Nat.blt n 2147483648 = true) (hv : sh v = (t, 0)) (ho : objO t = true) (kk : TGo E y d (pc + 1) ls st sh nn (vR V a i (some v)) Q) : TGo E y d pc ls (.ref v :: .int (iI i) :: .ref a :: st) sh nn V Q := by
  obtain ⟨r, r1, r2, r3⟩ := objO_c ho
  obtain ⟨k, rfl⟩ := objO_8 ho
  exact TGo.aastO hd hs hi hn hv (Nat.ble_eq_true_of_le (by omega)) r1 r2 kk
def gwN (c m : Nat) : Nat := c + max (m - c) (c / 2)
set_option maxHeartbeats 4000000 in
theorem kJ2_grow {E : ET} {sh : SHT} {nn : Nat × Nat} {V : VT} {L A c n : Nat} {g : Nat → Nat} {m : Nat} (hL : LiR sh V L A c n g) (hm : c < m ∧ m ≤ 2000 ∧ c ≤ 1000) : TC E mJ2_grow 4 [.ref L, .int (iI (m : Int))] sh nn V (fun o sh' nn' V' => o = .inl (some (.ref nn.1)) ∧ sh' = va_up sh nn.1 (5, gwN c m) ∧ nn' = (nn.1 + 1, nn.2 + gwN c m) ∧ V' = vR (cpQ V A nn.1 0 0 (c : Int)) L 1 (some nn.1)) := by
  have hLx := hL
  obtain ⟨k1, k2, k3, k4, k5, k6, k7⟩ := hL
  have hb := blt31 (c := c) (by omega)
  refine TGo.known (fun kn => ?_)
  have hLn : L < nn.1 := kn L (by rw [k1]; show (20 : Nat) ≠ 0; decide)
  refine TC.intro [some (.ref L), some (.int (iI (m : Int))), none, none] rfl ?_
  refine TGo.al0 dJ2_grow_0 rfl ?_
  refine TGo.getQ (t := 20) 1 1 A k1 rfl fgJ2_9_12 dJ2_grow_1 rfl ⟨rfl, k3⟩ rfl ?_
  refine TGo.alen5 dJ2_grow_4 k4 ?_
  refine TGo.is2 dJ2_grow_5 rfl rfl ?_
  refine TGo.il2 dJ2_grow_6 rfl ?_
  refine TGo.if_gt 20 dJ2_grow_7 (by decide) (by omega) (fun h7 => ?_) (fun h7 => ?_)
  · refine TGo.il2 dJ2_grow_20 rfl ?_
    refine TGo.il1 dJ2_grow_21 rfl ?_
    refine TGo.il2 dJ2_grow_22 rfl ?_
    refine TGo.isub dJ2_grow_23 ?_
    refine TGo.il2 dJ2_grow_24 rfl ?_
    refine TGo.ic1 dJ2_grow_25 ?_
    refine TGo.ishr dJ2_grow_26 ?_
    refine TGo.seq _ (.int (iI ((c / 2 : Nat) : Int)) :: .int (iI ((m : Int) - (c : Int))) :: .int (iI (c : Int)) :: []) _ rfl (by rw [shr1 (by omega)]) rfl ?_
    refine TGo.cF (csS3 (y2 := mJ7_newLength) 2 rfl dJ2_grow_27 q683 q684 okJ7_newLength npJ7_newLength rfl rfl) (kJ7_newLength (by omega) (by omega) (by omega)) ?_
    refine TGo.toz ((gwN c m : Nat) : Int) (by unfold gwN; omega) ?_
    refine TGo.is3 dJ2_grow_30 rfl rfl ?_
    refine TGo.al0 dJ2_grow_31 rfl ?_
    refine TGo.al0 dJ2_grow_32 rfl ?_
    refine TGo.getQ (t := 20) 1 1 A k1 rfl fgJ2_9_12 dJ2_grow_33 rfl ⟨rfl, k3⟩ rfl ?_
    refine TGo.il3 dJ2_grow_36 rfl ?_
    refine TGo.callG (csS2 (y2 := mJ9_copyOf) 3 rfl dJ2_grow_37 q635 q636 okJ9_copyOf npJ9_copyOf rfl rfl) (kJ9_copyOf k4 (by omega) (by unfold gwN; omega) (fun i i0 i1 y hy => k7 i i0 (by omega) y hy)) (fun o37 sh37 nn37 V37 e37 h37 => ?_)
    obtain ⟨rfl, rfl, rfl, rfl⟩ := h37
    have h1g : va_up sh nn.1 (5, gwN c m) L = (20, 0) := (va_up_ne sh _ (by omega)).trans k1
    show TGo _ _ _ _ _ _ _ _ _ _
    refine TGo.dup_x1 dJ2_grow_40 rfl rfl ?_
    refine TGo.putQ (t := 20) 1 1 h1g rfl fpJ2_9_12 dJ2_grow_41 rfl ⟨rfl, fun _ => ⟨rfl, rfl⟩, rfl, rfl⟩ rfl ?_
    refine TGo.aretA dJ2_grow_44 rfl ?_
    refine ⟨rfl, rfl, rfl, ?_⟩
    rw [show min c (gwN c m) = c by unfold gwN; omega]
  · exact absurd h7 (by omega)
theorem TGo.fresh {E : ET} {y : MI} {d pc : Nat} {ls : LV} {st : List Value} {sh : SHT} {nn : Nat × Nat} {V : VT} {Q : AO → SHT → Nat × Nat → VT → Prop} (k : (∀ a, (sh a).1 ≠ 0 → a < nn.1) → (∀ i, V.2.2 nn.1 i = none) → TGo E y d pc ls st sh nn V Q) : TGo E y d pc ls st sh nn V Q := fun σ hσ => k (fun _ h0 => hσ.lt h0) (hσ.2.2 nn.1 (Nat.le_refl _)).2.2.2 σ hσ
theorem objO_0 {t : Nat} (h : objO t = true) : t ≠ 0 := by
  obtain ⟨r, r1, r2, r3⟩ := objO_c h
  exact r3
theorem LiR.ne {sh : SHT} {V : VT} {L A c n : Nat} {g : Nat → Nat} (h : LiR sh V L A c n g) : A ≠ L := fun e => by
  have a := h.2.2.2.1
  rw [e, h.1] at a
  exact absurd (congrArg Prod.fst a) (by show ¬ (20 : Nat) = 5; decide)
theorem LiR.addp {sh : SHT} {V : VT} {L A c n x t : Nat} {g : Nat → Nat} (h : LiR sh V L A c n g) (hn : n < c) (hx : sh x = (t, 0)) (ho : objO t = true) : LiR sh (vI (vR V A (n : Int) (some x)) L 2 ((n : Int) + 1)) L A c (n + 1) (fun i => if i = n then x else g i) := by
  have hne := h.ne
  obtain ⟨k1, k2, k3, k4, k5, k6, k7⟩ := h
  refine ⟨k1, u2_s, ?_, k4, ⟨k5.1, hn, k5.2.2⟩, fun i hi => ?_, fun i i0 i1 y hy => ?_⟩
  · show u2 V.2.2 A (n : Int) (some x) L 1 = some A
    rw [u2_n (Or.inl (fun e => hne e.symm))]; exact k3
  · show u2 V.2.2 A (n : Int) (some x) A (i : Int) = some (if i = n then x else g i)
    by_cases e : i = n
    · subst e; rw [u2_s, if_pos rfl]
    · rw [u2_n (Or.inr (by omega)), if_neg e]; exact k6 i (by omega)
  · have hy : u2 V.2.2 A (n : Int) (some x) A i = some y := hy
    by_cases e : i = (n : Int)
    · subst e
      rw [u2_s] at hy
      have e2 : x = y := Option.some.inj hy
      rw [← e2, hx]; exact ho
    · rw [u2_n (Or.inr e)] at hy
      exact k7 i i0 i1 y hy
theorem LiR.grow {sh : SHT} {V : VT} {L A c m N : Nat} {g : Nat → Nat} {n : Nat} (h : LiR sh V L A c n g) (hm : c ≤ m ∧ m ≤ 2000) (hN : ∀ a, (sh a).1 ≠ 0 → a < N) (hz : ∀ i, V.2.2 N i = none) : LiR (va_up sh N (5, m)) (vR (cpQ V A N 0 0 (c : Int)) L 1 (some N)) L N m n g := by
  have hne := h.ne
  obtain ⟨k1, k2, k3, k4, k5, k6, k7⟩ := h
  have hL : L < N := hN L (by rw [k1]; show (20 : Nat) ≠ 0; decide)
  have hA : A < N := hN A (by rw [k4]; show (5 : Nat) ≠ 0; decide)
  have hv : ∀ i : Int, (vR (cpQ V A N 0 0 (c : Int)) L 1 (some N)).2.2 N i = if 0 ≤ i ∧ i < 0 + (c : Int) then V.2.2 A (0 + (i - 0)) else V.2.2 N i := fun i => by
    show u2 (cpQ V A N 0 0 (c : Int)).2.2 L 1 (some N) N i = _
    rw [u2_n (Or.inl (by omega))]
    show u1 V.2.2 N _ N i = _
    rw [u1_s]
  refine ⟨(va_up_ne sh _ (by omega)).trans k1, k2, u2_s, va_up_self sh _ _, ⟨by omega, by omega, hm.2⟩, fun i hi => ?_, fun i i0 i1 y hy => ?_⟩
  · rw [hv, if_pos (by omega), show (0 : Int) + ((i : Int) - 0) = (i : Int) by omega]
    exact k6 i hi
  · rw [hv] at hy
    by_cases e : 0 ≤ i ∧ i < 0 + (c : Int)
    · rw [if_pos e, show (0 : Int) + (i - 0) = i by omega] at hy
      have q := k7 i i0 (by omega) y hy
      have hy2 : y < N := hN y (fun e => by rw [e] at q; exact absurd q (by decide))
      rw [va_up_ne sh _ (by omega)]; exact q
    · rw [if_neg e, hz] at hy; cases hy
/-- cells but two are as they were -/
def FrV (X : List Nat) (V V' : VT) : Prop := ∀ a, a ∉ X → V'.1 a = V.1 a ∧ V'.2.1 a = V.2.1 a ∧ V'.2.2 a = V.2.2 a
/-- x is put at a list's end -/
def AdX (sh : SHT) (nn : Nat × Nat) (V : VT) (L A c n : Nat) (g : Nat → Nat) (x : Nat) (sh' : SHT) (nn' : Nat × Nat) (V' : VT) : Prop := ∃ A' c', LiR sh' V' L A' c' (n + 1) (fun i => if i = n then x else g i) ∧ ((A' = A ∧ c' = c ∧ sh' = sh ∧ nn' = nn) ∨ (A' = nn.1 ∧ sh' = va_up sh nn.1 (5, c') ∧ nn' = (nn.1 + 1, nn.2 + c') ∧ c' ≤ 2000)) ∧ FrV [L, A'] V V' ∧ ∀ i : Int, 0 ≤ i → i < (c' : Int) → ∀ y, V'.2.2 A' i = some y → y = x ∨ ∃ j : Int, (0 ≤ j ∧ j < (c : Int)) ∧ V.2.2 A j = some y
set_option maxHeartbeats 4000000 in
theorem kJ2_grow_2 {E : ET} {sh : SHT} {nn : Nat × Nat} {V : VT} {L A c n : Nat} {g : Nat → Nat} (hL : LiR sh V L A c n g) (hm : n = c ∧ c ≤ 1000) : TC E mJ2_grow_2 5 [.ref L] sh nn V (fun o sh' nn' V' => o = .inl (some (.ref nn.1)) ∧ sh' = va_up sh nn.1 (5, gwN c (n + 1)) ∧ nn' = (nn.1 + 1, nn.2 + gwN c (n + 1)) ∧ V' = vR (cpQ V A nn.1 0 0 (c : Int)) L 1 (some nn.1)) := by
  have hLx := hL
  obtain ⟨k1, k2, k3, k4, k5, k6, k7⟩ := hL
  have hb := blt31 (c := c) (by omega)
  refine TC.intro [some (.ref L)] rfl ?_
  refine TGo.al0 dJ2_grow_2_0 rfl ?_
  refine TGo.al0 dJ2_grow_2_1 rfl ?_
  refine TGo.getI (t := 20) 2 2 k1 rfl fgJ2_48_12 dJ2_grow_2_2 rfl rfl rfl ?_
  refine TGo.toz (n : Int) k2 ?_
  refine TGo.ic1 dJ2_grow_2_5 ?_
  refine TGo.iadd dJ2_grow_2_6 ?_
  refine TGo.toz ((n + 1 : Nat) : Int) rfl ?_
  refine TGo.callG (csV1 (y2 := mJ2_grow) (t := 20) 4 rfl k1 rfl rfl dJ2_grow_2_7 q677 q679 qs2 okJ2_grow npJ2_grow rfl rfl) (kJ2_grow (m := n + 1) hLx (by omega)) (fun o7 sh7 nn7 V7 e7 h7 => ?_)
  obtain ⟨rfl, rfl, rfl, rfl⟩ := h7
  show TGo _ _ _ _ _ _ _ _ _ _
  refine TGo.aretA dJ2_grow_2_10 rfl ?_
  exact ⟨rfl, rfl, rfl, rfl⟩
set_option maxHeartbeats 4000000 in
theorem kJ2_add_2 {E : ET} {sh : SHT} {nn : Nat × Nat} {V : VT} {L A c n : Nat} {g : Nat → Nat} {x t : Nat} (hL : LiR sh V L A c n g) (hx : sh x = (t, 0)) (ho : objO t = true) (hn : n ≤ 1000) : TC E mJ2_add_2 6 [.ref L, .ref x, .ref A, .int (iI (n : Int))] sh nn V (fun o sh' nn' V' => o = .inl none ∧ AdX sh nn V L A c n g x sh' nn' V') := by
  have hLx := hL
  obtain ⟨k1, k2, k3, k4, k5, k6, k7⟩ := hL
  have hb := blt31 (c := c) (by omega)
  refine TGo.fresh (fun kn kz => ?_)
  refine TC.intro [some (.ref L), some (.ref x), some (.ref A), some (.int (iI (n : Int)))] rfl ?_
  refine TGo.il3 dJ2_add_2_0 rfl ?_
  refine TGo.al2 dJ2_add_2_1 rfl ?_
  refine TGo.alen5 dJ2_add_2_2 k4 ?_
  refine TGo.icmp_ne 11 dJ2_add_2_3 (by decide) (by omega) (fun h3 => ?_) (fun h3 => ?_)
  · refine TGo.al2 dJ2_add_2_11 rfl ?_
    refine TGo.il3 dJ2_add_2_12 rfl ?_
    refine TGo.al1 dJ2_add_2_13 rfl ?_
    refine TGo.aastOx dJ2_add_2_14 k4 (by omega) (by first | exact hb | exact hbg) hx ho ?_
    refine TGo.al0 dJ2_add_2_15 rfl ?_
    refine TGo.il3 dJ2_add_2_16 rfl ?_
    refine TGo.ic1 dJ2_add_2_17 ?_
    refine TGo.iadd dJ2_add_2_18 ?_
    refine TGo.putI (t := 20) 2 2 k1 rfl fpJ2_48_12 dJ2_add_2_19 rfl rfl rfl ?_
    refine TGo.vret dJ2_add_2_22 rfl ?_
    refine ⟨rfl, A, c, hLx.addp (by omega) hx ho, Or.inl ⟨rfl, rfl, rfl, rfl⟩, fun a ha => ?_, fun i i0 i1 y hy => ?_⟩
    · have ha : a ≠ L ∧ a ≠ A := by simpa using ha
      exact ⟨u2_a ha.1, rfl, u2_a ha.2⟩
    · have hy : u2 V.2.2 A (n : Int) (some x) A i = some y := hy
      by_cases e : i = (n : Int)
      · subst e; rw [u2_s] at hy; exact Or.inl (Option.some.inj hy).symm
      · rw [u2_n (Or.inr e)] at hy; exact Or.inr ⟨i, ⟨i0, i1⟩, hy⟩
  · refine TGo.al0 dJ2_add_2_6 rfl ?_
    refine TGo.callG (csV0 (y2 := mJ2_grow_2) (t := 20) 5 rfl k1 rfl rfl dJ2_add_2_7 q807 q809 qs6 okJ2_grow_2 npJ2_grow_2 rfl rfl) (kJ2_grow_2 hLx (by omega)) (fun o7 sh7 nn7 V7 e7 h7 => ?_)
    obtain ⟨rfl, rfl, rfl, rfl⟩ := h7
    have hnc : n = c := by omega
    have hG := LiR.grow (m := gwN c (n + 1)) hLx (by unfold gwN; omega) kn kz
    obtain ⟨k1g, -, -, kNg, -⟩ := id hG
    have hxn : x < nn.1 := kn x (by rw [hx]; exact objO_0 ho)
    have hxg : va_up sh nn.1 (5, gwN c (n + 1)) x = (t, 0) := (va_up_ne sh _ (by omega)).trans hx
    have hgn : n < gwN c (n + 1) ∧ gwN c (n + 1) ≤ 2000 := by unfold gwN; omega
    have hbg := blt31 (c := gwN c (n + 1)) (by unfold gwN; omega)
    show TGo _ _ _ _ _ _ _ _ _ _
    refine TGo.as2 dJ2_add_2_10 rfl rfl ?_
    refine TGo.al2 dJ2_add_2_11 rfl ?_
    refine TGo.il3 dJ2_add_2_12 rfl ?_
    refine TGo.al1 dJ2_add_2_13 rfl ?_
    refine TGo.aastOx dJ2_add_2_14 kNg (by omega) (by first | exact hb | exact hbg) hxg ho ?_
    refine TGo.al0 dJ2_add_2_15 rfl ?_
    refine TGo.il3 dJ2_add_2_16 rfl ?_
    refine TGo.ic1 dJ2_add_2_17 ?_
    refine TGo.iadd dJ2_add_2_18 ?_
    refine TGo.putI (t := 20) 2 2 k1g rfl fpJ2_48_12 dJ2_add_2_19 rfl rfl rfl ?_
    refine TGo.vret dJ2_add_2_22 rfl ?_
    refine ⟨rfl, nn.1, gwN c (n + 1), hG.addp (by unfold gwN; omega) hxg ho, Or.inr ⟨rfl, rfl, rfl, by unfold gwN; omega⟩, fun a ha => ?_, fun i i0 i1 y hy => ?_⟩
    · have ha : a ≠ L ∧ a ≠ nn.1 := by simpa using ha
      refine ⟨u2_a ha.1, rfl, ?_⟩
      exact (u2_a ha.2).trans ((u2_a ha.1).trans (u1_n ha.2))
    · have hy : u2 (u2 (u1 V.2.2 nn.1 (fun i => if 0 ≤ i ∧ i < 0 + (c : Int) then V.2.2 A (0 + (i - 0)) else V.2.2 nn.1 i)) L 1 (some nn.1)) nn.1 (n : Int) (some x) nn.1 i = some y := hy
      have hLn : L < nn.1 := kn L (by rw [k1]; show (20 : Nat) ≠ 0; decide)
      by_cases e : i = (n : Int)
      · subst e; rw [u2_s] at hy; exact Or.inl (Option.some.inj hy).symm
      · rw [u2_n (Or.inr e), u2_n (Or.inl (by omega)), u1_s] at hy
        by_cases e2 : 0 ≤ i ∧ i < 0 + (c : Int)
        · rw [if_pos e2] at hy; exact Or.inr ⟨_, by omega, hy⟩
        · rw [if_neg e2, kz] at hy; cases hy
theorem LiR.m {sh : SHT} {V : VT} {L A c n : Nat} {g : Nat → Nat} {v : Int} (h : LiR sh V L A c n g) : LiR sh (vI V L 0 v) L A c n g := ⟨h.1, (u2_n (Or.inr (by decide))).trans h.2.1, h.2.2.1, h.2.2.2.1, h.2.2.2.2.1, h.2.2.2.2.2⟩
theorem FrV.tr {X : List Nat} {A B C : VT} (h : FrV X A B) (h2 : FrV X B C) : FrV X A C := fun a ha => ⟨(h2 a ha).1.trans (h a ha).1, (h2 a ha).2.1.trans (h a ha).2.1, (h2 a ha).2.2.trans (h a ha).2.2⟩
theorem FrV.i {X : List Nat} {A B : VT} {a : Nat} {i v : Int} (h : FrV X A B) (hx : a ∈ X) : FrV X A (vI B a i v) := fun b hb => have hne : b ≠ a := fun e => hb (by rw [e]; exact hx)
  ⟨(u2_a hne).trans (h b hb).1, (h b hb).2.1, (h b hb).2.2⟩
theorem FrV.r {X : List Nat} {A B : VT} {a : Nat} {i : Int} {v : Option Nat} (h : FrV X A B) (hx : a ∈ X) : FrV X A (vR B a i v) := fun b hb => have hne : b ≠ a := fun e => hb (by rw [e]; exact hx)
  ⟨(h b hb).1, (h b hb).2.1, (u2_a hne).trans (h b hb).2.2⟩
theorem FrV.rf {X : List Nat} {A : VT} : FrV X A A := fun _ _ => ⟨rfl, rfl, rfl⟩
set_option maxHeartbeats 4000000 in
theorem kJ2_add {E : ET} {sh : SHT} {nn : Nat × Nat} {V : VT} {L A c n : Nat} {g : Nat → Nat} {x t : Nat} (hL : LiR sh V L A c n g) (hx : sh x = (t, 0)) (ho : objO t = true) (hn : n ≤ 1000) : TC E mJ2_add 7 [.ref L, .ref x] sh nn V (fun o sh' nn' V' => o = .inl (some (.int (iI 1))) ∧ AdX sh nn V L A c n g x sh' nn' V') := by
  have hLx := hL
  obtain ⟨k1, k2, k3, k4, k5, k6, k7⟩ := hL
  have hb := blt31 (c := c) (by omega)
  refine TC.intro [some (.ref L), some (.ref x)] rfl ?_
  refine TGo.al0 dJ2_add_0 rfl ?_
  refine TGo.dup dJ2_add_1 rfl ?_
  refine TGo.getI (t := 20) 0 0 k1 rfl fgJ2_63_12 dJ2_add_2 rfl rfl rfl ?_
  refine TGo.ic1 dJ2_add_5 ?_
  refine TGo.iadd dJ2_add_6 ?_
  refine TGo.putI (t := 20) 0 0 k1 rfl fpJ2_63_12 dJ2_add_7 rfl rfl rfl ?_
  refine TGo.al0 dJ2_add_10 rfl ?_
  refine TGo.al1 dJ2_add_11 rfl ?_
  refine TGo.al0 dJ2_add_12 rfl ?_
  refine TGo.getQ (t := 20) 1 1 A k1 rfl fgJ2_9_12 dJ2_add_13 rfl ⟨rfl, k3⟩ rfl ?_
  refine TGo.al0 dJ2_add_16 rfl ?_
  refine TGo.getI (t := 20) 2 2 k1 rfl fgJ2_48_12 dJ2_add_17 rfl rfl rfl ?_
  refine TGo.toz _ (u2_n (Or.inr (by decide))) ?_
  refine TGo.toz (n : Int) k2 ?_
  refine TGo.callG (csV3 (y2 := mJ2_add_2) (t := 20) 6 rfl k1 rfl rfl dJ2_add_20 q803 q805 qs5 okJ2_add_2 npJ2_add_2 rfl rfl) (kJ2_add_2 (hLx.m) hx ho hn) (fun o20 sh20 nn20 V20 e20 h20 => ?_)
  obtain ⟨rfl, A1, c1, q1, q2, q3, q4⟩ := h20
  show TGo _ _ _ _ _ _ _ _ _ _
  refine TGo.ic1 dJ2_add_23 ?_
  refine TGo.zret dJ2_add_24 rfl (by first | exact Or.inl rfl | exact Or.inr rfl | exact bZ_or _ | assumption) ?_
  exact ⟨rfl, A1, c1, q1, q2, (FrV.rf.i (by simp)).tr q3, q4⟩
theorem LiR.setp {sh : SHT} {V : VT} {L A c n x t k : Nat} {g : Nat → Nat} (h : LiR sh V L A c n g) (hk : k < n) (hx : sh x = (t, 0)) (ho : objO t = true) : LiR sh (vR V A (k : Int) (some x)) L A c n (fun i => if i = k then x else g i) := by
  have hne := h.ne
  obtain ⟨k1, k2, k3, k4, k5, k6, k7⟩ := h
  refine ⟨k1, k2, ?_, k4, k5, fun i hi => ?_, fun i i0 i1 y hy => ?_⟩
  · show u2 V.2.2 A (k : Int) (some x) L 1 = some A
    rw [u2_n (Or.inl (fun e => hne e.symm))]; exact k3
  · show u2 V.2.2 A (k : Int) (some x) A (i : Int) = some (if i = k then x else g i)
    by_cases e : i = k
    · subst e; rw [u2_s, if_pos rfl]
    · rw [u2_n (Or.inr (by omega)), if_neg e]; exact k6 i hi
  · have hy : u2 V.2.2 A (k : Int) (some x) A i = some y := hy
    by_cases e : i = (k : Int)
    · subst e
      rw [u2_s] at hy
      have e2 : x = y := Option.some.inj hy
      rw [← e2, hx]; exact ho
    · rw [u2_n (Or.inr e)] at hy
      exact k7 i i0 i1 y hy
set_option maxHeartbeats 4000000 in
theorem kJ2_set {E : ET} {sh : SHT} {nn : Nat × Nat} {V : VT} {L A c n : Nat} {g : Nat → Nat} {x t k : Nat} (hL : LiR sh V L A c n g) (hk : k < n) (hx : sh x = (t, 0)) (ho : objO t = true) : TW E mJ2_set 3 [.ref L, .int (iI (k : Int)), .ref x] sh nn V (some (.ref (g k))) (vR V A (k : Int) (some x)) := by
  have hLx := hL
  obtain ⟨k1, k2, k3, k4, k5, k6, k7⟩ := hL
  have hb := blt31 (c := c) (by omega)
  refine TC.intro [some (.ref L), some (.int (iI (k : Int))), some (.ref x), none] rfl ?_
  refine TGo.il1 dJ2_set_0 rfl ?_
  refine TGo.al0 dJ2_set_1 rfl ?_
  refine TGo.getI (t := 20) 2 2 k1 rfl fgJ2_48_12 dJ2_set_2 rfl rfl rfl ?_
  refine TGo.toz (n : Int) k2 ?_
  refine TGo.cF (csS2 (y2 := mJ5_checkIndex) 2 rfl dJ2_set_5 q764 q765 okJ5_checkIndex npJ5_checkIndex rfl rfl) (kJ5_checkIndex (by omega) (by omega)) ?_
  refine TGo.pop dJ2_set_8 rfl ?_
  refine TGo.al0 dJ2_set_9 rfl ?_
  refine TGo.il1 dJ2_set_10 rfl ?_
  refine TGo.cF (csV1 (y2 := mJ2_elementData) (t := 20) 1 rfl k1 rfl rfl dJ2_set_11 q770 q771 q772 okJ2_elementData npJ2_elementData rfl rfl) (kJ2_elementData hLx hk) ?_
  refine TGo.as3 dJ2_set_14 rfl rfl ?_
  refine TGo.al0 dJ2_set_15 rfl ?_
  refine TGo.getQ (t := 20) 1 1 A k1 rfl fgJ2_9_12 dJ2_set_16 rfl ⟨rfl, k3⟩ rfl ?_
  refine TGo.il1 dJ2_set_19 rfl ?_
  refine TGo.al2 dJ2_set_20 rfl ?_
  refine TGo.aastOx dJ2_set_21 k4 (by omega) hb hx ho ?_
  refine TGo.al3 dJ2_set_22 rfl ?_
  refine TGo.aret dJ2_set_23 rfl ?_
  exact ⟨rfl, rfl, rfl, rfl⟩
theorem csF0 {E : ET} {y : MI} {d pc : Nat} {ls : LV} {rest : List Value} {sh : SHT} {y2 : MI} {idx b count : Nat} (d2 : Nat) (hd2 : Nat.ble (d2 + 1) d = true) (hs : sh b = (20, 0)) (hy2 : y2.1 = yJ2_toArray) (hd : decode y.2.1 pc = .ok (.invokeinterface idx count, 5)) (hl : Cond.methodLink y.1.cls idx arrIx ∈ lw_all) (hi : Cond.instanceMethod y2.1 ∈ lw_all) (hsel : Cond.selects "java/util/ArrayList" arrIx y2.1 ∈ lw_all) (hm : MOK y2) (hn : nPar arrIx 0) (hW : Nat.ble ((rest.map fun v => v.category).sum) 8 = true) (hl9 : Nat.ble (lent (.ref b :: [])).length y2.2.2.1 = true) : CS E y d pc 5 ls (.ref b :: []) (.ref b :: rest) rest y2 d2 sh := fun nn V σ Q' hσ k => Go.callF (As := []) hy2 hd hl hi hsel hm (Nat.le_of_ble_eq_true hd2) hn rfl hW hl9 _ rfl ((hσ.at hs (by show (20 : Nat) ≠ 0; decide)).trans (tCell_o rfl)) k
/-- a list's cells while it is emptied -/
def ClJ (V0 V : VT) (L A j : Nat) : Prop := FrV [L, A] V0 V ∧ V.1 L 2 = 0 ∧ V.2.2 L 1 = some A ∧ (∀ i y, V.2.2 A i = some y → V0.2.2 A i = some y)
theorem ClJ.st {V0 V : VT} {L A j : Nat} (h : ClJ V0 V L A j) (hne : A ≠ L) : ClJ V0 (vR V A (j : Int) none) L A (j + 1) := ⟨h.1.r (by simp), h.2.1, (u2_n (Or.inl (fun e => hne e.symm))).trans h.2.2.1, fun i y hy => by
  have hy : u2 V.2.2 A (j : Int) none A i = some y := hy
  by_cases e : i = (j : Int)
  · subst e; rw [u2_s] at hy; cases hy
  · rw [u2_n (Or.inr e)] at hy; exact h.2.2.2 i y hy⟩
theorem LiR.nil {sh : SHT} {V0 V : VT} {L A c n j : Nat} {g g' : Nat → Nat} (h : LiR sh V0 L A c n g) (k : ClJ V0 V L A j) : LiR sh V L A c 0 g' := ⟨h.1, k.2.1, k.2.2.1, h.2.2.2.1, ⟨h.2.2.2.2.1.1, Nat.zero_le _, h.2.2.2.2.1.2.2⟩, fun i hi => absurd hi (Nat.not_lt_zero i), fun i i0 i1 y hy => h.2.2.2.2.2.2 i i0 i1 y (k.2.2.2 i y hy)⟩
set_option maxHeartbeats 4000000 in
theorem lJ2_clear {E : ET} {sh : SHT} {nn : Nat × Nat} {V0 : VT} {L A c n : Nat} {g : Nat → Nat} (hL : LiR sh V0 L A c n g) : ∀ (N j : Nat) (V : VT), n - j < N → j ≤ n → ClJ V0 V L A j → TGo E mJ2_clear 1 27 [some (.ref L), some (.ref A), some (.int (iI (n : Int))), some (.int (iI (j : Int)))] [] sh nn V (fun o sh' nn' V' => o = .inl none ∧ sh' = sh ∧ nn' = nn ∧ (∀ g', LiR sh V' L A c 0 g') ∧ FrV [L, A] V0 V') := by
  have hne := hL.ne
  obtain ⟨k1, k2, k3, k4, k5, k6, k7⟩ := id hL
  have hb := blt31 (c := c) (by omega)
  intro N
  induction N with
  | zero => intro j V h; omega
  | succ N ih =>
    intro j V hn hj hC
    refine TGo.il3 dJ2_clear_27 rfl ?_
    refine TGo.il2 dJ2_clear_28 rfl ?_
    refine TGo.icmp_ge 42 dJ2_clear_29 (by decide) (by omega) (fun h29 => ?_) (fun h29 => ?_)
    · refine TGo.vret dJ2_clear_42 rfl ?_
      exact ⟨rfl, rfl, rfl, fun g' => hL.nil hC, hC.1⟩
    · refine TGo.al1 dJ2_clear_32 rfl ?_
      refine TGo.il3 dJ2_clear_33 rfl ?_
      refine TGo.null dJ2_clear_34 ?_
      refine TGo.aastON dJ2_clear_35 k4 (by omega) hb ?_
      refine TGo.iinc dJ2_clear_36 rfl rfl rfl ?_
      refine TGo.goto 27 dJ2_clear_39 (by decide) ?_
      exact TGo.seq [some (.ref L), some (.ref A), some (.int (iI (n : Int))), some (.int (iI ((j + 1 : Nat) : Int)))] [] _ rfl rfl rfl (ih (j + 1) _ (by omega) (by omega) (hC.st hne))
set_option maxHeartbeats 4000000 in
theorem kJ2_clear {E : ET} {sh : SHT} {nn : Nat × Nat} {V : VT} {L A c n : Nat} {g : Nat → Nat} (hL : LiR sh V L A c n g) : TN E mJ2_clear 1 [.ref L] sh nn V (fun V' => (∀ g', LiR sh V' L A c 0 g') ∧ FrV [L, A] V V') := by
  have hLx := hL
  obtain ⟨k1, k2, k3, k4, k5, k6, k7⟩ := hL
  have hb := blt31 (c := c) (by omega)
  refine TC.intro [some (.ref L), none, none, none] rfl ?_
  refine TGo.al0 dJ2_clear_0 rfl ?_
  refine TGo.dup dJ2_clear_1 rfl ?_
  refine TGo.getI (t := 20) 0 0 k1 rfl fgJ2_63_12 dJ2_clear_2 rfl rfl rfl ?_
  refine TGo.ic1 dJ2_clear_5 ?_
  refine TGo.iadd dJ2_clear_6 ?_
  refine TGo.putI (t := 20) 0 0 k1 rfl fpJ2_63_12 dJ2_clear_7 rfl rfl rfl ?_
  refine TGo.al0 dJ2_clear_10 rfl ?_
  refine TGo.getQ (t := 20) 1 1 A k1 rfl fgJ2_9_12 dJ2_clear_11 rfl ⟨rfl, k3⟩ rfl ?_
  refine TGo.as1 dJ2_clear_14 rfl rfl ?_
  refine TGo.al0 dJ2_clear_15 rfl ?_
  refine TGo.getI (t := 20) 2 2 k1 rfl fgJ2_48_12 dJ2_clear_16 rfl rfl rfl ?_
  refine TGo.toz _ (u2_n (Or.inr (by decide))) ?_
  refine TGo.toz (n : Int) k2 ?_
  refine TGo.is2 dJ2_clear_19 rfl rfl ?_
  refine TGo.al0 dJ2_clear_20 rfl ?_
  refine TGo.ic0 dJ2_clear_21 ?_
  refine TGo.dup_x1 dJ2_clear_22 rfl rfl ?_
  refine TGo.putI (t := 20) 2 2 k1 rfl fpJ2_48_12 dJ2_clear_23 rfl rfl rfl ?_
  refine TGo.is3 dJ2_clear_26 rfl rfl ?_
  exact lJ2_clear (V0 := V) hLx (n + 1) 0 _ (by omega) (by omega) ⟨(FrV.rf.i (by simp)).i (by simp), u2_s, k3, fun i y hy => hy⟩
theorem LiR.pop {sh : SHT} {V : VT} {L A c k : Nat} {g : Nat → Nat} {v : Int} (h : LiR sh V L A c (k + 1) g) : LiR sh (vR (vI (vI V L 0 v) L 2 (k : Int)) A (k : Int) none) L A c k g := by
  have hne := h.ne
  obtain ⟨k1, k2, k3, k4, k5, k6, k7⟩ := h
  refine ⟨k1, u2_s, (u2_n (Or.inl (fun e => hne e.symm))).trans k3, k4, ⟨k5.1, by omega, k5.2.2⟩, fun i hi => (u2_n (Or.inr (by omega))).trans (k6 i (by omega)), fun i i0 i1 y hy => ?_⟩
  have hy : u2 V.2.2 A (k : Int) none A i = some y := hy
  by_cases e : i = (k : Int)
  · subst e; rw [u2_s] at hy; cases hy
  · rw [u2_n (Or.inr e)] at hy; exact k7 i i0 i1 y hy
set_option maxHeartbeats 4000000 in
theorem kJ2_fastRemove {E : ET} {sh : SHT} {nn : Nat × Nat} {V : VT} {L A c m : Nat} {g : Nat → Nat} (hL : LiR sh V L A c (m + 1) g) : TN E mJ2_fastRemove 1 [.ref L, .ref A, .int (iI (m : Int))] sh nn V (fun V' => LiR sh V' L A c m g ∧ FrV [L, A] V V' ∧ ∀ i : Int, 0 ≤ i → i < (c : Int) → ∀ y, V'.2.2 A i = some y → V.2.2 A i = some y) := by
  have hLx := hL
  obtain ⟨k1, k2, k3, k4, k5, k6, k7⟩ := hL
  have hb := blt31 (c := c) (by omega)
  refine TC.intro [some (.ref L), some (.ref A), some (.int (iI (m : Int))), none] rfl ?_
  refine TGo.al0 dJ2_fastRemove_0 rfl ?_
  refine TGo.dup dJ2_fastRemove_1 rfl ?_
  refine TGo.getI (t := 20) 0 0 k1 rfl fgJ2_63_12 dJ2_fastRemove_2 rfl rfl rfl ?_
  refine TGo.ic1 dJ2_fastRemove_5 ?_
  refine TGo.iadd dJ2_fastRemove_6 ?_
  refine TGo.putI (t := 20) 0 0 k1 rfl fpJ2_63_12 dJ2_fastRemove_7 rfl rfl rfl ?_
  refine TGo.al0 dJ2_fastRemove_10 rfl ?_
  refine TGo.getI (t := 20) 2 2 k1 rfl fgJ2_48_12 dJ2_fastRemove_11 rfl rfl rfl ?_
  refine TGo.toz _ (u2_n (Or.inr (by decide))) ?_
  refine TGo.toz ((m + 1 : Nat) : Int) k2 ?_
  refine TGo.ic1 dJ2_fastRemove_14 ?_
  refine TGo.isub dJ2_fastRemove_15 ?_
  refine TGo.toz (m : Int) (by omega) ?_
  refine TGo.dup dJ2_fastRemove_16 rfl ?_
  refine TGo.is3 dJ2_fastRemove_17 rfl rfl ?_
  refine TGo.il2 dJ2_fastRemove_18 rfl ?_
  refine TGo.icmp_le 34 dJ2_fastRemove_19 (by decide) (by omega) (fun h19 => ?_) (fun h19 => ?_)
  · refine TGo.al1 dJ2_fastRemove_34 rfl ?_
    refine TGo.al0 dJ2_fastRemove_35 rfl ?_
    refine TGo.il3 dJ2_fastRemove_36 rfl ?_
    refine TGo.dup_x1 dJ2_fastRemove_37 rfl rfl ?_
    refine TGo.putI (t := 20) 2 2 k1 rfl fpJ2_48_12 dJ2_fastRemove_38 rfl rfl rfl ?_
    refine TGo.null dJ2_fastRemove_41 ?_
    refine TGo.aastON dJ2_fastRemove_42 k4 (by omega) hb ?_
    refine TGo.vret dJ2_fastRemove_43 rfl ?_
    refine ⟨rfl, rfl, rfl, hLx.pop, ((FrV.rf.i (by simp)).i (by simp)).r (by simp), fun i i0 i1 y hy => ?_⟩
    have hy : u2 V.2.2 A (m : Int) none A i = some y := hy
    by_cases e : i = (m : Int)
    · subst e; rw [u2_s] at hy; cases hy
    · rw [u2_n (Or.inr e)] at hy; exact hy
  · exact absurd h19 (by omega)
set_option maxHeartbeats 4000000 in
theorem kJ2_remove {E : ET} {sh : SHT} {nn : Nat × Nat} {V : VT} {L A c m : Nat} {g : Nat → Nat} (hL : LiR sh V L A c (m + 1) g) : TS E mJ2_remove 3 [.ref L, .int (iI (m : Int))] sh nn V (fun v V' => v = .ref (g m) ∧ LiR sh V' L A c m g ∧ FrV [L, A] V V' ∧ ∀ i : Int, 0 ≤ i → i < (c : Int) → ∀ y, V'.2.2 A i = some y → V.2.2 A i = some y) := by
  have hLx := hL
  obtain ⟨k1, k2, k3, k4, k5, k6, k7⟩ := hL
  have hb := blt31 (c := c) (by omega)
  refine TC.intro [some (.ref L), some (.int (iI (m : Int))), none, none] rfl ?_
  refine TGo.il1 dJ2_remove_0 rfl ?_
  refine TGo.al0 dJ2_remove_1 rfl ?_
  refine TGo.getI (t := 20) 2 2 k1 rfl fgJ2_48_12 dJ2_remove_2 rfl rfl rfl ?_
  refine TGo.toz ((m + 1 : Nat) : Int) k2 ?_
  refine TGo.cF (csS2 (y2 := mJ5_checkIndex) 2 rfl dJ2_remove_5 q764 q765 okJ5_checkIndex npJ5_checkIndex rfl rfl) (kJ5_checkIndex (by omega) (by omega)) ?_
  refine TGo.pop dJ2_remove_8 rfl ?_
  refine TGo.al0 dJ2_remove_9 rfl ?_
  refine TGo.getQ (t := 20) 1 1 A k1 rfl fgJ2_9_12 dJ2_remove_10 rfl ⟨rfl, k3⟩ rfl ?_
  refine TGo.as2 dJ2_remove_13 rfl rfl ?_
  refine TGo.al2 dJ2_remove_14 rfl ?_
  refine TGo.il1 dJ2_remove_15 rfl ?_
  refine TGo.aaldOq (g m) dJ2_remove_16 k4 (by omega) hb (k6 m (by omega)) ?_
  refine TGo.as3 dJ2_remove_17 rfl rfl ?_
  refine TGo.al0 dJ2_remove_18 rfl ?_
  refine TGo.al2 dJ2_remove_19 rfl ?_
  refine TGo.il1 dJ2_remove_20 rfl ?_
  refine TGo.cN (csV2 (y2 := mJ2_fastRemove) (t := 20) 1 rfl k1 rfl rfl dJ2_remove_21 q1531 q1533 qs22 okJ2_fastRemove npJ2_fastRemove rfl rfl) (kJ2_fastRemove hLx) (fun V21 h21 => ?_)
  refine TGo.al3 dJ2_remove_24 rfl ?_
  refine TGo.aret dJ2_remove_25 rfl ?_
  exact ⟨_, rfl, rfl, rfl, rfl, h21⟩
set_option maxHeartbeats 4000000 in
theorem kJ2_toArray {E : ET} {sh : SHT} {nn : Nat × Nat} {V : VT} {L A c n : Nat} {g : Nat → Nat} (hL : LiR sh V L A c n g) : TC E mJ2_toArray 4 [.ref L] sh nn V (fun o sh' nn' V' => o = .inl (some (.ref nn.1)) ∧ sh' = va_up sh nn.1 (5, n) ∧ nn' = (nn.1 + 1, nn.2 + n) ∧ V' = cpQ V A nn.1 0 0 (n : Int)) := by
  have hLx := hL
  obtain ⟨k1, k2, k3, k4, k5, k6, k7⟩ := hL
  have hb := blt31 (c := c) (by omega)
  refine TC.intro [some (.ref L)] rfl ?_
  refine TGo.al0 dJ2_toArray_0 rfl ?_
  refine TGo.getQ (t := 20) 1 1 A k1 rfl fgJ2_9_12 dJ2_toArray_1 rfl ⟨rfl, k3⟩ rfl ?_
  refine TGo.al0 dJ2_toArray_4 rfl ?_
  refine TGo.getI (t := 20) 2 2 k1 rfl fgJ2_48_12 dJ2_toArray_5 rfl rfl rfl ?_
  refine TGo.toz (n : Int) k2 ?_
  refine TGo.callG (csS2 (y2 := mJ9_copyOf) 3 rfl dJ2_toArray_8 q635 q636 okJ9_copyOf npJ9_copyOf rfl rfl) (kJ9_copyOf (m := n) k4 (by omega) (by omega) (fun i i0 i1 y hy => k7 i i0 (by omega) y hy)) (fun o8 sh8 nn8 V8 e8 h8 => ?_)
  obtain ⟨rfl, rfl, rfl, rfl⟩ := h8
  show TGo _ _ _ _ _ _ _ _ _ _
  refine TGo.aretA dJ2_toArray_11 rfl ?_
  refine ⟨rfl, rfl, rfl, ?_⟩
  rw [show min c n = n by omega]
theorem LiR.keep {sh sh' : SHT} {V V' : VT} {L A c n : Nat} {g : Nat → Nat} (h : LiR sh V L A c n g) (hs : ∀ a, (sh a).1 ≠ 0 → sh' a = sh a) (h1 : V'.1 L 2 = V.1 L 2) (h2 : V'.2.2 L 1 = V.2.2 L 1) (h3 : V'.2.2 A = V.2.2 A) : LiR sh' V' L A c n g := by
  obtain ⟨k1, k2, k3, k4, k5, k6, k7⟩ := h
  refine ⟨(hs L (by rw [k1]; show (20 : Nat) ≠ 0; decide)).trans k1, h1.trans k2, h2.trans k3, (hs A (by rw [k4]; show (5 : Nat) ≠ 0; decide)).trans k4, k5, fun i hi => by rw [h3]; exact k6 i hi, fun i i0 i1 y hy => ?_⟩
  rw [h3] at hy
  have q := k7 i i0 i1 y hy
  rw [hs y (objO_0 q)]; exact q
theorem LiR.all {sh : SHT} {V : VT} {L A c n : Nat} {g f : Nat → Nat} {S : Nat} (h : LiR sh V L A c 0 g) (hn : n ≤ c) (hf : ∀ i : Nat, i < n → V.2.2 S (i : Int) = some (f i) ∧ objO (sh (f i)).1 = true) : LiR sh (vI (cpQ V S A 0 0 (n : Int)) L 2 (n : Int)) L A c n f := by
  have hne := h.ne
  obtain ⟨k1, k2, k3, k4, k5, k6, k7⟩ := h
  have hv : ∀ i : Int, (vI (cpQ V S A 0 0 (n : Int)) L 2 (n : Int)).2.2 A i = if 0 ≤ i ∧ i < 0 + (n : Int) then V.2.2 S (0 + (i - 0)) else V.2.2 A i := fun i => by
    show u1 V.2.2 A _ A i = _
    rw [u1_s]
  refine ⟨k1, u2_s, ?_, k4, ⟨k5.1, hn, k5.2.2⟩, fun i hi => ?_, fun i i0 i1 y hy => ?_⟩
  · show u1 V.2.2 A _ L 1 = some A
    rw [u1_n (fun e => hne e.symm)]; exact k3
  · rw [hv, if_pos (by omega), show (0 : Int) + ((i : Int) - 0) = (i : Int) by omega]
    exact (hf i hi).1
  · rw [hv] at hy
    by_cases e : 0 ≤ i ∧ i < 0 + (n : Int)
    · rw [if_pos e, show (0 : Int) + (i - 0) = ((i.toNat : Nat) : Int) by omega] at hy
      obtain ⟨q1, q2⟩ := hf i.toNat (by omega)
      rw [q1] at hy
      rw [← Option.some.inj hy]; exact q2
    · rw [if_neg e] at hy
      exact k7 i i0 i1 y hy
/-- a list's elements become another's -/
def AlX (sh : SHT) (nn : Nat × Nat) (V : VT) (L A c n : Nat) (f : Nat → Nat) (sh' : SHT) (nn' : Nat × Nat) (V' : VT) : Prop := ∃ A' c', LiR sh' V' L A' c' n f ∧ (A' = A ∨ nn.1 ≤ A') ∧ (∀ a, (sh a).1 ≠ 0 → sh' a = sh a) ∧ (∀ a, a < nn.1 → a ≠ L → a ≠ A' → V'.1 a = V.1 a ∧ V'.2.1 a = V.2.1 a ∧ V'.2.2 a = V.2.2 a) ∧ (nn.1 ≤ nn'.1 ∧ nn'.1 ≤ nn.1 + 2 ∧ nn.2 ≤ nn'.2 ∧ nn'.2 ≤ nn.2 + 3100)
theorem TGo.fresh2 {E : ET} {y : MI} {d pc : Nat} {ls : LV} {st : List Value} {sh : SHT} {nn : Nat × Nat} {V : VT} {Q : AO → SHT → Nat × Nat → VT → Prop} (k : (∀ a, (sh a).1 ≠ 0 → a < nn.1) → (∀ a, nn.1 ≤ a → ∀ i, V.2.2 a i = none) → TGo E y d pc ls st sh nn V Q) : TGo E y d pc ls st sh nn V Q := fun σ hσ => k (fun _ h0 => hσ.lt h0) (fun a ha => (hσ.2.2 a ha).2.2.2) σ hσ
set_option maxHeartbeats 4000000 in
theorem lJ2_addAll {E : ET} {sh : SHT} {nn : Nat × Nat} {V : VT} {L M A c n S : Nat} {g f : Nat → Nat} (hL : LiR sh V L A c 0 g) (hn : n ≤ c) (hS : sh S = (5, n)) (hf : ∀ i : Nat, i < n → V.2.2 S (i : Int) = some (f i) ∧ objO (sh (f i)).1 = true) : TGo E mJ2_addAll 5 56 [some (.ref L), some (.ref M), some (.ref S), some (.int (iI (n : Int))), some (.ref A), some (.int (iI 0))] [] sh nn V (fun o sh' nn' V' => o = .inl (some (.int (iI 1))) ∧ sh' = sh ∧ nn' = nn ∧ V' = vI (cpQ V S A 0 0 (n : Int)) L 2 (n : Int)) := by
  obtain ⟨k1, k2, k3, k4, k5, k6, k7⟩ := hL
  refine TGo.al2 dJ2_addAll_56 rfl ?_
  refine TGo.ic0 dJ2_addAll_57 ?_
  refine TGo.al dJ2_addAll_58 rfl ?_
  refine TGo.il dJ2_addAll_60 rfl ?_
  refine TGo.il3 dJ2_addAll_62 rfl ?_
  refine TGo.copyO dJ2_addAll_63 q694 hS k4 (by omega) (by omega) (by omega) (fun i i0 i1 y hy => by rw [Int.zero_add] at hy; obtain ⟨q1, q2⟩ := hf i.toNat (by omega); rw [show ((i.toNat : Nat) : Int) = i by omega] at q1; have e := q1.symm.trans hy; rw [← Option.some.inj e]; exact q2) rfl (by omega) ?_
  refine TGo.al0 dJ2_addAll_66 rfl ?_
  refine TGo.il dJ2_addAll_67 rfl ?_
  refine TGo.il3 dJ2_addAll_69 rfl ?_
  refine TGo.iadd dJ2_addAll_70 ?_
  refine TGo.toz (n : Int) (by omega) ?_
  refine TGo.putI (t := 20) 2 2 k1 rfl fpJ2_48_12 dJ2_addAll_71 rfl rfl rfl ?_
  refine TGo.ic1 dJ2_addAll_74 ?_
  refine TGo.zret dJ2_addAll_75 rfl (by first | exact Or.inl rfl | exact Or.inr rfl | exact bZ_or _ | assumption) ?_
  exact ⟨rfl, rfl, rfl, rfl⟩
set_option maxHeartbeats 4000000 in
theorem kJ2_addAll {E : ET} {sh : SHT} {nn : Nat × Nat} {V : VT} {L A c M B b n : Nat} {g f : Nat → Nat} (hL : LiR sh V L A c 0 g) (hM : LiR sh V M B b n f) (hn : n ≤ 1000) (hc : c ≤ 1000) : TC E mJ2_addAll 5 [.ref L, .ref M] sh nn V (fun o sh' nn' V' => (∃ v, o = .inl (some (.int v))) ∧ AlX sh nn V L A c n f sh' nn' V') := by
  have hLx := hL
  obtain ⟨k1, k2, k3, k4, k5, k6, k7⟩ := hL
  have hb := blt31 (c := c) (by omega)
  obtain ⟨m1, m2, m3, m4, m5, m6, m7⟩ := id hM
  refine TGo.fresh2 (fun kn kz => ?_)
  have hLn : L < nn.1 := kn L (by rw [k1]; show (20 : Nat) ≠ 0; decide)
  have hAn : A < nn.1 := kn A (by rw [k4]; show (5 : Nat) ≠ 0; decide)
  have kz1 := kz (nn.1 + 1) (by omega)
  refine TC.intro [some (.ref L), some (.ref M), none, none, none, none] rfl ?_
  refine TGo.al1 dJ2_addAll_0 rfl ?_
  refine TGo.callG (csF0 (y2 := mJ2_toArray) 4 rfl m1 rfl dJ2_addAll_1 q626 q632 q630 okJ2_toArray (by unfold nPar; decide +kernel) rfl rfl) (kJ2_toArray hM) (fun o1 sh1 nn1 V1 e1 h1 => ?_)
  obtain ⟨rfl, rfl, rfl, rfl⟩ := h1
  have hs1 : ∀ a, (sh a).1 ≠ 0 → va_up sh nn.1 (5, n) a = sh a := fun a ha => va_up_ne sh _ (by have := kn a ha; omega)
  have hL1 : LiR (va_up sh nn.1 (5, n)) (cpQ V B nn.1 0 0 (n : Int)) L A c 0 g := hLx.keep hs1 rfl (congrFun (u1_n (by omega)) 1) (u1_n (by omega))
  obtain ⟨k1a, k2a, k3a, k4a, -⟩ := id hL1
  have kNa : va_up sh nn.1 (5, n) nn.1 = (5, n) := va_up_self sh _ _
  have hsr : ∀ i : Nat, i < n → (cpQ V B nn.1 0 0 (n : Int)).2.2 nn.1 (i : Int) = some (f i) ∧ objO (va_up sh nn.1 (5, n) (f i)).1 = true := fun i hi => by
    refine ⟨?_, ?_⟩
    · show u1 V.2.2 nn.1 _ nn.1 (i : Int) = _
      rw [u1_s]
      show (if 0 ≤ (i : Int) ∧ (i : Int) < 0 + (n : Int) then V.2.2 B (0 + ((i : Int) - 0)) else V.2.2 nn.1 (i : Int)) = _
      rw [if_pos (by omega), show (0 : Int) + ((i : Int) - 0) = (i : Int) by omega]
      exact m6 i hi
    · have q := m7 (i : Int) (by omega) (by omega) (f i) (m6 i hi)
      rw [hs1 _ (objO_0 q)]; exact q
  show TGo _ _ _ _ _ _ _ _ _ _
  refine TGo.as2 dJ2_addAll_6 rfl rfl ?_
  refine TGo.al0 dJ2_addAll_7 rfl ?_
  refine TGo.dup dJ2_addAll_8 rfl ?_
  refine TGo.getI (t := 20) 0 0 k1a rfl fgJ2_63_12 dJ2_addAll_9 rfl rfl rfl ?_
  refine TGo.ic1 dJ2_addAll_12 ?_
  refine TGo.iadd dJ2_addAll_13 ?_
  refine TGo.putI (t := 20) 0 0 k1a rfl fpJ2_63_12 dJ2_addAll_14 rfl rfl rfl ?_
  refine TGo.al2 dJ2_addAll_17 rfl ?_
  refine TGo.alen5 dJ2_addAll_18 kNa ?_
  refine TGo.is3 dJ2_addAll_19 rfl rfl ?_
  refine TGo.il3 dJ2_addAll_20 rfl ?_
  refine TGo.if_ne 26 dJ2_addAll_21 (by decide) (by omega) (fun h21 => ?_) (fun h21 => ?_)
  · refine TGo.il3 dJ2_addAll_26 rfl ?_
    refine TGo.al0 dJ2_addAll_27 rfl ?_
    refine TGo.getQ (t := 20) 1 1 A k1a rfl fgJ2_9_12 dJ2_addAll_28 rfl ⟨rfl, k3a⟩ rfl ?_
    refine TGo.dup dJ2_addAll_31 rfl ?_
    refine TGo.as dJ2_addAll_32 rfl rfl ?_
    refine TGo.alen5 dJ2_addAll_34 k4a ?_
    refine TGo.al0 dJ2_addAll_35 rfl ?_
    refine TGo.getI (t := 20) 2 2 k1a rfl fgJ2_48_12 dJ2_addAll_36 rfl rfl rfl ?_
    refine TGo.toz _ (u2_n (Or.inr (by decide))) ?_
    refine TGo.toz 0 k2a ?_
    refine TGo.dup dJ2_addAll_39 rfl ?_
    refine TGo.is dJ2_addAll_40 rfl rfl ?_
    refine TGo.isub dJ2_addAll_42 ?_
    refine TGo.icmp_le 56 dJ2_addAll_43 (by decide) (by omega) (fun h43 => ?_) (fun h43 => ?_)
    · refine (lJ2_addAll (f := f) hL1.m (by omega) kNa hsr).mono ?_
      rintro o sh' nn' V' ⟨rfl, rfl, rfl, rfl⟩
      refine ⟨⟨_, rfl⟩, A, c, hL1.m.all (by omega) hsr, Or.inl rfl, hs1, fun a ha hl hA => ⟨(u2_a hl).trans (u2_a hl), rfl, ?_⟩, by show nn.1 ≤ nn.1 + 1; omega, by show nn.1 + 1 ≤ nn.1 + 2; omega, by show nn.2 ≤ nn.2 + n; omega, by show nn.2 + n ≤ nn.2 + 3100; omega⟩
      show u1 (u1 V.2.2 nn.1 _) A _ a = V.2.2 a
      rw [u1_n hA, u1_n (by omega)]
    · refine TGo.al0 dJ2_addAll_46 rfl ?_
      refine TGo.il dJ2_addAll_47 rfl ?_
      refine TGo.il3 dJ2_addAll_49 rfl ?_
      refine TGo.iadd dJ2_addAll_50 ?_
      refine TGo.toz (n : Int) (by omega) ?_
      refine TGo.callG (csV1 (y2 := mJ2_grow) (t := 20) 4 rfl k1a rfl rfl dJ2_addAll_51 q677 q679 qs2 okJ2_grow npJ2_grow rfl rfl) (kJ2_grow (m := n) hL1.m (by omega)) (fun o51 sh51 nn51 V51 e51 h51 => ?_)
      obtain ⟨rfl, rfl, rfl, rfl⟩ := h51
      have kn1 : ∀ a, (va_up sh nn.1 (5, n) a).1 ≠ 0 → a < nn.1 + 1 := fun a ha => by
        by_cases e : a = nn.1
        · omega
        · rw [va_up_ne sh _ e] at ha; have := kn a ha; omega
      have hG := LiR.grow (m := gwN c n) (N := nn.1 + 1) (hL1.m (v := (cpQ V B nn.1 0 0 (n : Int)).1 L 0 + 1)) (by unfold gwN; omega) kn1 (fun i => (congrFun (u1_n (by omega)) i).trans (kz1 i))
      obtain ⟨k1b, -, -, k4b, -⟩ := id hG
      have kNb : va_up (va_up sh nn.1 (5, n)) (nn.1 + 1) (5, gwN c n) nn.1 = (5, n) := (va_up_ne _ _ (by omega)).trans kNa
      have hbg := blt31 (c := gwN c n) (by unfold gwN; omega)
      have hgn : n ≤ gwN c n ∧ gwN c n ≤ 2000 := by unfold gwN; omega
      show TGo _ _ _ _ _ _ _ _ _ _
      refine TGo.as dJ2_addAll_54 rfl rfl ?_
      refine (lJ2_addAll (f := f) hG (by omega) kNb (fun i hi => ?_)).mono ?_
      · obtain ⟨q1, q2⟩ := hsr i hi
        refine ⟨?_, ?_⟩
        · show u2 (u1 (cpQ V B nn.1 0 0 (n : Int)).2.2 (nn.1 + 1) _) L 1 _ nn.1 (i : Int) = _
          rw [u2_n (Or.inl (by omega)), u1_n (by omega)]; exact q1
        · rw [va_up_ne _ _ (by have := kn1 (f i) (objO_0 q2); omega)]; exact q2
      · rintro o sh' nn' V' ⟨rfl, rfl, rfl, rfl⟩
        refine ⟨⟨_, rfl⟩, nn.1 + 1, gwN c n, hG.all (by omega) (fun i hi => ?_), Or.inr (by omega), fun a ha => (va_up_ne _ _ (by have := kn a ha; omega)).trans (hs1 a ha), fun a ha hl hA => ⟨(u2_a hl).trans (u2_a hl), rfl, ?_⟩, by show nn.1 ≤ nn.1 + 1 + 1; omega, by show nn.1 + 1 + 1 ≤ nn.1 + 2; omega, by show nn.2 ≤ nn.2 + n + gwN c n; omega, by show nn.2 + n + gwN c n ≤ nn.2 + 3100; omega⟩
        · obtain ⟨q1, q2⟩ := hsr i hi
          refine ⟨?_, ?_⟩
          · show u2 (u1 (cpQ V B nn.1 0 0 (n : Int)).2.2 (nn.1 + 1) _) L 1 _ nn.1 (i : Int) = _
            rw [u2_n (Or.inl (by omega)), u1_n (by omega)]; exact q1
          · rw [va_up_ne _ _ (by have := kn1 (f i) (objO_0 q2); omega)]; exact q2
        · show u1 (u2 (u1 (u1 V.2.2 nn.1 _) (nn.1 + 1) _) L 1 _) (nn.1 + 1) _ a = V.2.2 a
          rw [u1_n (by omega), u2_a hl, u1_n (by omega), u1_n (by omega)]
  · refine TGo.ic0 dJ2_addAll_24 ?_
    refine TGo.zret dJ2_addAll_25 rfl (by first | exact Or.inl rfl | exact Or.inr rfl | exact bZ_or _ | assumption) ?_
    have hn0 : n = 0 := by omega
    subst hn0
    obtain ⟨z1, z2, z3, z4, z5, z6, z7⟩ := hL1.m (v := (cpQ V B nn.1 0 0 ((0 : Nat) : Int)).1 L 0 + 1)
    exact ⟨⟨_, rfl⟩, A, c, ⟨z1, z2, z3, z4, z5, fun i hi => absurd hi (Nat.not_lt_zero i), z7⟩, Or.inl rfl, hs1, fun a ha hl hA => ⟨u2_a hl, rfl, u1_n (by omega)⟩, by show nn.1 ≤ nn.1 + 1; omega, by show nn.1 + 1 ≤ nn.1 + 2; omega, by show nn.2 ≤ nn.2 + 0; omega, by show nn.2 + 0 ≤ nn.2 + 3100; omega⟩
