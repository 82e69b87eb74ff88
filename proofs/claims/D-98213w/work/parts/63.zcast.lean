/-! THE MODEL: casts -/
set_option maxRecDepth 100000
/-- whom a cast uses (bits), how many: of the first k parts -/
def uZ (c : Int → Int) : Nat → Int × Int
  | 0 => (0, 0)
  | k + 1 => if (uZ c k).1 / ((2 ^ (c (k : Int)).toNat : Nat) : Int) % 2 = 1 then uZ c k else ((uZ c k).1 + ((2 ^ (c (k : Int)).toNat : Nat) : Int), (uZ c k).2 + 1)
theorem or_bit : ∀ a : Nat, a < 256 → ∀ k : Nat, k < 8 → (a ||| 2 ^ k = if a / 2 ^ k % 2 = 1 then a else a + 2 ^ k) ∧ (a ||| 2 ^ k) < 256 := by decide +kernel
theorem iI_orx {a : Int} {k : Int} (h : 0 ≤ a ∧ a < 256) (hk : 0 ≤ k ∧ k < 8) : iI a ||| (iI 1 <<< (iI k &&& 31)) = iI (if a / ((2 ^ k.toNat : Nat) : Int) % 2 = 1 then a else a + ((2 ^ k.toNat : Nat) : Int)) ∧ (0 ≤ (if a / ((2 ^ k.toNat : Nat) : Int) % 2 = 1 then a else a + ((2 ^ k.toNat : Nat) : Int)) ∧ (if a / ((2 ^ k.toNat : Nat) : Int) % 2 = 1 then a else a + ((2 ^ k.toNat : Nat) : Int)) < 256) := by
  obtain ⟨n, rfl⟩ := iI_get h.1
  have hn : n < 256 := by omega
  have e : iI k = iI ((k.toNat : Nat) : Int) := by rw [show ((k.toNat : Nat) : Int) = k by omega]
  have h1 := or_bit n hn k.toNat (by omega)
  have e2 : (if (n : Int) / ((2 ^ k.toNat : Nat) : Int) % 2 = 1 then (n : Int) else (n : Int) + ((2 ^ k.toNat : Nat) : Int)) = ((n ||| 2 ^ k.toNat : Nat) : Int) := by
    rw [h1.1]
    have e3 : (n : Int) / ((2 ^ k.toNat : Nat) : Int) % 2 = ((n / 2 ^ k.toNat % 2 : Nat) : Int) := rfl
    rw [e3]
    by_cases q : n / 2 ^ k.toNat % 2 = 1
    · rw [if_pos (by omega), if_pos q]
    · rw [if_neg (by omega), if_neg q]; rfl
  rw [e2]
  refine ⟨?_, by omega, by omega⟩
  rw [e, iI_shl (by omega), iI_nat, nI_or]
  rfl
theorem uZ_in {c : Int → Int} {n : Nat} (h : ∀ i : Int, 0 ≤ i → i < n → 0 ≤ c i ∧ c i < 8) : ∀ k : Nat, k ≤ n → (0 ≤ (uZ c k).1 ∧ (uZ c k).1 < 256) ∧ 0 ≤ (uZ c k).2 ∧ (uZ c k).2 ≤ k := by
  intro k
  induction k with
  | zero => intro _; exact ⟨⟨Int.le_refl (0 : Int), (by decide : (0 : Int) < 256)⟩, Int.le_refl _, Int.le_refl _⟩
  | succ k ih =>
    intro hk
    have h1 := ih (by omega)
    have h2 := (iI_orx h1.1 (h (k : Int) (by omega) (by omega))).2
    rw [uZ]
    split
    · exact ⟨h1.1, h1.2.1, by omega⟩
    · rw [if_neg (by assumption)] at h2
      exact ⟨h2, by simp only; omega, by simp only; omega⟩
theorem uZ_eq {c e : Int → Int} : ∀ k : Nat, (∀ i : Int, 0 ≤ i → i < k → c i = e i) → uZ c k = uZ e k := by
  intro k
  induction k with
  | zero => intro _; rfl
  | succ k ih =>
    intro h
    rw [uZ, uZ, ih (fun i h0 h1 => h i h0 (by omega)), h (k : Int) (by omega) (by omega)]
/-- the fewest people, how many ways, the first of them -/
abbrev CST : Type := (Int × Int) × (Int → Int)
def kpZ (n : Nat) (c : Int → Int) (S : CST) : CST :=
  if (uZ c n).2 < S.1.1 then (((uZ c n).2, 1), fun i => if 0 ≤ i ∧ i < n then c i else S.2 i) else if (uZ c n).2 = S.1.1 then ((S.1.1, S.1.2 + 1), S.2) else S
def CSV (T : Nat) (V : VT) (n : Nat) (S : CST) : Prop := V.1 T 58 = S.1.1 ∧ V.1 T 59 = S.1.2 ∧ (S.1.2 ≠ 0 → ∀ i, 0 ≤ i → i < (n : Int) → V.1 (T + 29) i = S.2 i)
def SB (B : Int) (S : CST) : Prop := (0 ≤ S.1.1 ∧ S.1.1 ≤ 1000000) ∧ (0 ≤ S.1.2 ∧ S.1.2 ≤ B) ∧ (S.1.2 = 0 → S.1.1 = 1000000)
theorem uZ_2 (c : Int → Int) : ∀ k : Nat, 0 ≤ (uZ c k).2 ∧ (uZ c k).2 ≤ k := by
  intro k
  induction k with
  | zero => exact ⟨Int.le_refl _, Int.le_refl _⟩
  | succ k ih =>
    rw [uZ]
    split
    · omega
    · simp only; omega
theorem kpZ_b {n : Nat} {c : Int → Int} {S : CST} {B : Int} (hn : n ≤ 6) (h : SB B S) : SB (B + 1) (kpZ n c S) := by
  have hu := uZ_2 c n
  obtain ⟨h1, h2, h3⟩ := h
  unfold kpZ SB
  split
  · refine ⟨?_, ?_, ?_⟩ <;> simp only <;> omega
  · split
    · refine ⟨?_, ?_, ?_⟩ <;> simp only <;> omega
    · exact ⟨h1, by omega, h3⟩
theorem SB.le {S : CST} {B C : Int} (h : SB B S) (hb : B ≤ C) : SB C S := ⟨h.1, ⟨h.2.1.1, by have := h.2.1.2; omega⟩, h.2.2⟩
/-- over the first k numbers -/
def fdZ {α : Type} (g : Int → α → α) : Nat → α → α
  | 0, s => s
  | k + 1, s => g (k : Int) (fdZ g k s)
/-- who may play what -/
def myZ (f : Int → Int) (k : Int) : Int := bZ (k / 8 < f 0 ∧ k % 8 < f 1 ∧ (f (238 + 3 * (k % 8)) ≤ f 7 ∧ f 7 < f (238 + 3 * (k % 8) + 1)) ∧ ¬ tellZ f 2 (k % 8) (k / 8) (-1) (f 7) 0 = 1)
/-- the k-th part can be played so, by the first j -/
def cpZ (f : Int → Int) (c : Int → Int) (k : Int) : Nat → Int
  | 0 => myZ f (8 * k + c k)
  | j + 1 => if cpZ f c k j = 1 ∧ (c (j : Int) ≠ c k ∨ ¬ (f (10 + 2 * (j : Int)) < f (10 + 2 * k + 1) ∧ f (10 + 2 * k) < f (10 + 2 * (j : Int) + 1))) then 1 else 0
theorem cpZ_or (f c : Int → Int) (k : Int) : ∀ j, cpZ f c k j = 0 ∨ cpZ f c k j = 1 := by
  intro j
  cases j with
  | zero => exact bZ_or _
  | succ j => rw [cpZ]; split <;> simp
theorem cpZ_eq {f c e : Int → Int} {k : Int} (hk : c k = e k) : ∀ j : Nat, (∀ i : Int, 0 ≤ i → i < j → c i = e i) → cpZ f c k j = cpZ f e k j := by
  intro j
  induction j with
  | zero => intro _; rw [cpZ, cpZ, hk]
  | succ j ih => intro h; rw [cpZ, cpZ, ih (fun i h0 h1 => h i h0 (by omega)), hk, h (j : Int) (by omega) (by omega)]
/-- all casts from the k-th part on -/
def caT (f : Int → Int) (n m : Nat) : Nat → Nat → (Int → Int) → CST → CST
  | 0, _, c, S => kpZ m c S
  | r + 1, k, c, S => fdZ (fun h S => if cpZ f (zu c (k : Int) h) (k : Int) k = 1 then caT f n m r (k + 1) (zu c (k : Int) h) S else S) n S
def cgZ (f : Int → Int) (n m r k : Nat) (c : Int → Int) : Int → CST → CST := fun h S => if cpZ f (zu c (k : Int) h) (k : Int) k = 1 then caT f n m r (k + 1) (zu c (k : Int) h) S else S
theorem fd_b {n m r k : Nat} {f c : Int → Int} {S : CST} {B : Int} (h : SB B S) (hr : ∀ c S B, SB B S → SB (B + ((8 ^ r : Nat) : Int)) (caT f n m r (k + 1) c S)) : ∀ j : Nat, SB (B + j * ((8 ^ r : Nat) : Int)) (fdZ (cgZ f n m r k c) j S) := by
  intro j
  induction j with
  | zero => exact h.le (by omega)
  | succ j ih =>
    rw [fdZ]
    unfold cgZ
    have h0 : (0 : Int) ≤ ((8 ^ r : Nat) : Int) := Int.natCast_nonneg _
    rw [show ((j + 1 : Nat) : Int) * ((8 ^ r : Nat) : Int) = j * ((8 ^ r : Nat) : Int) + ((8 ^ r : Nat) : Int) by rw [Int.natCast_add, Int.add_mul]; simp]
    split
    · exact (hr _ _ _ ih).le (by omega)
    · exact ih.le (by omega)
theorem caT_b {f : Int → Int} {n m : Nat} (hm : m ≤ 6) (hn : n ≤ 8) : ∀ (r k : Nat) (c : Int → Int) (S : CST) (B : Int), SB B S → SB (B + ((8 ^ r : Nat) : Int)) (caT f n m r k c S) := by
  intro r
  induction r with
  | zero => intro k c S B h; exact kpZ_b hm h
  | succ r ih =>
    intro k c S B h
    refine (fd_b h (fun c S B h => ih (k + 1) c S B h) n).le ?_
    have h0 : (0 : Int) ≤ ((8 ^ r : Nat) : Int) := Int.natCast_nonneg _
    have h1 : ((8 ^ (r + 1) : Nat) : Int) = 8 * ((8 ^ r : Nat) : Int) := by rw [Nat.pow_succ]; omega
    have h2 : (n : Int) * ((8 ^ r : Nat) : Int) ≤ 8 * ((8 ^ r : Nat) : Int) := Int.mul_le_mul_of_nonneg_right (by omega) h0
    omega
set_option maxHeartbeats 4000000 in
theorem kX10_areTogether {E : ET} {sh : SHT} {nn : Nat × Nat} {V : VT} {T : Nat} {z : ZT} {a b : Int} (hT : MSh T sh) (hz : PE T V z) (W : RWZ (z.2 3)) (ha : 0 ≤ a ∧ a < z.2 3 0) (hb : 0 ≤ b ∧ b < z.2 3 0) : TF E mX10_areTogether 1 [.ref T, .int (iI a), .int (iI b)] sh nn V (.int (iI (bZ (z.2 3 (10 + 2 * a) < z.2 3 (10 + 2 * b + 1) ∧ z.2 3 (10 + 2 * b) < z.2 3 (10 + 2 * a + 1))))) := by
  have wa := W.2.1 a ha.1 ha.2
  have wb := W.2.1 b hb.1 hb.2
  have w0 := W.1.1
  refine TC.intro [some (.ref T), some (.int (iI a)), some (.int (iI b))] rfl ?_
  refine TGo.al0 dX10_areTogether_0 rfl ?_
  refine TGo.getS (t := 18) 3 3 (T + 2) (hT 0 (by decide)) rfl fgX10_13_10 dX10_areTogether_1 rfl rfl rfl ?_
  refine TGo.bip 10 dX10_areTogether_4 (by decide) ?_
  refine TGo.ic2 dX10_areTogether_6 ?_
  refine TGo.il1 dX10_areTogether_7 rfl ?_
  refine TGo.imul dX10_areTogether_8 ?_
  refine TGo.iadd dX10_areTogether_9 ?_
  refine TGo.iald dX10_areTogether_10 (hT 2 (by decide)) (by omega) rfl ?_
  refine TGo.toz _ (hz.2.1 3 (by decide) _) ?_
  refine TGo.al0 dX10_areTogether_11 rfl ?_
  refine TGo.getS (t := 18) 3 3 (T + 2) (hT 0 (by decide)) rfl fgX10_13_10 dX10_areTogether_12 rfl rfl rfl ?_
  refine TGo.bip 10 dX10_areTogether_15 (by decide) ?_
  refine TGo.ic2 dX10_areTogether_17 ?_
  refine TGo.il2 dX10_areTogether_18 rfl ?_
  refine TGo.imul dX10_areTogether_19 ?_
  refine TGo.iadd dX10_areTogether_20 ?_
  refine TGo.ic1 dX10_areTogether_21 ?_
  refine TGo.iadd dX10_areTogether_22 ?_
  refine TGo.iald dX10_areTogether_23 (hT 2 (by decide)) (by omega) rfl ?_
  refine TGo.toz _ (hz.2.1 3 (by decide) _) ?_
  refine TGo.icmp_ge 58 dX10_areTogether_24 (by decide) (by omega) (fun h24 => ?_) (fun h24 => ?_)
  · refine TGo.ic0 dX10_areTogether_58 ?_
    refine TGo.zret dX10_areTogether_59 rfl (by first | exact Or.inl rfl | exact Or.inr rfl | exact bZ_or _ | assumption) ?_
    refine leafF ?_
    first | rfl | omega | exact (bZ_t (by omega)).symm | exact (bZ_f (by omega)).symm | exact bZ_iff (by omega)
  · refine TGo.al0 dX10_areTogether_27 rfl ?_
    refine TGo.getS (t := 18) 3 3 (T + 2) (hT 0 (by decide)) rfl fgX10_13_10 dX10_areTogether_28 rfl rfl rfl ?_
    refine TGo.bip 10 dX10_areTogether_31 (by decide) ?_
    refine TGo.ic2 dX10_areTogether_33 ?_
    refine TGo.il2 dX10_areTogether_34 rfl ?_
    refine TGo.imul dX10_areTogether_35 ?_
    refine TGo.iadd dX10_areTogether_36 ?_
    refine TGo.iald dX10_areTogether_37 (hT 2 (by decide)) (by omega) rfl ?_
    refine TGo.toz _ (hz.2.1 3 (by decide) _) ?_
    refine TGo.al0 dX10_areTogether_38 rfl ?_
    refine TGo.getS (t := 18) 3 3 (T + 2) (hT 0 (by decide)) rfl fgX10_13_10 dX10_areTogether_39 rfl rfl rfl ?_
    refine TGo.bip 10 dX10_areTogether_42 (by decide) ?_
    refine TGo.ic2 dX10_areTogether_44 ?_
    refine TGo.il1 dX10_areTogether_45 rfl ?_
    refine TGo.imul dX10_areTogether_46 ?_
    refine TGo.iadd dX10_areTogether_47 ?_
    refine TGo.ic1 dX10_areTogether_48 ?_
    refine TGo.iadd dX10_areTogether_49 ?_
    refine TGo.iald dX10_areTogether_50 (hT 2 (by decide)) (by omega) rfl ?_
    refine TGo.toz _ (hz.2.1 3 (by decide) _) ?_
    refine TGo.icmp_ge 58 dX10_areTogether_51 (by decide) (by omega) (fun h51 => ?_) (fun h51 => ?_)
    · refine TGo.ic0 dX10_areTogether_58 ?_
      refine TGo.zret dX10_areTogether_59 rfl (by first | exact Or.inl rfl | exact Or.inr rfl | exact bZ_or _ | assumption) ?_
      refine leafF ?_
      first | rfl | omega | exact (bZ_t (by omega)).symm | exact (bZ_f (by omega)).symm | exact bZ_iff (by omega)
    · refine TGo.ic1 dX10_areTogether_54 ?_
      refine TGo.goto 59 dX10_areTogether_55 (by decide) ?_
      refine TGo.zret dX10_areTogether_59 rfl (by first | exact Or.inl rfl | exact Or.inr rfl | exact bZ_or _ | assumption) ?_
      refine leafF ?_
      first | rfl | omega | exact (bZ_t (by omega)).symm | exact (bZ_f (by omega)).symm | exact bZ_iff (by omega)
set_option maxHeartbeats 4000000 in
theorem iX10_keepCast {E : ET} {sh : SHT} {nn : Nat × Nat} {T : Nat} {z : ZT} {m : Nat} {c : Int → Int} {S : CST} {V0 : VT} (hT : MSh T sh) (hm : m ≤ 6) (hca : ∀ i, 0 ≤ i → i < (m : Int) → V0.1 (T + 28) i = c i) (hc8 : ∀ i, 0 ≤ i → i < (m : Int) → 0 ≤ c i ∧ c i < 8) (hS : SB 1000000 S) (hlt : (uZ c m).2 < S.1.1) : ∀ (n j : Nat) (V : VT), m - j < n → j ≤ m → PE T V z → (Fr [T, T + 29] V0 V ∧ V.1 T 58 = (uZ c m).2 ∧ V.1 T 59 = 0 ∧ ∀ i, 0 ≤ i → i < (j : Int) → V.1 (T + 29) i = c i) → TGo E mX10_keepCast 2 74 [some (.ref T), some (.int (iI (m : Int))), some (.int (iI (uZ c m).1)), some (.int (iI (uZ c m).2)), some (.int (iI (((j) : Nat) : Int)))] [] sh nn V (fun o sh' nn' V' => o = .inl none ∧ sh' = sh ∧ nn' = nn ∧ PE T V' z ∧ Fr [T, T + 29] V0 V' ∧ CSV T V' m (kpZ m c S)) := by
  intro n
  induction n with
  | zero => intro j V h; omega
  | succ n ih =>
    intro j V hn hj hz hx
    have hS1 := hS.1
    have hS2 := hS.2.1
    have hu := uZ_in hc8 m (Nat.le_refl _)
    obtain ⟨hf, h58, h59, hx3⟩ := hx
    refine TGo.il dX10_keepCast_74 rfl ?_
    refine TGo.il1 dX10_keepCast_76 rfl ?_
    refine TGo.icmp_ge 100 dX10_keepCast_77 (by decide) (by omega) (fun h77 => ?_) (fun h77 => ?_)
    · refine TGo.al0 dX10_keepCast_100 rfl ?_
      refine TGo.dup dX10_keepCast_101 rfl ?_
      refine TGo.getI (t := 18) 59 59 (hT 0 (by decide)) rfl fgX10_565_10 dX10_keepCast_102 rfl rfl rfl ?_
      refine TGo.toz _ h59 ?_
      refine TGo.il3 dX10_keepCast_105 rfl ?_
      refine TGo.al0 dX10_keepCast_106 rfl ?_
      refine TGo.getI (t := 18) 58 58 (hT 0 (by decide)) rfl fgX10_562_10 dX10_keepCast_107 rfl rfl rfl ?_
      refine TGo.toz _ h58 ?_
      refine TGo.icmp_ne 117 dX10_keepCast_110 (by decide) (by omega) (fun h110 => ?_) (fun h110 => ?_)
      · refine TGo.ic0 dX10_keepCast_117 ?_
        refine TGo.iadd dX10_keepCast_118 ?_
        refine TGo.putI (t := 18) 59 59 (hT 0 (by decide)) rfl fpX10_565_10 dX10_keepCast_119 rfl rfl rfl ?_
        refine TGo.vret dX10_keepCast_122 rfl ?_
        first
        | (exfalso; omega)
        | (obtain rfl : j = m := by omega
           refine ⟨rfl, rfl, rfl, (hz.s rfl), hf.i (by simp), ?_, ?_, ?_⟩
           · unfold kpZ; rw [if_pos hlt]; exact (u2_n (Or.inr (by omega))).trans h58
           · unfold kpZ; rw [if_pos hlt]; exact u2_s
           · intro _ i h0 h1
             unfold kpZ; rw [if_pos hlt]
             show _ = if 0 ≤ i ∧ i < (j : Int) then c i else S.2 i
             rw [if_pos ⟨h0, h1⟩]; exact (u2_n (Or.inl (by omega))).trans (hx3 i h0 h1))
      · refine TGo.ic1 dX10_keepCast_113 ?_
        refine TGo.goto 118 dX10_keepCast_114 (by decide) ?_
        refine TGo.iadd dX10_keepCast_118 ?_
        refine TGo.putI (t := 18) 59 59 (hT 0 (by decide)) rfl fpX10_565_10 dX10_keepCast_119 rfl rfl rfl ?_
        refine TGo.vret dX10_keepCast_122 rfl ?_
        first
        | (exfalso; omega)
        | (obtain rfl : j = m := by omega
           refine ⟨rfl, rfl, rfl, (hz.s rfl), hf.i (by simp), ?_, ?_, ?_⟩
           · unfold kpZ; rw [if_pos hlt]; exact (u2_n (Or.inr (by omega))).trans h58
           · unfold kpZ; rw [if_pos hlt]; exact u2_s
           · intro _ i h0 h1
             unfold kpZ; rw [if_pos hlt]
             show _ = if 0 ≤ i ∧ i < (j : Int) then c i else S.2 i
             rw [if_pos ⟨h0, h1⟩]; exact (u2_n (Or.inl (by omega))).trans (hx3 i h0 h1))
    · refine TGo.al0 dX10_keepCast_80 rfl ?_
      refine TGo.getS (t := 18) 56 56 (T + 29) (hT 0 (by decide)) rfl fgX10_124_10 dX10_keepCast_81 rfl rfl rfl ?_
      refine TGo.il dX10_keepCast_84 rfl ?_
      refine TGo.al0 dX10_keepCast_86 rfl ?_
      refine TGo.getS (t := 18) 55 55 (T + 28) (hT 0 (by decide)) rfl fgX10_121_10 dX10_keepCast_87 rfl rfl rfl ?_
      refine TGo.il dX10_keepCast_90 rfl ?_
      refine TGo.iald dX10_keepCast_92 (hT 28 (by decide)) (by omega) rfl ?_
      refine TGo.toz (c (j : Int)) ((congrFun (hf.1 _ (by simp)) _).trans (hca _ (by omega) (by omega))) ?_
      refine TGo.iast dX10_keepCast_93 (hT 29 (by decide)) (by omega) rfl ?_
      refine TGo.iinc dX10_keepCast_94 rfl rfl rfl ?_
      refine TGo.goto 74 dX10_keepCast_97 (by decide) ?_
      exact TGo.seq [some (.ref T), some (.int (iI (m : Int))), some (.int (iI (uZ c m).1)), some (.int (iI (uZ c m).2)), some (.int (iI ((((j + 1)) : Nat) : Int)))] [] _ (rfl) rfl rfl (ih (j + 1) _ (by omega) (by omega) (hz.t 29 rfl) ⟨hf.i (by simp), (u2_n (Or.inl (by omega))).trans h58, (u2_n (Or.inl (by omega))).trans h59, fun r h0 h1 => by
        by_cases e : r = (j : Int)
        · rw [e]; exact u2_s
        · exact (u2_n (Or.inr e)).trans (hx3 r h0 (by omega))⟩)
set_option maxHeartbeats 4000000 in
theorem lX10_keepCast {E : ET} {sh : SHT} {nn : Nat × Nat} {V : VT} {T : Nat} {z : ZT} {m : Nat} {c : Int → Int} {S : CST} (hT : MSh T sh) (hz : PE T V z) (hm : m ≤ 6) (hca : ∀ i, 0 ≤ i → i < (m : Int) → V.1 (T + 28) i = c i) (hc8 : ∀ i, 0 ≤ i → i < (m : Int) → 0 ≤ c i ∧ c i < 8) (hv : CSV T V m S) (hS : SB 1000000 S) : ∀ (n j : Nat), m - j < n → j ≤ m → TGo E mX10_keepCast 2 7 [some (.ref T), some (.int (iI (m : Int))), some (.int (iI (uZ c (j)).1)), some (.int (iI (uZ c (j)).2)), some (.int (iI (((j) : Nat) : Int)))] [] sh nn V (fun o sh' nn' V' => o = .inl none ∧ sh' = sh ∧ nn' = nn ∧ PE T V' z ∧ Fr [T, T + 29] V V' ∧ CSV T V' m (kpZ m c S)) := by
  intro n
  induction n with
  | zero => intro j h; omega
  | succ n ih =>
    intro j hn hj
    have hS1 := hS.1
    have hS2 := hS.2.1
    have hu := uZ_in hc8 j (by omega)
    have hu2 := uZ_in hc8 m (Nat.le_refl _)
    refine TGo.il dX10_keepCast_7 rfl ?_
    refine TGo.il1 dX10_keepCast_9 rfl ?_
    refine TGo.icmp_ge 53 dX10_keepCast_10 (by decide) (by omega) (fun h10 => ?_) (fun h10 => ?_)
    · refine TGo.il3 dX10_keepCast_53 rfl ?_
      refine TGo.al0 dX10_keepCast_54 rfl ?_
      refine TGo.getI (t := 18) 58 58 (hT 0 (by decide)) rfl fgX10_562_10 dX10_keepCast_55 rfl rfl rfl ?_
      refine TGo.toz _ hv.1 ?_
      refine TGo.icmp_ge 100 dX10_keepCast_58 (by decide) (by omega) (fun h58 => ?_) (fun h58 => ?_)
      · refine TGo.al0 dX10_keepCast_100 rfl ?_
        refine TGo.dup dX10_keepCast_101 rfl ?_
        refine TGo.getI (t := 18) 59 59 (hT 0 (by decide)) rfl fgX10_565_10 dX10_keepCast_102 rfl rfl rfl ?_
        refine TGo.toz _ hv.2.1 ?_
        refine TGo.il3 dX10_keepCast_105 rfl ?_
        refine TGo.al0 dX10_keepCast_106 rfl ?_
        refine TGo.getI (t := 18) 58 58 (hT 0 (by decide)) rfl fgX10_562_10 dX10_keepCast_107 rfl rfl rfl ?_
        refine TGo.toz _ hv.1 ?_
        refine TGo.icmp_ne 117 dX10_keepCast_110 (by decide) (by omega) (fun h110 => ?_) (fun h110 => ?_)
        · refine TGo.ic0 dX10_keepCast_117 ?_
          refine TGo.iadd dX10_keepCast_118 ?_
          refine TGo.putI (t := 18) 59 59 (hT 0 (by decide)) rfl fpX10_565_10 dX10_keepCast_119 rfl rfl rfl ?_
          refine TGo.vret dX10_keepCast_122 rfl ?_
          first
          | (exfalso; omega)
          | (obtain rfl : j = m := by omega
             refine ⟨rfl, rfl, rfl, (hz.s rfl), Fr.rf.i (by simp), ?_, ?_, ?_⟩
             · unfold kpZ; rw [if_neg (by omega)]; first | (rw [if_pos (by omega)]; exact (u2_n (Or.inr (by omega))).trans hv.1) | (rw [if_neg (by omega)]; exact (u2_n (Or.inr (by omega))).trans hv.1)
             · unfold kpZ; rw [if_neg (by omega)]; first | (rw [if_pos (by omega)]; exact u2_s) | (rw [if_neg (by omega)]; exact u2_s.trans (Int.add_zero _))
             · intro h2 i h0 h1
               have e : (kpZ j c S).2 i = S.2 i := by unfold kpZ; rw [if_neg (by omega)]; split <;> rfl
               have e2 : S.1.2 ≠ 0 := fun q => by
                 have q3 := hS.2.2 q
                 have q4 := uZ_2 c j
                 apply h2; unfold kpZ; rw [if_neg (by omega), if_neg (by omega)]; exact q
               rw [e]; exact (u2_n (Or.inl (by omega))).trans (hv.2.2 e2 i h0 h1))
        · refine TGo.ic1 dX10_keepCast_113 ?_
          refine TGo.goto 118 dX10_keepCast_114 (by decide) ?_
          refine TGo.iadd dX10_keepCast_118 ?_
          refine TGo.putI (t := 18) 59 59 (hT 0 (by decide)) rfl fpX10_565_10 dX10_keepCast_119 rfl rfl rfl ?_
          refine TGo.vret dX10_keepCast_122 rfl ?_
          first
          | (exfalso; omega)
          | (obtain rfl : j = m := by omega
             refine ⟨rfl, rfl, rfl, (hz.s rfl), Fr.rf.i (by simp), ?_, ?_, ?_⟩
             · unfold kpZ; rw [if_neg (by omega)]; first | (rw [if_pos (by omega)]; exact (u2_n (Or.inr (by omega))).trans hv.1) | (rw [if_neg (by omega)]; exact (u2_n (Or.inr (by omega))).trans hv.1)
             · unfold kpZ; rw [if_neg (by omega)]; first | (rw [if_pos (by omega)]; exact u2_s) | (rw [if_neg (by omega)]; exact u2_s.trans (Int.add_zero _))
             · intro h2 i h0 h1
               have e : (kpZ j c S).2 i = S.2 i := by unfold kpZ; rw [if_neg (by omega)]; split <;> rfl
               have e2 : S.1.2 ≠ 0 := fun q => by
                 have q3 := hS.2.2 q
                 have q4 := uZ_2 c j
                 apply h2; unfold kpZ; rw [if_neg (by omega), if_neg (by omega)]; exact q
               rw [e]; exact (u2_n (Or.inl (by omega))).trans (hv.2.2 e2 i h0 h1))
      · refine TGo.al0 dX10_keepCast_61 rfl ?_
        refine TGo.il3 dX10_keepCast_62 rfl ?_
        refine TGo.putI (t := 18) 58 58 (hT 0 (by decide)) rfl fpX10_562_10 dX10_keepCast_63 rfl rfl rfl ?_
        refine TGo.al0 dX10_keepCast_66 rfl ?_
        refine TGo.ic0 dX10_keepCast_67 ?_
        refine TGo.putI (t := 18) 59 59 (hT 0 (by decide)) rfl fpX10_565_10 dX10_keepCast_68 rfl rfl rfl ?_
        refine TGo.ic0 dX10_keepCast_71 ?_
        refine TGo.is dX10_keepCast_72 rfl rfl ?_
        obtain rfl : j = m := by omega
        exact TGo.seq [some (.ref T), some (.int (iI (j : Int))), some (.int (iI (uZ c j).1)), some (.int (iI (uZ c j).2)), some (.int (iI (((0 : Nat) : Int))))] [] _ rfl rfl rfl (iX10_keepCast (S := S) hT hm hca hc8 hS (by omega) (j + 1) 0 _ (by omega) (by omega) ((hz.s rfl).s rfl) ⟨(Fr.rf.i (by simp)).i (by simp), (u2_n (Or.inr (by omega))).trans u2_s, u2_s, fun i h0 h1 => absurd h1 (by omega)⟩)
    · refine TGo.il3 dX10_keepCast_13 rfl ?_
      refine TGo.il2 dX10_keepCast_14 rfl ?_
      refine TGo.al0 dX10_keepCast_15 rfl ?_
      refine TGo.getS (t := 18) 55 55 (T + 28) (hT 0 (by decide)) rfl fgX10_121_10 dX10_keepCast_16 rfl rfl rfl ?_
      refine TGo.il dX10_keepCast_19 rfl ?_
      have hc := hc8 (j : Int) (by omega) (by omega)
      have hox := iI_orx hu.1 hc
      have hbo := bZ_or ((uZ c j).1 / ((2 ^ (c (j : Int)).toNat : Nat) : Int) % 2 = 1)
      refine TGo.iald dX10_keepCast_21 (hT 28 (by decide)) (by omega) rfl ?_
      refine TGo.toz (c (j : Int)) (hca _ (by omega) (by omega)) ?_
      refine TGo.cF (csS2 (y2 := mX10_is) 1 rfl dX10_keepCast_22 q2480 q2481 okX10_is npX10_is rfl rfl) (kX10_is (by omega) (by omega)) ?_
      refine TGo.if_eq 32 dX10_keepCast_25 (by decide) (by omega) (fun h25 => ?_) (fun h25 => ?_)
      · refine TGo.ic1 dX10_keepCast_32 ?_
        refine TGo.iadd dX10_keepCast_33 ?_
        refine TGo.is3 dX10_keepCast_34 rfl rfl ?_
        refine TGo.il2 dX10_keepCast_35 rfl ?_
        refine TGo.ic1 dX10_keepCast_36 ?_
        refine TGo.al0 dX10_keepCast_37 rfl ?_
        refine TGo.getS (t := 18) 55 55 (T + 28) (hT 0 (by decide)) rfl fgX10_121_10 dX10_keepCast_38 rfl rfl rfl ?_
        refine TGo.il dX10_keepCast_41 rfl ?_
        refine TGo.iald dX10_keepCast_43 (hT 28 (by decide)) (by omega) rfl ?_
        refine TGo.toz (c (j : Int)) (hca _ (by omega) (by omega)) ?_
        refine TGo.ishl dX10_keepCast_44 ?_
        refine TGo.ior dX10_keepCast_45 ?_
        refine TGo.tos _ hox.1 ?_
        refine TGo.is2 dX10_keepCast_46 rfl rfl ?_
        refine TGo.iinc dX10_keepCast_47 rfl rfl rfl ?_
        refine TGo.goto 7 dX10_keepCast_50 (by decide) ?_
        first | (exfalso; omega) | exact TGo.seq [some (.ref T), some (.int (iI (m : Int))), some (.int (iI (uZ c ((j + 1))).1)), some (.int (iI (uZ c ((j + 1))).2)), some (.int (iI ((((j + 1)) : Nat) : Int)))] [] _ (by rw [uZ]; first | (rw [if_pos (bZ_1.mp (by omega)), if_pos (bZ_1.mp (by omega))]; simp only [Int.add_zero]; rfl) | (rw [if_neg (bZ_0.mp (by omega)), if_neg (bZ_0.mp (by omega))]; rfl)) rfl rfl (ih (j + 1) (by omega) (by omega))
      · refine TGo.ic0 dX10_keepCast_28 ?_
        refine TGo.goto 33 dX10_keepCast_29 (by decide) ?_
        refine TGo.iadd dX10_keepCast_33 ?_
        refine TGo.is3 dX10_keepCast_34 rfl rfl ?_
        refine TGo.il2 dX10_keepCast_35 rfl ?_
        refine TGo.ic1 dX10_keepCast_36 ?_
        refine TGo.al0 dX10_keepCast_37 rfl ?_
        refine TGo.getS (t := 18) 55 55 (T + 28) (hT 0 (by decide)) rfl fgX10_121_10 dX10_keepCast_38 rfl rfl rfl ?_
        refine TGo.il dX10_keepCast_41 rfl ?_
        refine TGo.iald dX10_keepCast_43 (hT 28 (by decide)) (by omega) rfl ?_
        refine TGo.toz (c (j : Int)) (hca _ (by omega) (by omega)) ?_
        refine TGo.ishl dX10_keepCast_44 ?_
        refine TGo.ior dX10_keepCast_45 ?_
        refine TGo.tos _ hox.1 ?_
        refine TGo.is2 dX10_keepCast_46 rfl rfl ?_
        refine TGo.iinc dX10_keepCast_47 rfl rfl rfl ?_
        refine TGo.goto 7 dX10_keepCast_50 (by decide) ?_
        first | (exfalso; omega) | exact TGo.seq [some (.ref T), some (.int (iI (m : Int))), some (.int (iI (uZ c ((j + 1))).1)), some (.int (iI (uZ c ((j + 1))).2)), some (.int (iI ((((j + 1)) : Nat) : Int)))] [] _ (by rw [uZ]; first | (rw [if_pos (bZ_1.mp (by omega)), if_pos (bZ_1.mp (by omega))]; simp only [Int.add_zero]; rfl) | (rw [if_neg (bZ_0.mp (by omega)), if_neg (bZ_0.mp (by omega))]; rfl)) rfl rfl (ih (j + 1) (by omega) (by omega))
set_option maxHeartbeats 4000000 in
theorem kX10_keepCast {E : ET} {sh : SHT} {nn : Nat × Nat} {V : VT} {T : Nat} {z : ZT} {m : Nat} {c : Int → Int} {S : CST} (hT : MSh T sh) (hz : PE T V z) (hm : m ≤ 6) (hca : ∀ i, 0 ≤ i → i < (m : Int) → V.1 (T + 28) i = c i) (hc8 : ∀ i, 0 ≤ i → i < (m : Int) → 0 ≤ c i ∧ c i < 8) (hv : CSV T V m S) (hS : SB 1000000 S) : TN E mX10_keepCast 2 [.ref T, .int (iI (m : Int))] sh nn V (fun V' => PE T V' z ∧ Fr [T, T + 29] V V' ∧ CSV T V' m (kpZ m c S)) := by
  refine TC.intro [some (.ref T), some (.int (iI (m : Int))), none, none, none] rfl ?_
  refine TGo.ic0 dX10_keepCast_0 ?_
  refine TGo.is2 dX10_keepCast_1 rfl rfl ?_
  refine TGo.ic0 dX10_keepCast_2 ?_
  refine TGo.is3 dX10_keepCast_3 rfl rfl ?_
  refine TGo.ic0 dX10_keepCast_4 ?_
  refine TGo.is dX10_keepCast_5 rfl rfl ?_
  exact lX10_keepCast hT hz hm hca hc8 hv hS (m + 1) 0 (by omega) (by omega)
theorem bZ_cs (p : Prop) [Decidable p] : (bZ p = 1 ∧ p) ∨ (bZ p = 0 ∧ ¬ p) := by
  by_cases h : p
  · exact Or.inl ⟨bZ_t h, h⟩
  · exact Or.inr ⟨bZ_f h, h⟩
set_option maxHeartbeats 4000000 in
theorem lX10_canPlay {E : ET} {sh : SHT} {nn : Nat × Nat} {V : VT} {T : Nat} {z : ZT} {k : Nat} {c : Int → Int} (hT : MSh T sh) (hz : PE T V z) (W : RWZ (z.2 3)) (hk : (k : Int) < z.2 3 0) (hmy : ∀ i, 0 ≤ i → i < 48 → V.1 (T + 30) i = myZ (z.2 3) i) (hca : ∀ i, 0 ≤ i → i ≤ (k : Int) → V.1 (T + 28) i = c i) (hc8 : ∀ i, 0 ≤ i → i ≤ (k : Int) → 0 ≤ c i ∧ c i < 8) : ∀ (n j : Nat), k - j < n → j ≤ k → TGo E mX10_canPlay 2 19 [some (.ref T), some (.int (iI (k : Int))), some (.int (iI (cpZ (z.2 3) c (k : Int) (j)))), some (.int (iI (((j) : Nat) : Int)))] [] sh nn V (fun o sh' nn' V' => o = .inl (some (.int (iI (cpZ (z.2 3) c (k : Int) k)))) ∧ sh' = sh ∧ nn' = nn ∧ V' = V) := by
  intro n
  induction n with
  | zero => intro j h; omega
  | succ n ih =>
    intro j hn hj
    have w0 := W.1.1
    have hck := hc8 (k : Int) (by omega) (by omega)
    have hcj := hc8 (j : Int) (by omega) (by omega)
    have hcp := cpZ_or (z.2 3) c (k : Int) j
    have hP := bZ_cs (z.2 3 (10 + 2 * (j : Int)) < z.2 3 (10 + 2 * (k : Int) + 1) ∧ z.2 3 (10 + 2 * (k : Int)) < z.2 3 (10 + 2 * (j : Int) + 1))
    refine TGo.il3 dX10_canPlay_19 rfl ?_
    refine TGo.il1 dX10_canPlay_20 rfl ?_
    refine TGo.icmp_ge 64 dX10_canPlay_21 (by decide) (by omega) (fun h21 => ?_) (fun h21 => ?_)
    · refine TGo.il2 dX10_canPlay_64 rfl ?_
      refine TGo.zret dX10_canPlay_65 rfl (by first | exact Or.inl rfl | exact Or.inr rfl | exact bZ_or _ | assumption) ?_
      obtain rfl : j = k := by omega
      exact ⟨rfl, rfl, rfl, rfl⟩
    · refine TGo.il2 dX10_canPlay_24 rfl ?_
      refine TGo.if_eq 56 dX10_canPlay_25 (by decide) (by omega) (fun h25 => ?_) (fun h25 => ?_)
      · refine TGo.ic0 dX10_canPlay_56 ?_
        refine TGo.is2 dX10_canPlay_57 rfl rfl ?_
        refine TGo.iinc dX10_canPlay_58 rfl rfl rfl ?_
        refine TGo.goto 19 dX10_canPlay_61 (by decide) ?_
        first | (exfalso; omega) | exact TGo.seq [some (.ref T), some (.int (iI (k : Int))), some (.int (iI (cpZ (z.2 3) c (k : Int) ((j + 1))))), some (.int (iI ((((j + 1)) : Nat) : Int)))] [] _ (by rw [cpZ]; first | (rw [if_pos (by omega)]; rfl) | (rw [if_neg (by omega)]; rfl)) rfl rfl (ih (j + 1) (by omega) (by omega))
      · refine TGo.al0 dX10_canPlay_28 rfl ?_
        refine TGo.getS (t := 18) 55 55 (T + 28) (hT 0 (by decide)) rfl fgX10_121_10 dX10_canPlay_29 rfl rfl rfl ?_
        refine TGo.il3 dX10_canPlay_32 rfl ?_
        refine TGo.iald dX10_canPlay_33 (hT 28 (by decide)) (by omega) rfl ?_
        refine TGo.toz (c (j : Int)) (hca _ (by omega) (by omega)) ?_
        refine TGo.al0 dX10_canPlay_34 rfl ?_
        refine TGo.getS (t := 18) 55 55 (T + 28) (hT 0 (by decide)) rfl fgX10_121_10 dX10_canPlay_35 rfl rfl rfl ?_
        refine TGo.il1 dX10_canPlay_38 rfl ?_
        refine TGo.iald dX10_canPlay_39 (hT 28 (by decide)) (by omega) rfl ?_
        refine TGo.toz (c (k : Int)) (hca _ (by omega) (by omega)) ?_
        refine TGo.icmp_ne 52 dX10_canPlay_40 (by decide) (by omega) (fun h40 => ?_) (fun h40 => ?_)
        · refine TGo.ic1 dX10_canPlay_52 ?_
          refine TGo.goto 57 dX10_canPlay_53 (by decide) ?_
          refine TGo.is2 dX10_canPlay_57 rfl rfl ?_
          refine TGo.iinc dX10_canPlay_58 rfl rfl rfl ?_
          refine TGo.goto 19 dX10_canPlay_61 (by decide) ?_
          first | (exfalso; omega) | exact TGo.seq [some (.ref T), some (.int (iI (k : Int))), some (.int (iI (cpZ (z.2 3) c (k : Int) ((j + 1))))), some (.int (iI ((((j + 1)) : Nat) : Int)))] [] _ (by rw [cpZ]; first | (rw [if_pos (by omega)]; rfl) | (rw [if_neg (by omega)]; rfl)) rfl rfl (ih (j + 1) (by omega) (by omega))
        · refine TGo.al0 dX10_canPlay_43 rfl ?_
          refine TGo.il3 dX10_canPlay_44 rfl ?_
          refine TGo.il1 dX10_canPlay_45 rfl ?_
          refine TGo.cF (csV2 (y2 := mX10_areTogether) (t := 18) 1 rfl (hT 0 (by decide)) rfl rfl dX10_canPlay_46 q2508 q2510 qs102 okX10_areTogether npX10_areTogether rfl rfl) (kX10_areTogether hT hz W (by omega) (by omega)) ?_
          refine TGo.if_ne 56 dX10_canPlay_49 (by decide) (by omega) (fun h49 => ?_) (fun h49 => ?_)
          · refine TGo.ic0 dX10_canPlay_56 ?_
            refine TGo.is2 dX10_canPlay_57 rfl rfl ?_
            refine TGo.iinc dX10_canPlay_58 rfl rfl rfl ?_
            refine TGo.goto 19 dX10_canPlay_61 (by decide) ?_
            first | (exfalso; omega) | exact TGo.seq [some (.ref T), some (.int (iI (k : Int))), some (.int (iI (cpZ (z.2 3) c (k : Int) ((j + 1))))), some (.int (iI ((((j + 1)) : Nat) : Int)))] [] _ (by rw [cpZ]; first | (rw [if_pos (by omega)]; rfl) | (rw [if_neg (by omega)]; rfl)) rfl rfl (ih (j + 1) (by omega) (by omega))
          · refine TGo.ic1 dX10_canPlay_52 ?_
            refine TGo.goto 57 dX10_canPlay_53 (by decide) ?_
            refine TGo.is2 dX10_canPlay_57 rfl rfl ?_
            refine TGo.iinc dX10_canPlay_58 rfl rfl rfl ?_
            refine TGo.goto 19 dX10_canPlay_61 (by decide) ?_
            first | (exfalso; omega) | exact TGo.seq [some (.ref T), some (.int (iI (k : Int))), some (.int (iI (cpZ (z.2 3) c (k : Int) ((j + 1))))), some (.int (iI ((((j + 1)) : Nat) : Int)))] [] _ (by rw [cpZ]; first | (rw [if_pos (by omega)]; rfl) | (rw [if_neg (by omega)]; rfl)) rfl rfl (ih (j + 1) (by omega) (by omega))
set_option maxHeartbeats 4000000 in
theorem kX10_canPlay {E : ET} {sh : SHT} {nn : Nat × Nat} {V : VT} {T : Nat} {z : ZT} {k : Nat} {c : Int → Int} (hT : MSh T sh) (hz : PE T V z) (W : RWZ (z.2 3)) (hk : (k : Int) < z.2 3 0) (hmy : ∀ i, 0 ≤ i → i < 48 → V.1 (T + 30) i = myZ (z.2 3) i) (hca : ∀ i, 0 ≤ i → i ≤ (k : Int) → V.1 (T + 28) i = c i) (hc8 : ∀ i, 0 ≤ i → i ≤ (k : Int) → 0 ≤ c i ∧ c i < 8) : TF E mX10_canPlay 2 [.ref T, .int (iI (k : Int))] sh nn V (.int (iI (cpZ (z.2 3) c (k : Int) k))) := by
  have w0 := W.1.1
  have hck := hc8 (k : Int) (by omega) (by omega)
  refine TC.intro [some (.ref T), some (.int (iI (k : Int))), none, none] rfl ?_
  refine TGo.al0 dX10_canPlay_0 rfl ?_
  refine TGo.getS (t := 18) 57 57 (T + 30) (hT 0 (by decide)) rfl fgX10_127_10 dX10_canPlay_1 rfl rfl rfl ?_
  refine TGo.bip 8 dX10_canPlay_4 (by decide) ?_
  refine TGo.il1 dX10_canPlay_6 rfl ?_
  refine TGo.imul dX10_canPlay_7 ?_
  refine TGo.al0 dX10_canPlay_8 rfl ?_
  refine TGo.getS (t := 18) 55 55 (T + 28) (hT 0 (by decide)) rfl fgX10_121_10 dX10_canPlay_9 rfl rfl rfl ?_
  refine TGo.il1 dX10_canPlay_12 rfl ?_
  refine TGo.iald dX10_canPlay_13 (hT 28 (by decide)) (by omega) rfl ?_
  refine TGo.toz (c (k : Int)) (hca _ (by omega) (by omega)) ?_
  refine TGo.iadd dX10_canPlay_14 ?_
  refine TGo.zald dX10_canPlay_15 (hT 30 (by decide)) (by omega) rfl ?_
  refine TGo.toz (cpZ (z.2 3) c (k : Int) 0) (hmy _ (by omega) (by omega)) ?_
  refine TGo.is2 dX10_canPlay_16 rfl rfl ?_
  refine TGo.ic0 dX10_canPlay_17 ?_
  refine TGo.is3 dX10_canPlay_18 rfl rfl ?_
  exact lX10_canPlay hT hz W hk hmy hca hc8 (k + 1) 0 (by omega) (by omega)
theorem CSV.u {T : Nat} {V : VT} {n : Nat} {S : CST} {i v : Int} (h : CSV T V n S) : CSV T (vI V (T + 28) i v) n S := ⟨(u2_n (Or.inl (by omega))).trans h.1, (u2_n (Or.inl (by omega))).trans h.2.1, fun q i h0 h1 => (u2_n (Or.inl (by omega))).trans (h.2.2 q i h0 h1)⟩
set_option maxHeartbeats 4000000 in
theorem vX10_findCast {E : ET} {sh : SHT} {nn : Nat × Nat} {T : Nat} {z : ZT} {N m k r : Nat} {c : Int → Int} {S0 : CST} {B : Int} {V0 : VT} {Q : AO → SHT → Nat × Nat → VT → Prop} (hT : MSh T sh) (W : RWZ (z.2 3)) (hm : z.2 3 0 = (m : Int)) (hN : z.2 3 1 = (N : Int)) (hmy : ∀ i, 0 ≤ i → i < 48 → V0.1 (T + 30) i = myZ (z.2 3) i) (hkr : k + r + 1 = m) (hc8 : ∀ i, 0 ≤ i → i < (k : Int) → 0 ≤ c i ∧ c i < 8) (hS : SB B S0) (hB : B + N * ((8 ^ r : Nat) : Int) ≤ 1000000) (D : ∀ r' : Nat, r = r' + 1 → ∀ (c1 : Int → Int) (S1 : CST) (B1 : Int) (V1 : VT), (∀ i, 0 ≤ i → i < (k : Int) + 1 → 0 ≤ c1 i ∧ c1 i < 8) → SB B1 S1 → B1 + N * ((8 ^ r' : Nat) : Int) ≤ 1000000 → PE T V1 z → Fr [T, T + 29, T + 28] V0 V1 → (∀ i, 0 ≤ i → i < (k : Int) + 1 → V1.1 (T + 28) i = c1 i) → V1.1 (T + 28) ((k : Int) + 1) = -1 → CSV T V1 m S1 → (∀ V2 : VT, PE T V2 z → Fr [T, T + 29, T + 28] V0 V2 → (∀ i, 0 ≤ i → i < (k : Int) + 1 → V2.1 (T + 28) i = c1 i) → CSV T V2 m (caT (z.2 3) N m (r' + 1) (k + 1) c1 S1) → TGo E mX10_findCast 6 116 [some (.ref T), some (.int (iI (z.2 3 0))), some (.int (iI ((k : Int))))] [] sh nn V2 Q) → TGo E mX10_findCast 6 116 [some (.ref T), some (.int (iI (z.2 3 0))), some (.int (iI ((k : Int) + 1)))] [] sh nn V1 Q) (K : ∀ V1 : VT, PE T V1 z → Fr [T, T + 29, T + 28] V0 V1 → (∀ i, 0 ≤ i → i < (k : Int) → V1.1 (T + 28) i = c i) → CSV T V1 m (caT (z.2 3) N m (r + 1) k c S0) → TGo E mX10_findCast 6 116 [some (.ref T), some (.int (iI (z.2 3 0))), some (.int (iI ((k : Int) + -1)))] [] sh nn V1 Q) : ∀ (n j : Nat) (V : VT), N - j < n → j ≤ N → PE T V z → (Fr [T, T + 29, T + 28] V0 V ∧ (∀ i, 0 ≤ i → i < (k : Int) → V.1 (T + 28) i = c i) ∧ V.1 (T + 28) (k : Int) = (j : Int) - 1 ∧ CSV T V m (fdZ (cgZ (z.2 3) N m r k c) j S0)) → TGo E mX10_findCast 6 116 [some (.ref T), some (.int (iI (z.2 3 0))), some (.int (iI ((k : Int))))] [] sh nn V Q := by
  intro n
  induction n with
  | zero => intro j V h; omega
  | succ n ih =>
    intro j V hn hj hz hx
    have w0 := W.1.1
    have w1 := W.1.2.1
    obtain ⟨hf, hx1, hx2, hx3⟩ := hx
    have hb := fd_b (f := z.2 3) (c := c) (k := k) hS (fun c S B h => caT_b (f := z.2 3) (n := N) (m := m) (by omega) (by omega) r (k + 1) c S B h) j
    have h8 : (0 : Int) ≤ ((8 ^ r : Nat) : Int) := Int.natCast_nonneg _
    have hc1 : ∀ i, 0 ≤ i → i < (k : Int) → (zu c (k : Int) (j : Int)) i = c i := fun i h0 h1 => zu_n (by omega)
    refine TGo.il2 dX10_findCast_116 rfl ?_
    refine TGo.if_lt 187 dX10_findCast_117 (by decide) (by omega) (fun h117 => ?_) (fun h117 => ?_)
    · refine TGo.vret dX10_findCast_187 rfl ?_
      exfalso; omega
    · refine TGo.al0 dX10_findCast_120 rfl ?_
      refine TGo.getS (t := 18) 55 55 (T + 28) (hT 0 (by decide)) rfl fgX10_121_10 dX10_findCast_121 rfl rfl rfl ?_
      refine TGo.il2 dX10_findCast_124 rfl ?_
      refine TGo.dup2 dX10_findCast_125 rfl rfl ?_
      refine TGo.iald dX10_findCast_126 (hT 28 (by decide)) (by omega) rfl ?_
      refine TGo.toz _ hx2 ?_
      refine TGo.ic1 dX10_findCast_127 ?_
      refine TGo.iadd dX10_findCast_128 ?_
      refine TGo.toz (j : Int) (by omega) ?_
      refine TGo.iast dX10_findCast_129 (hT 28 (by decide)) (by omega) rfl ?_
      refine TGo.al0 dX10_findCast_130 rfl ?_
      refine TGo.getS (t := 18) 55 55 (T + 28) (hT 0 (by decide)) rfl fgX10_121_10 dX10_findCast_131 rfl rfl rfl ?_
      refine TGo.il2 dX10_findCast_134 rfl ?_
      refine TGo.iald dX10_findCast_135 (hT 28 (by decide)) (by omega) rfl ?_
      refine TGo.toz (j : Int) u2_s ?_
      refine TGo.al0 dX10_findCast_136 rfl ?_
      refine TGo.getS (t := 18) 3 3 (T + 2) (hT 0 (by decide)) rfl fgX10_13_10 dX10_findCast_137 rfl rfl rfl ?_
      refine TGo.ic1 dX10_findCast_140 ?_
      refine TGo.iald dX10_findCast_141 (hT 2 (by decide)) (by omega) rfl ?_
      refine TGo.toz _ ((u2_n (Or.inl (by omega))).trans (hz.2.1 3 (by decide) _)) ?_
      refine TGo.icmp_lt 151 dX10_findCast_142 (by decide) (by omega) (fun h142 => ?_) (fun h142 => ?_)
      · have hca1 : ∀ i, 0 ≤ i → i ≤ (k : Int) → (vI V (T + 28) (k : Int) (j : Int)).1 (T + 28) i = (zu c (k : Int) (j : Int)) i := fun i h0 h1 => by
          by_cases e : i = (k : Int)
          · rw [e, zu_s]; exact u2_s
          · rw [zu_n e]; exact (u2_n (Or.inr e)).trans (hx1 i h0 (by omega))
        have hjm : (j : Int) * ((8 ^ r : Nat) : Int) + ((8 ^ r : Nat) : Int) ≤ N * ((8 ^ r : Nat) : Int) := by
          have := Int.mul_le_mul_of_nonneg_right (show (j : Int) + 1 ≤ N by omega) h8
          rw [Int.add_mul] at this
          omega
        have h81 : (1 : Int) ≤ ((8 ^ r : Nat) : Int) := Int.ofNat_le.mpr (Nat.one_le_pow _ _ (by decide))
        have hc18 : ∀ i, 0 ≤ i → i < (k : Int) + 1 → 0 ≤ (zu c (k : Int) (j : Int)) i ∧ (zu c (k : Int) (j : Int)) i < 8 := fun i h0 h1 => by
          by_cases e : i = (k : Int)
          · rw [e, zu_s]; omega
          · rw [zu_n e]; exact hc8 i h0 (by omega)
        have hcp := cpZ_or (z.2 3) (zu c (k : Int) (j : Int)) (k : Int) k
        refine TGo.al0 dX10_findCast_151 rfl ?_
        refine TGo.il2 dX10_findCast_152 rfl ?_
        refine TGo.cF (csV1 (y2 := mX10_canPlay) (t := 18) 2 rfl (hT 0 (by decide)) rfl rfl dX10_findCast_153 q2504 q2506 qs101 okX10_canPlay npX10_canPlay rfl rfl) (kX10_canPlay (c := (zu c (k : Int) (j : Int))) hT (hz.t 28 rfl) W (by omega) (fun i h0 h1 => (u2_n (Or.inl (by omega))).trans ((congrFun (hf.1 _ (by simp)) _).trans (hmy i h0 h1))) hca1 (fun i h0 h1 => hc18 i h0 (by omega))) ?_
        refine TGo.if_eq 116 dX10_findCast_156 (by decide) (by omega) (fun h156 => ?_) (fun h156 => ?_)
        · first | (exfalso; omega) | exact TGo.seq [some (.ref T), some (.int (iI (z.2 3 0))), some (.int (iI ((k : Int))))] [] _ (rfl) rfl rfl (ih (j + 1) _ (by omega) (by omega) (hz.t 28 rfl) ⟨hf.i (by simp), fun i h0 h1 => (u2_n (Or.inr (by omega))).trans (hx1 i h0 h1), u2_s.trans (by omega), by rw [fdZ]; unfold cgZ; rw [if_neg (by omega)]; exact hx3.u⟩)
        · refine TGo.il2 dX10_findCast_159 rfl ?_
          refine TGo.il1 dX10_findCast_160 rfl ?_
          refine TGo.ic1 dX10_findCast_161 ?_
          refine TGo.isub dX10_findCast_162 ?_
          refine TGo.icmp_ne 174 dX10_findCast_163 (by decide) (by omega) (fun h163 => ?_) (fun h163 => ?_)
          · refine TGo.iinc dX10_findCast_174 rfl rfl rfl ?_
            refine TGo.al0 dX10_findCast_177 rfl ?_
            refine TGo.getS (t := 18) 55 55 (T + 28) (hT 0 (by decide)) rfl fgX10_121_10 dX10_findCast_178 rfl rfl rfl ?_
            refine TGo.il2 dX10_findCast_181 rfl ?_
            refine TGo.icm1 dX10_findCast_182 ?_
            refine TGo.iast dX10_findCast_183 (hT 28 (by decide)) (by omega) rfl ?_
            obtain ⟨r', rfl⟩ : ∃ r', r = r' + 1 := ⟨r - 1, by omega⟩
            have hp8 : ((8 ^ (r' + 1) : Nat) : Int) = 8 * ((8 ^ r' : Nat) : Int) := by rw [Nat.pow_succ]; omega
            have hp9 : (0 : Int) ≤ ((8 ^ r' : Nat) : Int) := Int.natCast_nonneg _
            have hp7 : (N : Int) * ((8 ^ r' : Nat) : Int) ≤ 8 * ((8 ^ r' : Nat) : Int) := Int.mul_le_mul_of_nonneg_right (by omega) hp9
            refine TGo.goto 116 dX10_findCast_184 (by decide) ?_
            exact TGo.seq [some (.ref T), some (.int (iI (z.2 3 0))), some (.int (iI ((k : Int) + 1)))] [] _ rfl rfl rfl (D r' rfl (zu c (k : Int) (j : Int)) (fdZ (cgZ (z.2 3) N m (r' + 1) k c) j S0) _ _ hc18 hb (by omega) ((hz.t 28 rfl).t 28 rfl) ((hf.i (by simp)).i (by simp)) (fun i h0 h1 => (u2_n (Or.inr (by omega))).trans (hca1 i h0 (by omega))) u2_s hx3.u.u (fun V2 hz2 hf2 hca2 hv2 => ih (j + 1) V2 (by omega) (by omega) hz2 ⟨hf2, fun i h0 h1 => (hca2 i h0 (by omega)).trans (hc1 i h0 h1), ((hca2 (k : Int) (by omega) (by omega)).trans zu_s).trans (by omega), by rw [fdZ]; unfold cgZ; rw [if_pos (by omega)]; exact hv2⟩))
          · refine TGo.al0 dX10_findCast_166 rfl ?_
            refine TGo.il1 dX10_findCast_167 rfl ?_
            refine TGo.toz (m : Int) hm ?_
            refine TGo.cN (csV1 (y2 := mX10_keepCast) (t := 18) 2 rfl (hT 0 (by decide)) rfl rfl dX10_findCast_168 q2500 q2502 qs100 okX10_keepCast npX10_keepCast rfl rfl) (kX10_keepCast (c := (zu c (k : Int) (j : Int))) (S := (fdZ (cgZ (z.2 3) N m r k c) j S0)) hT (hz.t 28 rfl) (by omega) (fun i h0 h1 => hca1 i h0 (by omega)) (fun i h0 h1 => hc18 i h0 (by omega)) hx3.u (hb.le (by omega))) (fun V168 h168 => ?_)
            obtain ⟨hz168, hf168, hv168⟩ := h168
            obtain rfl : r = 0 := by omega
            refine TGo.goto 116 dX10_findCast_171 (by decide) ?_
            exact TGo.seq [some (.ref T), some (.int (iI (z.2 3 0))), some (.int (iI ((k : Int))))] [] _ rfl rfl rfl (ih (j + 1) _ (by omega) (by omega) hz168 ⟨(hf.i (by simp)).tr (hf168.sub (fun a h => by simp at h ⊢; omega)), fun i h0 h1 => (congrFun (hf168.1 _ (by simp)) _).trans ((u2_n (Or.inr (by omega))).trans (hx1 i h0 h1)), ((congrFun (hf168.1 _ (by simp)) _).trans u2_s).trans (by omega), by rw [fdZ]; unfold cgZ; rw [if_pos (by omega)]; exact hv168⟩)
      · first
        | (exfalso; omega)
        | (obtain rfl : j = N := by omega
           refine TGo.iinc dX10_findCast_145 rfl rfl rfl ?_
           refine TGo.goto 116 dX10_findCast_148 (by decide) ?_
           exact TGo.seq [some (.ref T), some (.int (iI (z.2 3 0))), some (.int (iI ((k : Int) + -1)))] [] _ rfl rfl rfl (K _ (hz.t 28 rfl) (hf.i (by simp)) (fun i h0 h1 => (u2_n (Or.inr (by omega))).trans (hx1 i h0 h1)) hx3.u))
theorem tX10_findCast {E : ET} {sh : SHT} {nn : Nat × Nat} {T : Nat} {z : ZT} {N m : Nat} {V0 : VT} {Q : AO → SHT → Nat × Nat → VT → Prop} (hT : MSh T sh) (W : RWZ (z.2 3)) (hm : z.2 3 0 = (m : Int)) (hN : z.2 3 1 = (N : Int)) (hmy : ∀ i, 0 ≤ i → i < 48 → V0.1 (T + 30) i = myZ (z.2 3) i) : ∀ (r k : Nat) (c : Int → Int) (S0 : CST) (B : Int) (V : VT), k + r + 1 = m → (∀ i, 0 ≤ i → i < (k : Int) → 0 ≤ c i ∧ c i < 8) → SB B S0 → B + N * ((8 ^ r : Nat) : Int) ≤ 1000000 → PE T V z → Fr [T, T + 29, T + 28] V0 V → (∀ i, 0 ≤ i → i < (k : Int) → V.1 (T + 28) i = c i) → V.1 (T + 28) (k : Int) = -1 → CSV T V m S0 → (∀ V1 : VT, PE T V1 z → Fr [T, T + 29, T + 28] V0 V1 → (∀ i, 0 ≤ i → i < (k : Int) → V1.1 (T + 28) i = c i) → CSV T V1 m (caT (z.2 3) N m (r + 1) k c S0) → TGo E mX10_findCast 6 116 [some (.ref T), some (.int (iI (z.2 3 0))), some (.int (iI ((k : Int) + -1)))] [] sh nn V1 Q) → TGo E mX10_findCast 6 116 [some (.ref T), some (.int (iI (z.2 3 0))), some (.int (iI ((k : Int))))] [] sh nn V Q := by
  intro r
  induction r with
  | zero =>
    intro k c S0 B V hkr hc8 hS hB hz hf hx1 hx2 hx3 K
    exact vX10_findCast (r := 0) (k := k) hT W hm hN hmy hkr hc8 hS hB (fun r' hr => by omega) K (N + 1) 0 V (by omega) (by omega) hz ⟨hf, hx1, by rw [hx2]; rfl, hx3⟩
  | succ r ih =>
    intro k c S0 B V hkr hc8 hS hB hz hf hx1 hx2 hx3 K
    refine vX10_findCast hT W hm hN hmy hkr hc8 hS hB (fun r' hr c1 S1 B1 V1 q1 q2 q3 q4 q5 q6 q7 q8 K1 => ?_) K (N + 1) 0 V (by omega) (by omega) hz ⟨hf, hx1, by rw [hx2]; rfl, hx3⟩
    obtain rfl : r' = r := by omega
    have e : ((k + 1 : Nat) : Int) = (k : Int) + 1 := by omega
    have h := ih (k + 1) c1 S1 B1 V1 (by omega) (by rw [e]; exact q1) q2 q3 q4 q5 (by rw [e]; exact q6) (by rw [e]; exact q7) q8 (fun V2 p1 p2 p3 p4 => by
      rw [show ((k + 1 : Nat) : Int) + -1 = (k : Int) by omega]
      exact K1 V2 p1 p2 (by rw [e] at p3; exact p3) p4)
    rw [e] at h
    exact h
set_option maxHeartbeats 4000000 in
theorem lX10_findCast {E : ET} {sh : SHT} {nn : Nat × Nat} {T : Nat} {z : ZT} {N m : Nat} (hT : MSh T sh) (W : RWZ (z.2 3)) (WL : LawsZ (z.2 3)) (h15 : z.1 15 = 0) (hm : z.2 3 0 = (m : Int)) (hN : z.2 3 1 = (N : Int)) : ∀ (n j : Nat) (V : VT), 48 - j < n → j ≤ 48 → PE T V z → (∀ i, 0 ≤ i → i < (j : Int) → V.1 (T + 30) i = myZ (z.2 3) i) → TGo E mX10_findCast 6 9 [some (.ref T), some (.int (iI (z.2 3 0))), some (.int (iI (((j) : Nat) : Int)))] [] sh nn V (fun o sh' nn' V' => o = .inl none ∧ sh' = sh ∧ nn' = nn ∧ PE T V' z ∧ CSV T V' m (caT (z.2 3) N m m 0 (fun _ => 0) ((1000000, 0), fun _ => 0))) := by
  intro n
  induction n with
  | zero => intro j V h; omega
  | succ n ih =>
    intro j V hn hj hz hx
    have w0 := W.1.1
    have w1 := W.1.2.1
    have w7 := W.1.2.2.2.2.2.2.2.1
    have em := bZ_cs ((j : Int) / 8 < z.2 3 0 ∧ (j : Int) % 8 < z.2 3 1 ∧ (z.2 3 (238 + 3 * ((j : Int) % 8)) ≤ z.2 3 7 ∧ z.2 3 7 < z.2 3 (238 + 3 * ((j : Int) % 8) + 1)) ∧ ¬ tellZ (z.2 3) 2 ((j : Int) % 8) ((j : Int) / 8) (-1) (z.2 3 7) 0 = 1)
    have em2 : myZ (z.2 3) (j : Int) = bZ ((j : Int) / 8 < z.2 3 0 ∧ (j : Int) % 8 < z.2 3 1 ∧ (z.2 3 (238 + 3 * ((j : Int) % 8)) ≤ z.2 3 7 ∧ z.2 3 7 < z.2 3 (238 + 3 * ((j : Int) % 8) + 1)) ∧ ¬ tellZ (z.2 3) 2 ((j : Int) % 8) ((j : Int) / 8) (-1) (z.2 3 7) 0 = 1) := rfl
    refine TGo.il2 dX10_findCast_9 rfl ?_
    refine TGo.bip 48 dX10_findCast_10 (by decide) ?_
    refine TGo.icmp_ge 85 dX10_findCast_12 (by decide) (by omega) (fun h12 => ?_) (fun h12 => ?_)
    · refine TGo.al0 dX10_findCast_85 rfl ?_
      refine TGo.ldcw 1000000 dX10_findCast_86 q2499 (by decide) ?_
      refine TGo.putI (t := 18) 58 58 (hT 0 (by decide)) rfl fpX10_562_10 dX10_findCast_89 rfl rfl rfl ?_
      refine TGo.al0 dX10_findCast_92 rfl ?_
      refine TGo.ic0 dX10_findCast_93 ?_
      refine TGo.putI (t := 18) 59 59 (hT 0 (by decide)) rfl fpX10_565_10 dX10_findCast_94 rfl rfl rfl ?_
      refine TGo.il1 dX10_findCast_97 rfl ?_
      refine TGo.if_ne 107 dX10_findCast_98 (by decide) (by omega) (fun h98 => ?_) (fun h98 => ?_)
      · refine TGo.ic0 dX10_findCast_107 ?_
        refine TGo.is2 dX10_findCast_108 rfl rfl ?_
        refine TGo.al0 dX10_findCast_109 rfl ?_
        refine TGo.getS (t := 18) 55 55 (T + 28) (hT 0 (by decide)) rfl fgX10_121_10 dX10_findCast_110 rfl rfl rfl ?_
        refine TGo.ic0 dX10_findCast_113 ?_
        refine TGo.icm1 dX10_findCast_114 ?_
        refine TGo.iast dX10_findCast_115 (hT 28 (by decide)) (by omega) rfl ?_
        obtain rfl : j = 48 := by omega
        refine TGo.seq [some (.ref T), some (.int (iI (z.2 3 0))), some (.int (iI (((0 : Nat) : Int))))] [] _ rfl rfl rfl (tX10_findCast (V0 := V) (c := fun _ => 0) (S0 := ((1000000, 0), fun _ => 0)) (B := 0) hT W hm hN hx (m - 1) 0 _ (by omega) (fun i h0 h1 => by omega) ⟨by decide, by decide, fun _ => rfl⟩ ?_ (((hz.s rfl).s rfl).t 28 rfl) (((Fr.rf.i (by simp)).i (by simp)).i (by simp)) (fun i h0 h1 => by omega) u2_s ⟨(u2_n (Or.inl (by omega))).trans ((u2_n (Or.inr (by omega))).trans u2_s), (u2_n (Or.inl (by omega))).trans u2_s, fun h => absurd rfl h⟩ (fun V1 hz1 hf1 _ hv1 => ?_))
        · have hp := Nat.pow_le_pow_right (n := 8) (by decide) (show m - 1 ≤ 5 by omega)
          have hp2 : ((8 ^ (m - 1) : Nat) : Int) ≤ 32768 := Int.ofNat_le.mpr hp
          have hp3 : (N : Int) * ((8 ^ (m - 1) : Nat) : Int) ≤ 8 * ((8 ^ (m - 1) : Nat) : Int) := Int.mul_le_mul_of_nonneg_right (by omega) (Int.natCast_nonneg _)
          omega
        · have e : m - 1 + 1 = m := by omega
          rw [e] at hv1
          refine TGo.il2 dX10_findCast_116 rfl ?_
          refine TGo.if_lt 187 dX10_findCast_117 (by decide) (by omega) (fun h117 => ?_) (fun h117 => absurd h117 (by omega))
          exact TGo.vret dX10_findCast_187 rfl ⟨rfl, rfl, rfl, hz1, hv1⟩
      · refine TGo.al0 dX10_findCast_101 rfl ?_
        refine TGo.ic0 dX10_findCast_102 ?_
        refine TGo.cN (csV1 (y2 := mX10_keepCast) (t := 18) 2 rfl (hT 0 (by decide)) rfl rfl dX10_findCast_103 q2500 q2502 qs100 okX10_keepCast npX10_keepCast rfl rfl) (kX10_keepCast (m := 0) (c := fun _ => 0) (S := ((1000000, 0), fun _ => 0)) hT ((hz.s rfl).s rfl) (by omega) (fun i h0 h1 => absurd h1 (by omega)) (fun i h0 h1 => absurd h1 (by omega)) ⟨(u2_n (Or.inr (by omega))).trans u2_s, u2_s, fun h => absurd rfl h⟩ ⟨by decide, by decide, fun _ => rfl⟩) (fun V103 h103 => ?_)
        obtain ⟨hz103, hf103, hv103⟩ := h103
        refine TGo.vret dX10_findCast_106 rfl ?_
        first
        | (exfalso; omega)
        | (obtain rfl : m = 0 := by omega
           exact ⟨rfl, rfl, rfl, hz103, hv103⟩)
    · refine TGo.al0 dX10_findCast_15 rfl ?_
      refine TGo.getS (t := 18) 57 57 (T + 30) (hT 0 (by decide)) rfl fgX10_127_10 dX10_findCast_16 rfl rfl rfl ?_
      refine TGo.il2 dX10_findCast_19 rfl ?_
      refine TGo.il2 dX10_findCast_20 rfl ?_
      refine TGo.bip 8 dX10_findCast_21 (by decide) ?_
      refine TGo.idiv dX10_findCast_23 (by omega) ?_
      refine TGo.il1 dX10_findCast_24 rfl ?_
      refine TGo.icmp_ge 77 dX10_findCast_25 (by decide) (by omega) (fun h25 => ?_) (fun h25 => ?_)
      · refine TGo.ic0 dX10_findCast_77 ?_
        refine TGo.zast dX10_findCast_78 (hT 30 (by decide)) (by omega) rfl (by first | exact Or.inl rfl | exact Or.inr rfl | exact bZ_or _ | assumption) ?_
        refine TGo.iinc dX10_findCast_79 rfl rfl rfl ?_
        refine TGo.goto 9 dX10_findCast_82 (by decide) ?_
        first | (exfalso; omega) | exact TGo.seq [some (.ref T), some (.int (iI (z.2 3 0))), some (.int (iI ((((j + 1)) : Nat) : Int)))] [] _ (rfl) rfl rfl (ih (j + 1) _ (by omega) (by omega) (hz.t 30 rfl) (fun i h0 h1 => by
          by_cases e : i = (j : Int)
          · rw [e]; exact u2_s.trans (by omega)
          · exact (u2_n (Or.inr e)).trans (by first | exact hx i h0 (by omega) | exact (hf67.1 _ _ (Or.inl (by omega))).trans (hx i h0 (by omega)))))
      · refine TGo.al0 dX10_findCast_28 rfl ?_
        refine TGo.il2 dX10_findCast_29 rfl ?_
        refine TGo.bip 8 dX10_findCast_30 (by decide) ?_
        refine TGo.irem dX10_findCast_32 (by omega) ?_
        refine TGo.cF (csV1 (y2 := mX10_isPerson) (t := 18) 2 rfl (hT 0 (by decide)) rfl rfl dX10_findCast_33 q2109 q2111 qs44 okX10_isPerson npX10_isPerson rfl rfl) (kX10_isPerson hT hz w1 (by omega)) ?_
        refine TGo.ifb_eq 77 dX10_findCast_36 (by decide) (fun h36 => ?_) (fun h36 => ?_)
        · refine TGo.ic0 dX10_findCast_77 ?_
          refine TGo.zast dX10_findCast_78 (hT 30 (by decide)) (by omega) rfl (by first | exact Or.inl rfl | exact Or.inr rfl | exact bZ_or _ | assumption) ?_
          refine TGo.iinc dX10_findCast_79 rfl rfl rfl ?_
          refine TGo.goto 9 dX10_findCast_82 (by decide) ?_
          first | (exfalso; omega) | exact TGo.seq [some (.ref T), some (.int (iI (z.2 3 0))), some (.int (iI ((((j + 1)) : Nat) : Int)))] [] _ (rfl) rfl rfl (ih (j + 1) _ (by omega) (by omega) (hz.t 30 rfl) (fun i h0 h1 => by
            by_cases e : i = (j : Int)
            · rw [e]; exact u2_s.trans (by omega)
            · exact (u2_n (Or.inr e)).trans (by first | exact hx i h0 (by omega) | exact (hf67.1 _ _ (Or.inl (by omega))).trans (hx i h0 (by omega)))))
        · refine TGo.al0 dX10_findCast_39 rfl ?_
          refine TGo.il2 dX10_findCast_40 rfl ?_
          refine TGo.bip 8 dX10_findCast_41 (by decide) ?_
          refine TGo.irem dX10_findCast_43 (by omega) ?_
          refine TGo.cF (csV1 (y2 := mX10_isAlive) (t := 18) 2 rfl (hT 0 (by decide)) rfl rfl dX10_findCast_44 q2121 q2123 qs46 okX10_isAlive npX10_isAlive rfl rfl) (kX10_isAlive hT hz W (by omega)) ?_
          refine TGo.ifb_eq 77 dX10_findCast_47 (by decide) (fun h47 => ?_) (fun h47 => ?_)
          · refine TGo.ic0 dX10_findCast_77 ?_
            refine TGo.zast dX10_findCast_78 (hT 30 (by decide)) (by omega) rfl (by first | exact Or.inl rfl | exact Or.inr rfl | exact bZ_or _ | assumption) ?_
            refine TGo.iinc dX10_findCast_79 rfl rfl rfl ?_
            refine TGo.goto 9 dX10_findCast_82 (by decide) ?_
            first | (exfalso; omega) | exact TGo.seq [some (.ref T), some (.int (iI (z.2 3 0))), some (.int (iI ((((j + 1)) : Nat) : Int)))] [] _ (rfl) rfl rfl (ih (j + 1) _ (by omega) (by omega) (hz.t 30 rfl) (fun i h0 h1 => by
              by_cases e : i = (j : Int)
              · rw [e]; exact u2_s.trans (by omega)
              · exact (u2_n (Or.inr e)).trans (by first | exact hx i h0 (by omega) | exact (hf67.1 _ _ (Or.inl (by omega))).trans (hx i h0 (by omega)))))
          · refine TGo.al0 dX10_findCast_50 rfl ?_
            refine TGo.il2 dX10_findCast_51 rfl ?_
            refine TGo.bip 8 dX10_findCast_52 (by decide) ?_
            refine TGo.irem dX10_findCast_54 (by omega) ?_
            refine TGo.il2 dX10_findCast_55 rfl ?_
            refine TGo.bip 8 dX10_findCast_56 (by decide) ?_
            refine TGo.idiv dX10_findCast_58 (by omega) ?_
            refine TGo.icm1 dX10_findCast_59 ?_
            refine TGo.al0 dX10_findCast_60 rfl ?_
            refine TGo.getS (t := 18) 3 3 (T + 2) (hT 0 (by decide)) rfl fgX10_13_10 dX10_findCast_61 rfl rfl rfl ?_
            refine TGo.bip 7 dX10_findCast_64 (by decide) ?_
            refine TGo.iald dX10_findCast_66 (hT 2 (by decide)) (by omega) rfl ?_
            refine TGo.toz _ (hz.2.1 3 (by decide) _) ?_
            refine TGo.cS (csV4 (y2 := mX10_isBarred) (t := 18) 5 rfl (hT 0 (by decide)) rfl rfl dX10_findCast_67 q2314 q2316 qs77 okX10_isBarred npX10_isBarred rfl rfl) (kX10_isBarred hT hz W WL h15 (by omega) (by omega) (by omega) (by omega)) (fun v67 V67 h67 => ?_)
            obtain ⟨rfl, hz67, hf67⟩ := h67
            refine TGo.ifb_ne 77 dX10_findCast_70 (by decide) (fun h70 => ?_) (fun h70 => ?_)
            · refine TGo.ic0 dX10_findCast_77 ?_
              refine TGo.zast dX10_findCast_78 (hT 30 (by decide)) (by omega) rfl (by first | exact Or.inl rfl | exact Or.inr rfl | exact bZ_or _ | assumption) ?_
              refine TGo.iinc dX10_findCast_79 rfl rfl rfl ?_
              refine TGo.goto 9 dX10_findCast_82 (by decide) ?_
              first | (exfalso; omega) | exact TGo.seq [some (.ref T), some (.int (iI (z.2 3 0))), some (.int (iI ((((j + 1)) : Nat) : Int)))] [] _ (rfl) rfl rfl (ih (j + 1) _ (by omega) (by omega) (hz67.t 30 rfl) (fun i h0 h1 => by
                by_cases e : i = (j : Int)
                · rw [e]; exact u2_s.trans (by omega)
                · exact (u2_n (Or.inr e)).trans (by first | exact hx i h0 (by omega) | exact (hf67.1 _ _ (Or.inl (by omega))).trans (hx i h0 (by omega)))))
            · refine TGo.ic1 dX10_findCast_73 ?_
              refine TGo.goto 78 dX10_findCast_74 (by decide) ?_
              refine TGo.zast dX10_findCast_78 (hT 30 (by decide)) (by omega) rfl (by first | exact Or.inl rfl | exact Or.inr rfl | exact bZ_or _ | assumption) ?_
              refine TGo.iinc dX10_findCast_79 rfl rfl rfl ?_
              refine TGo.goto 9 dX10_findCast_82 (by decide) ?_
              first | (exfalso; omega) | exact TGo.seq [some (.ref T), some (.int (iI (z.2 3 0))), some (.int (iI ((((j + 1)) : Nat) : Int)))] [] _ (rfl) rfl rfl (ih (j + 1) _ (by omega) (by omega) (hz67.t 30 rfl) (fun i h0 h1 => by
                by_cases e : i = (j : Int)
                · rw [e]; exact u2_s.trans (by omega)
                · exact (u2_n (Or.inr e)).trans (by first | exact hx i h0 (by omega) | exact (hf67.1 _ _ (Or.inl (by omega))).trans (hx i h0 (by omega)))))
set_option maxHeartbeats 4000000 in
theorem kX10_findCast {E : ET} {sh : SHT} {nn : Nat × Nat} {V : VT} {T : Nat} {z : ZT} {N m : Nat} (hT : MSh T sh) (hz : PE T V z) (W : RWZ (z.2 3)) (WL : LawsZ (z.2 3)) (h15 : z.1 15 = 0) (hm : z.2 3 0 = (m : Int)) (hN : z.2 3 1 = (N : Int)) : TN E mX10_findCast 6 [.ref T] sh nn V (fun V' => PE T V' z ∧ CSV T V' m (caT (z.2 3) N m m 0 (fun _ => 0) ((1000000, 0), fun _ => 0))) := by
  have w0 := W.1.1
  have w1 := W.1.2.1
  refine TC.intro [some (.ref T), none, none] rfl ?_
  refine TGo.al0 dX10_findCast_0 rfl ?_
  refine TGo.getS (t := 18) 3 3 (T + 2) (hT 0 (by decide)) rfl fgX10_13_10 dX10_findCast_1 rfl rfl rfl ?_
  refine TGo.ic0 dX10_findCast_4 ?_
  refine TGo.iald dX10_findCast_5 (hT 2 (by decide)) (by omega) rfl ?_
  refine TGo.toz _ (hz.2.1 3 (by decide) _) ?_
  refine TGo.is1 dX10_findCast_6 rfl rfl ?_
  refine TGo.ic0 dX10_findCast_7 ?_
  refine TGo.is2 dX10_findCast_8 rfl rfl ?_
  exact lX10_findCast hT W WL h15 hm hN 49 0 _ (by omega) (by omega) hz (fun i h0 h1 => by omega)
def caZ (f : Int → Int) : CST := caT f (f 1).toNat (f 0).toNat (f 0).toNat 0 (fun _ => 0) ((1000000, 0), fun _ => 0)
theorem caZ_b {f : Int → Int} (W : RWZ f) : SB 1000000 (caZ f) := by
  have w0 := W.1.1
  have w1 := W.1.2.1
  have hp := Nat.pow_le_pow_right (n := 8) (by decide) (show (f 0).toNat ≤ 6 by omega)
  have hp2 : ((8 ^ (f 0).toNat : Nat) : Int) ≤ 262144 := Int.ofNat_le.mpr hp
  exact (caT_b (f := f) (n := (f 1).toNat) (m := (f 0).toNat) (by omega) (by omega) (f 0).toNat 0 (fun _ => 0) ((1000000, 0), fun _ => 0) 0 ⟨by decide, by decide, fun _ => rfl⟩).le (by omega)
def zp_cast (z : ZT) (w : Int) : Int × ZT :=
  if ¬ ((0 ≤ w ∧ w ≤ z.2 3 0) ∨ w = 20) then (-1, z) else if w = 20 then ((caZ (z.2 3)).1.2, z) else if (caZ (z.2 3)).1.2 = 0 then (-1, z) else if w = 0 then ((caZ (z.2 3)).1.1, z) else ((caZ (z.2 3)).2 (w - 1), z)
set_option maxHeartbeats 4000000 in
theorem kX10_cast {E : ET} {sh : SHT} {nn : Nat × Nat} {V : VT} {T : Nat} {z : ZT} {w : Int} (hT : MSh T sh) (hz : PE T V z) (W : RWZ (z.2 3)) (WL : LawsZ (z.2 3)) (h15 : z.1 15 = 0) (rw : R32 w) : TC E mX10_cast 7 [.ref T, .int (iI w)] sh nn V (ZP T sh nn (zp_cast z w)) := by
  have w0 := W.1.1
  have w1 := W.1.2.1
  have hcb := caZ_b W
  refine TC.intro [some (.ref T), some (.int (iI w))] rfl ?_
  refine TGo.al0 dX10_cast_0 rfl ?_
  refine TGo.ic0 dX10_cast_1 ?_
  refine TGo.putI (t := 18) 0 0 (hT 0 (by decide)) rfl fpX10_163_10 dX10_cast_2 rfl rfl rfl ?_
  refine TGo.il1 dX10_cast_5 rfl ?_
  refine TGo.i2l dX10_cast_6 (by omega) ?_
  refine TGo.lc0 dX10_cast_7 ?_
  refine TGo.al0 dX10_cast_8 rfl ?_
  refine TGo.getS (t := 18) 3 3 (T + 2) (hT 0 (by decide)) rfl fgX10_13_10 dX10_cast_9 rfl rfl rfl ?_
  refine TGo.ic0 dX10_cast_12 ?_
  refine TGo.iald dX10_cast_13 (hT 2 (by decide)) (by omega) rfl ?_
  refine TGo.toz _ ((u2_n (Or.inl (by omega))).trans (hz.2.1 3 (by decide) _)) ?_
  refine TGo.i2l dX10_cast_14 (by omega) ?_
  refine TGo.cF (csS3 (y2 := mX10_in) 1 rfl dX10_cast_15 q2032 q2033 okX10_in npX10_in rfl rfl) (kX10_in (by omega) (by omega) (by omega)) ?_
  refine TGo.ifb_ne 29 dX10_cast_18 (by decide) (fun h18 => ?_) (fun h18 => ?_)
  · refine TGo.al0 dX10_cast_29 rfl ?_
    refine TGo.cN (csV0 (y2 := mX10_findCast) (t := 18) 6 rfl (hT 0 (by decide)) rfl rfl dX10_cast_30 q2495 q2497 qs99 okX10_findCast npX10_findCast rfl rfl) (kX10_findCast (m := (z.2 3 0).toNat) (N := (z.2 3 1).toNat) hT (hz.s rfl) W WL h15 (by omega) (by omega)) (fun V30 h30 => ?_)
    obtain ⟨hz30, hc0⟩ := h30
    have hc30 : CSV T V30 (z.2 3 0).toNat (caZ (z.2 3)) := hc0
    have hc31 := hcb.1
    have hc32 := hcb.2.1
    refine TGo.il1 dX10_cast_33 rfl ?_
    refine TGo.bip 20 dX10_cast_34 (by decide) ?_
    refine TGo.icmp_ne 44 dX10_cast_36 (by decide) (by omega) (fun h36 => ?_) (fun h36 => ?_)
    · refine TGo.al0 dX10_cast_44 rfl ?_
      refine TGo.getI (t := 18) 59 59 (hT 0 (by decide)) rfl fgX10_565_10 dX10_cast_45 rfl rfl rfl ?_
      refine TGo.toz _ hc30.2.1 ?_
      refine TGo.if_ne 55 dX10_cast_48 (by decide) (by omega) (fun h48 => ?_) (fun h48 => ?_)
      · refine TGo.il1 dX10_cast_55 rfl ?_
        refine TGo.if_ne 66 dX10_cast_56 (by decide) (by omega) (fun h56 => ?_) (fun h56 => ?_)
        · refine TGo.al0 dX10_cast_66 rfl ?_
          refine TGo.getS (t := 18) 56 56 (T + 29) (hT 0 (by decide)) rfl fgX10_124_10 dX10_cast_67 rfl rfl rfl ?_
          refine TGo.il1 dX10_cast_70 rfl ?_
          refine TGo.ic1 dX10_cast_71 ?_
          refine TGo.isub dX10_cast_72 ?_
          refine TGo.iald dX10_cast_73 (hT 29 (by decide)) (by omega) rfl ?_
          refine TGo.iret dX10_cast_74 rfl ?_
          first
          | (exfalso; omega)
          | (refine leafZ hz30 ?_
             unfold zp_cast
             (repeat (first | rw [if_pos (by first | rfl | assumption | omega)] | rw [if_neg (by first | decide | assumption | omega)]))
             (try first | rfl | rw [bZ_t (by first | assumption | omega)] | rw [bZ_f (by first | assumption | omega)] | rw [hc30.2.2 (by omega) (w - 1) (by omega) (by omega)]))
        · refine TGo.al0 dX10_cast_59 rfl ?_
          refine TGo.getI (t := 18) 58 58 (hT 0 (by decide)) rfl fgX10_562_10 dX10_cast_60 rfl rfl rfl ?_
          refine TGo.toz _ hc30.1 ?_
          refine TGo.goto 74 dX10_cast_63 (by decide) ?_
          refine TGo.iret dX10_cast_74 rfl ?_
          first
          | (exfalso; omega)
          | (refine leafZ hz30 ?_
             unfold zp_cast
             (repeat (first | rw [if_pos (by first | rfl | assumption | omega)] | rw [if_neg (by first | decide | assumption | omega)]))
             (try first | rfl | rw [bZ_t (by first | assumption | omega)] | rw [bZ_f (by first | assumption | omega)] | rw [hc30.2.2 (by omega) (w - 1) (by omega) (by omega)]))
      · refine TGo.icm1 dX10_cast_51 ?_
        refine TGo.goto 74 dX10_cast_52 (by decide) ?_
        refine TGo.iret dX10_cast_74 rfl ?_
        first
        | (exfalso; omega)
        | (refine leafZ hz30 ?_
           unfold zp_cast
           (repeat (first | rw [if_pos (by first | rfl | assumption | omega)] | rw [if_neg (by first | decide | assumption | omega)]))
           (try first | rfl | rw [bZ_t (by first | assumption | omega)] | rw [bZ_f (by first | assumption | omega)] | rw [hc30.2.2 (by omega) (w - 1) (by omega) (by omega)]))
    · refine TGo.al0 dX10_cast_39 rfl ?_
      refine TGo.getI (t := 18) 59 59 (hT 0 (by decide)) rfl fgX10_565_10 dX10_cast_40 rfl rfl rfl ?_
      refine TGo.toz _ hc30.2.1 ?_
      refine TGo.iret dX10_cast_43 rfl ?_
      first
      | (exfalso; omega)
      | (refine leafZ hz30 ?_
         unfold zp_cast
         (repeat (first | rw [if_pos (by first | rfl | assumption | omega)] | rw [if_neg (by first | decide | assumption | omega)]))
         (try first | rfl | rw [bZ_t (by first | assumption | omega)] | rw [bZ_f (by first | assumption | omega)] | rw [hc30.2.2 (by omega) (w - 1) (by omega) (by omega)]))
  · refine TGo.il1 dX10_cast_21 rfl ?_
    refine TGo.bip 20 dX10_cast_22 (by decide) ?_
    refine TGo.icmp_eq 29 dX10_cast_24 (by decide) (by omega) (fun h24 => ?_) (fun h24 => ?_)
    · refine TGo.al0 dX10_cast_29 rfl ?_
      refine TGo.cN (csV0 (y2 := mX10_findCast) (t := 18) 6 rfl (hT 0 (by decide)) rfl rfl dX10_cast_30 q2495 q2497 qs99 okX10_findCast npX10_findCast rfl rfl) (kX10_findCast (m := (z.2 3 0).toNat) (N := (z.2 3 1).toNat) hT (hz.s rfl) W WL h15 (by omega) (by omega)) (fun V30 h30 => ?_)
      obtain ⟨hz30, hc0⟩ := h30
      have hc30 : CSV T V30 (z.2 3 0).toNat (caZ (z.2 3)) := hc0
      have hc31 := hcb.1
      have hc32 := hcb.2.1
      refine TGo.il1 dX10_cast_33 rfl ?_
      refine TGo.bip 20 dX10_cast_34 (by decide) ?_
      refine TGo.icmp_ne 44 dX10_cast_36 (by decide) (by omega) (fun h36 => ?_) (fun h36 => ?_)
      · refine TGo.al0 dX10_cast_44 rfl ?_
        refine TGo.getI (t := 18) 59 59 (hT 0 (by decide)) rfl fgX10_565_10 dX10_cast_45 rfl rfl rfl ?_
        refine TGo.toz _ hc30.2.1 ?_
        refine TGo.if_ne 55 dX10_cast_48 (by decide) (by omega) (fun h48 => ?_) (fun h48 => ?_)
        · refine TGo.il1 dX10_cast_55 rfl ?_
          refine TGo.if_ne 66 dX10_cast_56 (by decide) (by omega) (fun h56 => ?_) (fun h56 => ?_)
          · refine TGo.al0 dX10_cast_66 rfl ?_
            refine TGo.getS (t := 18) 56 56 (T + 29) (hT 0 (by decide)) rfl fgX10_124_10 dX10_cast_67 rfl rfl rfl ?_
            refine TGo.il1 dX10_cast_70 rfl ?_
            refine TGo.ic1 dX10_cast_71 ?_
            refine TGo.isub dX10_cast_72 ?_
            refine TGo.iald dX10_cast_73 (hT 29 (by decide)) (by omega) rfl ?_
            refine TGo.iret dX10_cast_74 rfl ?_
            first
            | (exfalso; omega)
            | (refine leafZ hz30 ?_
               unfold zp_cast
               (repeat (first | rw [if_pos (by first | rfl | assumption | omega)] | rw [if_neg (by first | decide | assumption | omega)]))
               (try first | rfl | rw [bZ_t (by first | assumption | omega)] | rw [bZ_f (by first | assumption | omega)] | rw [hc30.2.2 (by omega) (w - 1) (by omega) (by omega)]))
          · refine TGo.al0 dX10_cast_59 rfl ?_
            refine TGo.getI (t := 18) 58 58 (hT 0 (by decide)) rfl fgX10_562_10 dX10_cast_60 rfl rfl rfl ?_
            refine TGo.toz _ hc30.1 ?_
            refine TGo.goto 74 dX10_cast_63 (by decide) ?_
            refine TGo.iret dX10_cast_74 rfl ?_
            first
            | (exfalso; omega)
            | (refine leafZ hz30 ?_
               unfold zp_cast
               (repeat (first | rw [if_pos (by first | rfl | assumption | omega)] | rw [if_neg (by first | decide | assumption | omega)]))
               (try first | rfl | rw [bZ_t (by first | assumption | omega)] | rw [bZ_f (by first | assumption | omega)] | rw [hc30.2.2 (by omega) (w - 1) (by omega) (by omega)]))
        · refine TGo.icm1 dX10_cast_51 ?_
          refine TGo.goto 74 dX10_cast_52 (by decide) ?_
          refine TGo.iret dX10_cast_74 rfl ?_
          first
          | (exfalso; omega)
          | (refine leafZ hz30 ?_
             unfold zp_cast
             (repeat (first | rw [if_pos (by first | rfl | assumption | omega)] | rw [if_neg (by first | decide | assumption | omega)]))
             (try first | rfl | rw [bZ_t (by first | assumption | omega)] | rw [bZ_f (by first | assumption | omega)] | rw [hc30.2.2 (by omega) (w - 1) (by omega) (by omega)]))
      · refine TGo.al0 dX10_cast_39 rfl ?_
        refine TGo.getI (t := 18) 59 59 (hT 0 (by decide)) rfl fgX10_565_10 dX10_cast_40 rfl rfl rfl ?_
        refine TGo.toz _ hc30.2.1 ?_
        refine TGo.iret dX10_cast_43 rfl ?_
        first
        | (exfalso; omega)
        | (refine leafZ hz30 ?_
           unfold zp_cast
           (repeat (first | rw [if_pos (by first | rfl | assumption | omega)] | rw [if_neg (by first | decide | assumption | omega)]))
           (try first | rfl | rw [bZ_t (by first | assumption | omega)] | rw [bZ_f (by first | assumption | omega)] | rw [hc30.2.2 (by omega) (w - 1) (by omega) (by omega)]))
    · refine TGo.icm1 dX10_cast_27 ?_
      refine TGo.iret dX10_cast_28 rfl ?_
      first
      | (exfalso; omega)
      | (refine leafZ (hz.s rfl) ?_
         unfold zp_cast
         (repeat (first | rw [if_pos (by first | rfl | assumption | omega)] | rw [if_neg (by first | decide | assumption | omega)]))
         (try first | rfl | rw [bZ_t (by first | assumption | omega)] | rw [bZ_f (by first | assumption | omega)] | rw [hc30.2.2 (by omega) (w - 1) (by omega) (by omega)]))
