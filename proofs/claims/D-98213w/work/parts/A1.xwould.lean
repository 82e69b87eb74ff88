/-! X: least, would -/
set_option maxRecDepth 100000
set_option maxHeartbeats 4000000 in
theorem iX9_finds {E : ET} {sh : SHT} {nn : Nat × Nat} {B : Nat} {ow : Nat → Nat} {z : ZT} {n1 r : Nat} {wt cu : Int} {Q : AO → SHT → Nat × Nat → VT → Prop} (W : RWZ (z.2 3)) (hn1 : z.2 3 6 = (n1 : Int)) (hr : r < 4) (K : ∀ (V : VT) (x4 : Option Value), XR ow sh nn V B z → (V.1 (B + 61) 3 = (oaZ (z.2 3) n1 (r + 1)).2 ∧ ∀ i, 0 ≤ i → i < (oaZ (z.2 3) n1 (r + 1)).2 → 742 + 3 * V.1 (B + 62) i = (oaZ (z.2 3) n1 (r + 1)).1 i) → TGo E mX9_finds 16 7 [some (.ref (B + 61)), some (.int (iI wt)), some (.int (iI cu)), some (.int (iI (((r + 1) : Nat) : Int))), x4] [] sh nn V Q) : ∀ (n j : Nat) (V : VT), n1 - j < n → j ≤ n1 → XR ow sh nn V B z → (V.1 (B + 61) 3 = (oiZ (z.2 3) (r : Int) (oaZ (z.2 3) n1 r) (j)).2 ∧ ∀ i, 0 ≤ i → i < (oiZ (z.2 3) (r : Int) (oaZ (z.2 3) n1 r) (j)).2 → 742 + 3 * V.1 (B + 62) i = (oiZ (z.2 3) (r : Int) (oaZ (z.2 3) n1 r) (j)).1 i) → TGo E mX9_finds 16 15 [some (.ref (B + 61)), some (.int (iI wt)), some (.int (iI cu)), some (.int (iI (r : Int))), some (.int (iI (((j) : Nat) : Int)))] [] sh nn V Q := by
  intro n
  induction n with
  | zero => intro j V h; omega
  | succ n ih =>
    intro j V hn hj hz hx
    obtain ⟨hB, how, hc, -⟩ := id hz
    have w6 := W.1.2.2.2.2.2.2.1
    have hle := oaZ_le W hn1 r (by omega) j hj
    have hle2 := hle.2 hr
    have hdd := fun (q : (j : Int) < (n1 : Int)) => W.2.2.2.2.2.2.2 (j : Int) (by omega) (by omega)
    have h00 := (oiZ_rows (f := z.2 3) (r := (r : Int)) (oaZ_rows (f := z.2 3) (N := n1) r).1 (oaZ_rows (f := z.2 3) (N := n1) r).2.1 (fun i i0 i1 => by have := (oaZ_rows (f := z.2 3) (N := n1) r).2.2 i i0 i1; omega) j).1
    refine TGo.il dX9_finds_15 rfl ?_
    refine TGo.al0 dX9_finds_17 rfl ?_
    refine TGo.getS (t := 17) 9 9 B (hB 61 (by decide)) rfl fgX9_3_9 dX9_finds_18 rfl rfl rfl ?_
    refine TGo.getS (t := 8) 2 2 (B + 2) (hB 0 (by decide)) rfl fgX9_29_0 dX9_finds_21 rfl rfl rfl ?_
    refine TGo.getI (t := 9) 10 10 (hB 2 (by decide)) rfl fgX9_33_1 dX9_finds_24 rfl rfl rfl ?_
    refine TGo.toz _ (hc.1.2.1.2.2.1) ?_
    refine TGo.icmp_ge 79 dX9_finds_27 (by decide) (by omega) (fun h27 => ?_) (fun h27 => ?_)
    · obtain rfl : j = n1 := by omega
      refine TGo.iinc dX9_finds_79 rfl rfl rfl ?_
      refine TGo.goto 7 dX9_finds_82 (by decide) ?_
      exact K V _ hz hx
    · have hdd := (hdd (by omega)).1
      refine TGo.al0 dX9_finds_30 rfl ?_
      refine TGo.getS (t := 17) 9 9 B (hB 61 (by decide)) rfl fgX9_3_9 dX9_finds_31 rfl rfl rfl ?_
      refine TGo.getS (t := 8) 2 2 (B + 2) (hB 0 (by decide)) rfl fgX9_29_0 dX9_finds_34 rfl rfl rfl ?_
      refine TGo.getS (t := 9) 3 3 (B + 24) (hB 2 (by decide)) rfl fgX9_38_1 dX9_finds_37 rfl rfl rfl ?_
      refine TGo.ic3 dX9_finds_40 ?_
      refine TGo.il dX9_finds_41 rfl ?_
      refine TGo.imul dX9_finds_43 ?_
      refine TGo.iald dX9_finds_44 (hB 24 (by decide)) (by omega) rfl ?_
      refine TGo.toz _ (hc.1.2.2.2.2.1 _ (by omega) (by omega)) ?_
      refine TGo.il3 dX9_finds_45 rfl ?_
      refine TGo.icmp_eq 52 dX9_finds_46 (by decide) (by omega) (fun h46 => ?_) (fun h46 => ?_)
      · have hlt := hle2.2 (by omega) (by omega)
        refine TGo.al0 dX9_finds_52 rfl ?_
        refine TGo.getS (t := 17) 0 0 (B + 62) (hB 61 (by decide)) rfl fgX9_15_9 dX9_finds_53 rfl rfl rfl ?_
        refine TGo.al0 dX9_finds_56 rfl ?_
        refine TGo.getI (t := 17) 3 3 (hB 61 (by decide)) rfl fgX9_25_9 dX9_finds_57 rfl rfl rfl ?_
        refine TGo.toz _ (hx.1) ?_
        refine TGo.il dX9_finds_60 rfl ?_
        refine TGo.iast dX9_finds_62 (hB 62 (by decide)) (by omega) rfl ?_
        refine TGo.al0 dX9_finds_63 rfl ?_
        refine TGo.dup dX9_finds_64 rfl ?_
        refine TGo.getI (t := 17) 3 3 (hB 61 (by decide)) rfl fgX9_25_9 dX9_finds_65 rfl rfl rfl ?_
        refine TGo.toz _ ((u2_n (Or.inl (by omega))).trans (hx.1)) ?_
        refine TGo.ic1 dX9_finds_68 ?_
        refine TGo.iadd dX9_finds_69 ?_
        refine TGo.putI (t := 17) 3 3 (hB 61 (by decide)) rfl fpX9_25_9 dX9_finds_70 rfl rfl rfl ?_
        refine TGo.iinc dX9_finds_73 rfl rfl rfl ?_
        refine TGo.goto 15 dX9_finds_76 (by decide) ?_
        exact TGo.seq [some (.ref (B + 61)), some (.int (iI wt)), some (.int (iI cu)), some (.int (iI (r : Int))), some (.int (iI ((((j + 1)) : Nat) : Int)))] [] _ (rfl) rfl rfl (ih (j + 1) _ (by omega) (by omega) (hz.sc ((FrS.rf.i 62 (by omega)).i 61 (by omega))) (by
          first
          | (rw [oiZ, if_neg (by omega)]; exact hx)
          | (rw [oiZ, if_pos (by omega)]
             refine ⟨u2_s, fun i i0 i1 => ?_⟩
             have i1 : i < (oiZ (z.2 3) (r : Int) (oaZ (z.2 3) n1 r) (j)).2 + 1 := i1
             show 742 + 3 * _ = zu (oiZ (z.2 3) (r : Int) (oaZ (z.2 3) n1 r) (j)).1 (oiZ (z.2 3) (r : Int) (oaZ (z.2 3) n1 r) (j)).2 (742 + 3 * (j : Int)) i
             by_cases e : i = (oiZ (z.2 3) (r : Int) (oaZ (z.2 3) n1 r) (j)).2
             · rw [e, zu_s]
               exact congrArg (fun q => 742 + 3 * q) ((u2_n (Or.inl (by omega))).trans u2_s)
             · rw [zu_n e, ← hx.2 i i0 (by omega)]
               exact congrArg (fun q => 742 + 3 * q) ((u2_n (Or.inl (by omega))).trans (u2_n (Or.inr e))))))
      · refine TGo.goto 73 dX9_finds_49 (by decide) ?_
        refine TGo.iinc dX9_finds_73 rfl rfl rfl ?_
        refine TGo.goto 15 dX9_finds_76 (by decide) ?_
        exact TGo.seq [some (.ref (B + 61)), some (.int (iI wt)), some (.int (iI cu)), some (.int (iI (r : Int))), some (.int (iI ((((j + 1)) : Nat) : Int)))] [] _ (rfl) rfl rfl (ih (j + 1) _ (by omega) (by omega) hz (by
          first
          | (rw [oiZ, if_neg (by omega)]; exact hx)
          | (rw [oiZ, if_pos (by omega)]
             refine ⟨u2_s, fun i i0 i1 => ?_⟩
             have i1 : i < (oiZ (z.2 3) (r : Int) (oaZ (z.2 3) n1 r) (j)).2 + 1 := i1
             show 742 + 3 * _ = zu (oiZ (z.2 3) (r : Int) (oaZ (z.2 3) n1 r) (j)).1 (oiZ (z.2 3) (r : Int) (oaZ (z.2 3) n1 r) (j)).2 (742 + 3 * (j : Int)) i
             by_cases e : i = (oiZ (z.2 3) (r : Int) (oaZ (z.2 3) n1 r) (j)).2
             · rw [e, zu_s]
               exact congrArg (fun q => 742 + 3 * q) ((u2_n (Or.inl (by omega))).trans u2_s)
             · rw [zu_n e, ← hx.2 i i0 (by omega)]
               exact congrArg (fun q => 742 + 3 * q) ((u2_n (Or.inl (by omega))).trans (u2_n (Or.inr e))))))
set_option maxHeartbeats 4000000 in
theorem jX9_finds {E : ET} {sh : SHT} {nn : Nat × Nat} {B : Nat} {ow : Nat → Nat} {z : ZT} {n1 : Nat} {wt cu : Int} {Q : AO → SHT → Nat × Nat → VT → Prop} (W : RWZ (z.2 3)) (hn1 : z.2 3 6 = (n1 : Int)) (K : ∀ (V : VT) (x4 : Option Value), XR ow sh nn V B z → (V.1 (B + 61) 3 = (oaZ (z.2 3) n1 (4)).2 ∧ ∀ i, 0 ≤ i → i < (oaZ (z.2 3) n1 (4)).2 → 742 + 3 * V.1 (B + 62) i = (oaZ (z.2 3) n1 (4)).1 i) → TGo E mX9_finds 16 85 [some (.ref (B + 61)), some (.int (iI wt)), some (.int (iI cu)), some (.int (iI (((4) : Nat) : Int))), x4] [] sh nn V Q) : ∀ (n j : Nat) (V : VT) (x4 : Option Value), 4 - j < n → j ≤ 4 → XR ow sh nn V B z → (V.1 (B + 61) 3 = (oaZ (z.2 3) n1 (j)).2 ∧ ∀ i, 0 ≤ i → i < (oaZ (z.2 3) n1 (j)).2 → 742 + 3 * V.1 (B + 62) i = (oaZ (z.2 3) n1 (j)).1 i) → TGo E mX9_finds 16 7 [some (.ref (B + 61)), some (.int (iI wt)), some (.int (iI cu)), some (.int (iI (((j) : Nat) : Int))), x4] [] sh nn V Q := by
  intro n
  induction n with
  | zero => intro j V x4 h; omega
  | succ n ih =>
    intro j V x4 hn hj hz hx
    obtain ⟨hB, how, hc, -⟩ := id hz
    refine TGo.il3 dX9_finds_7 rfl ?_
    refine TGo.ic4 dX9_finds_8 ?_
    refine TGo.icmp_ge 85 dX9_finds_9 (by decide) (by omega) (fun h9 => ?_) (fun h9 => ?_)
    · obtain rfl : j = 4 := by omega
      exact K V _ hz hx
    · refine TGo.ic0 dX9_finds_12 ?_
      refine TGo.is dX9_finds_13 rfl rfl ?_
      exact TGo.seq [some (.ref (B + 61)), some (.int (iI wt)), some (.int (iI cu)), some (.int (iI (j : Int))), some (.int (iI (((0) : Nat) : Int)))] [] _ rfl rfl rfl (iX9_finds (r := j) W hn1 (by omega) (fun V1 y hz1 h1 => ih (j + 1) V1 y (by omega) (by omega) hz1 h1) (n1 + 1) 0 V (by omega) (by omega) hz hx)
set_option maxHeartbeats 4000000 in
theorem fX9_finds {E : ET} {sh : SHT} {nn : Nat × Nat} {B : Nat} {ow : Nat → Nat} {z : ZT} {V0 : VT} {n1 mo : Nat} {wt cu : Int} {x4 : Option Value} {Q : AO → SHT → Nat × Nat → VT → Prop} (hle0 : (LeS B V0 n1 mo wt cu (odZ (z.2 3)))) (K : ∀ (V : VT), XR ow sh nn V B z → FrN B V0 V → LeW B V (fun _ => -1) (fun _ => -1) → LeA B V wt (0, 0) → TGo E mX9_finds 16 146 [some (.ref (B + 61)), some (.int (iI wt)), some (.int (iI cu)), some (.int (iI (((18) : Nat) : Int))), x4] [] sh nn V Q) : ∀ (n j : Nat) (V : VT), 18 - j < n → j ≤ 18 → XR ow sh nn V B z → (FrN B V0 V ∧ LeA B V wt (0, 0) ∧ (∀ i, 0 ≤ i → i < (j : Int) → V.1 (B + 63) i = -1) ∧ ∀ i, 0 ≤ i → i < (j : Int) → V.1 (B + 64) i = -1) → TGo E mX9_finds 16 120 [some (.ref (B + 61)), some (.int (iI wt)), some (.int (iI cu)), some (.int (iI (((j) : Nat) : Int))), x4] [] sh nn V Q := by
  intro n
  induction n with
  | zero => intro j V h; omega
  | succ n ih =>
    intro j V hn hj hz hx
    obtain ⟨hB, how, hc, -⟩ := id hz
    refine TGo.il3 dX9_finds_120 rfl ?_
    refine TGo.bip 18 dX9_finds_121 (by decide) ?_
    refine TGo.icmp_ge 146 dX9_finds_123 (by decide) (by omega) (fun h123 => ?_) (fun h123 => ?_)
    · obtain rfl : j = 18 := by omega
      exact K V hz hx.1 ⟨fun i i0 i1 => hx.2.2.1 i i0 (by omega), fun i i0 i1 => hx.2.2.2 i i0 (by omega)⟩ hx.2.1
    · refine TGo.al0 dX9_finds_126 rfl ?_
      refine TGo.getS (t := 17) 1 1 (B + 63) (hB 61 (by decide)) rfl fgX9_19_9 dX9_finds_127 rfl rfl rfl ?_
      refine TGo.il3 dX9_finds_130 rfl ?_
      refine TGo.icm1 dX9_finds_131 ?_
      refine TGo.iast dX9_finds_132 (hB 63 (by decide)) (by omega) rfl ?_
      refine TGo.al0 dX9_finds_133 rfl ?_
      refine TGo.getS (t := 17) 2 2 (B + 64) (hB 61 (by decide)) rfl fgX9_22_9 dX9_finds_134 rfl rfl rfl ?_
      refine TGo.il3 dX9_finds_137 rfl ?_
      refine TGo.icm1 dX9_finds_138 ?_
      refine TGo.iast dX9_finds_139 (hB 64 (by decide)) (by omega) rfl ?_
      refine TGo.iinc dX9_finds_140 rfl rfl rfl ?_
      refine TGo.goto 120 dX9_finds_143 (by decide) ?_
      exact TGo.seq [some (.ref (B + 61)), some (.int (iI wt)), some (.int (iI cu)), some (.int (iI ((((j + 1)) : Nat) : Int))), x4] [] _ (rfl) rfl rfl (ih (j + 1) _ (by omega) (by omega) (hz.sc ((FrS.rf.i 63 (by omega)).i 64 (by omega))) ⟨(hx.1.w (Or.inl rfl)).w (Or.inr rfl), (hx.2.1.o (Or.inl rfl)).o (Or.inr rfl), fun i i0 i1 => by
        by_cases e : i = (j : Int)
        · rw [e]; exact (u2_n (Or.inl (by omega))).trans u2_s
        · exact (u2_n (Or.inl (by omega))).trans ((u2_n (Or.inr e)).trans (hx.2.2.1 i i0 (by omega))), fun i i0 i1 => by
        by_cases e : i = (j : Int)
        · rw [e]; exact u2_s
        · exact (u2_n (Or.inr e)).trans ((u2_n (Or.inl (by omega))).trans (hx.2.2.2 i i0 (by omega)))⟩)
set_option maxHeartbeats 4000000 in
theorem lX9_finds {E : ET} {sh : SHT} {nn : Nat × Nat} {B : Nat} {ow : Nat → Nat} {z : ZT} {n1 : Nat} {wt cu r1 : Int} (W : RWZ (z.2 3)) (hn1 : z.2 3 6 = (n1 : Int)) (hn12 : n1 ≤ 12) (hcu : 0 ≤ cu ∧ cu < 6) (hr1 : 0 ≤ r1 ∧ r1 < 4) (hwt : wt = -1 ∨ wt = r1) : ∀ (n j : Nat) (V : VT) (x3 x4 : Option Value), 3 - j < n → j ≤ 3 → XR ow sh nn V B z → (LeS B V n1 (j + 1) wt cu (odZ (z.2 3)) ∧ ∀ k : Nat, k < j → (leR (z.2 3) r1 cu (k + 1)).1 ≤ 0) → TGo E mX9_finds 16 100 [some (.ref (B + 61)), some (.int (iI wt)), some (.int (iI cu)), x3, x4] [] sh nn V (fun ao sh' nn' V' => ∃ v, ao = .inl (some v) ∧ sh' = sh ∧ nn' = nn ∧ v = .int (iI (lfZ (z.2 3) r1 cu).1) ∧ XR ow sh nn V' B z ∧ ((lfZ (z.2 3) r1 cu).1 ≠ -1 → V'.1 (B + 61) 4 = (lfZ (z.2 3) r1 cu).2.1 ∧ (wt ≠ -1 → V'.1 (B + 61) 8 = (lfZ (z.2 3) r1 cu).2.2))) := by
  intro n
  induction n with
  | zero => intro j V x3 x4 h; omega
  | succ n ih =>
    intro j V x3 x4 hn hj hz hx
    obtain ⟨hle, hno⟩ := hx
    obtain ⟨hB, how, hc, -⟩ := id hz
    have w6 := W.1.2.2.2.2.2.2.1
    have en : n1 = (z.2 3 6).toNat := by omega
    have hof := (odZ_ok W).2
    have hro := odZ_rows W
    rw [← en] at hof hro
    refine TGo.al0 dX9_finds_100 rfl ?_
    refine TGo.getI (t := 17) 5 5 (hB 61 (by decide)) rfl fgX9_47_9 dX9_finds_101 rfl rfl rfl ?_
    refine TGo.toz _ (hle.2.1) ?_
    refine TGo.ic3 dX9_finds_104 ?_
    refine TGo.icmp_gt 178 dX9_finds_105 (by decide) (by omega) (fun h105 => ?_) (fun h105 => ?_)
    · refine TGo.icm1 dX9_finds_178 ?_
      refine TGo.iret dX9_finds_179 rfl ?_
      obtain rfl : j = 3 := by omega
      have hz3 := lfZ_n (f := z.2 3) (r1 := r1) (cu := cu) hno
      exact ⟨_, rfl, rfl, rfl, by rw [hz3], hz, fun q => absurd (by rw [hz3]) q⟩
    · refine TGo.al0 dX9_finds_108 rfl ?_
      refine TGo.ic0 dX9_finds_109 ?_
      refine TGo.putI (t := 17) 4 4 (hB 61 (by decide)) rfl fpX9_50_9 dX9_finds_110 rfl rfl rfl ?_
      refine TGo.al0 dX9_finds_113 rfl ?_
      refine TGo.ic0 dX9_finds_114 ?_
      refine TGo.putI (t := 17) 8 8 (hB 61 (by decide)) rfl fpX9_53_9 dX9_finds_115 rfl rfl rfl ?_
      refine TGo.ic0 dX9_finds_118 ?_
      refine TGo.is3 dX9_finds_119 rfl rfl ?_
      refine TGo.seq [some (.ref (B + 61)), some (.int (iI wt)), some (.int (iI cu)), some (.int (iI (((0) : Nat) : Int))), x4] [] _ rfl rfl rfl (fX9_finds (V0 := vI (vI V (B + 61) 4 0) (B + 61) 8 0) (hle.fr ((FrN.rf.m (Or.inl rfl)).m (Or.inr rfl))) (fun V1 hz1 hf1 hw1 ha1 => ?_) 19 0 _ (by omega) (by omega) (hz.sc ((FrS.rf.i 61 (by omega)).i 61 (by omega))) ⟨FrN.rf, ⟨(u2_n (Or.inr (by decide))).trans u2_s, fun _ => u2_s⟩, fun i i0 i1 => by omega, fun i i0 i1 => by omega⟩)
      have hle1 := (hle.fr ((FrN.rf.m (Or.inl rfl)).m (Or.inr rfl))).fr hf1
      refine TGo.al0 dX9_finds_146 rfl ?_
      refine TGo.ic0 dX9_finds_147 ?_
      refine TGo.ic0 dX9_finds_148 ?_
      refine TGo.ic1 dX9_finds_149 ?_
      refine TGo.cN (csV3 (y2 := mX9_tries) (t := 17) ((z.2 3 6).toNat + 3) (Nat.ble_eq_true_of_le (by omega)) (hB 61 (by decide)) rfl rfl dX9_finds_150 q1740 q1742 qs35 okX9_tries npX9_tries rfl rfl) (LsOK.all (z.2 3 6).toNat (Wd := fun _ => -1) (N := fun _ => -1) (S := fun _ => 0) (A := (0, 0)) (k := 0) (at0 := 0) (met := 1) (r1 := r1) (o := odZ (z.2 3)) (mo := j + 1) hz1 W hn1 hn12 hof hro hle1 hcu (by omega) hr1 hwt ⟨fun i _ _ => ⟨Int.le_refl _, by show (-1 : Int) ≤ 9; decide⟩, fun i _ _ => ⟨Int.le_refl _, by show (-1 : Int) < ((j + 1 : Nat) : Int); omega⟩⟩ (by omega) ⟨rfl, fun i i0 i1 => ⟨Int.le_refl _, by show (0 : Int) < ((j + 1 : Nat) : Int); omega⟩, fun i i0 i1 => absurd i1 (by omega)⟩ rfl (by omega) hw1 ha1 ⟨by decide, by decide, by decide⟩) (fun V150 h150 => ?_)
      rw [← en] at h150
      obtain ⟨hR150, hF150, hW150, hA150⟩ := h150
      have hle2 := hle1.fr hF150
      have hla : LeA B V150 wt (leR (z.2 3) r1 cu (j + 1)) := by unfold leR; rw [← en]; exact hA150
      have hlb := leR_b W (r1 := r1) hcu (s := j + 1) (by omega)
      have hlb1 := hlb.1
      refine TGo.al0 dX9_finds_153 rfl ?_
      refine TGo.getI (t := 17) 4 4 (hB 61 (by decide)) rfl fgX9_50_9 dX9_finds_154 rfl rfl rfl ?_
      refine TGo.toz _ (hla.1) ?_
      refine TGo.if_le 165 dX9_finds_157 (by decide) (by omega) (fun h157 => ?_) (fun h157 => ?_)
      · refine TGo.al0 dX9_finds_165 rfl ?_
        refine TGo.dup dX9_finds_166 rfl ?_
        refine TGo.getI (t := 17) 5 5 (hB 61 (by decide)) rfl fgX9_47_9 dX9_finds_167 rfl rfl rfl ?_
        refine TGo.toz _ (hle2.2.1) ?_
        refine TGo.ic1 dX9_finds_170 ?_
        refine TGo.iadd dX9_finds_171 ?_
        refine TGo.putI (t := 17) 5 5 (hB 61 (by decide)) rfl fpX9_47_9 dX9_finds_172 rfl rfl rfl ?_
        refine TGo.goto 100 dX9_finds_175 (by decide) ?_
        exact TGo.seq [some (.ref (B + 61)), some (.int (iI wt)), some (.int (iI cu)), _, _] [] _ (rfl) rfl rfl (ih (j + 1) _ _ _ (by omega) (by omega) (hR150.sc (FrS.rf.i 61 (by omega))) ⟨⟨(u2_n (Or.inr (by decide))).trans hle2.1, u2_s, (u2_n (Or.inr (by decide))).trans hle2.2.2.1, (u2_n (Or.inr (by decide))).trans hle2.2.2.2.1, fun i i0 i1 => (congrArg (fun q => 742 + 3 * q) (u2_n (Or.inl (by omega)))).trans (hle2.2.2.2.2 i i0 i1)⟩, fun k hk => by
          by_cases e : k = j
          · rw [e]; omega
          · exact hno k (by omega)⟩)
      · refine TGo.al0 dX9_finds_160 rfl ?_
        refine TGo.getI (t := 17) 5 5 (hB 61 (by decide)) rfl fgX9_47_9 dX9_finds_161 rfl rfl rfl ?_
        refine TGo.toz _ (hle2.2.1) ?_
        refine TGo.iret dX9_finds_164 rfl ?_
        have hz := lfZ_s (f := z.2 3) (r1 := r1) (cu := cu) (s := j) (by omega) hno (by omega)
        exact ⟨_, rfl, rfl, rfl, by rw [hz]; rfl, hR150, fun _ => by rw [hz]; exact hla⟩
set_option maxHeartbeats 4000000 in
theorem kX9_finds {E : ET} {sh : SHT} {nn : Nat × Nat} {V : VT} {B : Nat} {ow : Nat → Nat} {z : ZT} {wt cu : Int} (hR : XR ow sh nn V B z) (W : RWZ (z.2 3)) {r1 : Int} (hcu : 0 ≤ cu ∧ cu < 6) (hr1 : 0 ≤ r1 ∧ r1 < 4) (hwt : wt = -1 ∨ wt = r1) : TS E mX9_finds 16 [.ref (B + 61), .int (iI wt), .int (iI cu)] sh nn V (fun v V' => v = .int (iI (lfZ (z.2 3) r1 cu).1) ∧ XR ow sh nn V' B z ∧ ((lfZ (z.2 3) r1 cu).1 ≠ -1 → V'.1 (B + 61) 4 = (lfZ (z.2 3) r1 cu).2.1 ∧ (wt ≠ -1 → V'.1 (B + 61) 8 = (lfZ (z.2 3) r1 cu).2.2))) := by
  obtain ⟨hB, -, hc, -⟩ := id hR
  have w6 := W.1.2.2.2.2.2.2.1
  obtain ⟨n1, hn1⟩ : ∃ n1 : Nat, z.2 3 6 = (n1 : Int) := ⟨(z.2 3 6).toNat, by omega⟩
  refine TC.intro [some (.ref (B + 61)), some (.int (iI wt)), some (.int (iI cu)), none, none] rfl ?_
  refine TGo.al0 dX9_finds_0 rfl ?_
  refine TGo.ic0 dX9_finds_1 ?_
  refine TGo.putI (t := 17) 3 3 (hB 61 (by decide)) rfl fpX9_25_9 dX9_finds_2 rfl rfl rfl ?_
  refine TGo.ic0 dX9_finds_5 ?_
  refine TGo.is3 dX9_finds_6 rfl rfl ?_
  refine jX9_finds W hn1 (fun V1 x4 hz1 h1 => ?_) 5 0 _ _ (by omega) (by omega) (hR.sc (FrS.rf.i 61 (by omega))) ⟨u2_s, fun i i0 i1 => by have i1 : i < 0 := i1; omega⟩
  have en : (z.2 3 6).toNat = n1 := by omega
  have hod := (odZ_ok W).1
  rw [en] at hod
  refine TGo.al0 dX9_finds_85 rfl ?_
  refine TGo.il1 dX9_finds_86 rfl ?_
  refine TGo.putI (t := 17) 6 6 (hB 61 (by decide)) rfl fpX9_41_9 dX9_finds_87 rfl rfl rfl ?_
  refine TGo.al0 dX9_finds_90 rfl ?_
  refine TGo.il2 dX9_finds_91 rfl ?_
  refine TGo.putI (t := 17) 7 7 (hB 61 (by decide)) rfl fpX9_44_9 dX9_finds_92 rfl rfl rfl ?_
  refine TGo.al0 dX9_finds_95 rfl ?_
  refine TGo.ic1 dX9_finds_96 ?_
  refine TGo.putI (t := 17) 5 5 (hB 61 (by decide)) rfl fpX9_47_9 dX9_finds_97 rfl rfl rfl ?_
  refine lX9_finds (n1 := n1) (r1 := r1) W hn1 (by omega) hcu hr1 hwt 4 0 _ _ _ (by omega) (by omega) (hz1.sc (((FrS.rf.i 61 (by omega)).i 61 (by omega)).i 61 (by omega))) ⟨⟨?_, u2_s, ?_, ?_, fun i i0 i1 => ?_⟩, fun k hk => by omega⟩
  · exact (u2_n (Or.inr (by decide))).trans ((u2_n (Or.inr (by decide))).trans ((u2_n (Or.inr (by decide))).trans (h1.1.trans (by omega))))
  · exact (u2_n (Or.inr (by decide))).trans ((u2_n (Or.inr (by decide))).trans u2_s)
  · exact (u2_n (Or.inr (by decide))).trans u2_s
  · refine (congrArg (fun q => 742 + 3 * q) ((u2_n (Or.inl (by omega))).trans ((u2_n (Or.inl (by omega))).trans (u2_n (Or.inl (by omega)))))).trans ((h1.2 i i0 (by omega)).trans ?_)
    unfold odZ
    rw [en]
theorem lfZ_0 {f : Int → Int} (W : RWZ f) {r1 cu : Int} (hcu : 0 ≤ cu ∧ cu < 6) (h : (lfZ f r1 cu).1 = -1) : (lfZ f r1 cu).2.1 = 0 := by
  have h3 := (leR_b W (r1 := r1) hcu (s := 3) (by omega)).1
  unfold lfZ at h ⊢
  by_cases e1 : 0 < (leR f r1 cu 1).1
  · rw [if_pos e1] at h; exact absurd (show (1 : Int) = -1 from h) (by decide)
  · rw [if_neg e1] at h ⊢
    by_cases e2 : 0 < (leR f r1 cu 2).1
    · rw [if_pos e2] at h; exact absurd (show (2 : Int) = -1 from h) (by decide)
    · rw [if_neg e2] at h ⊢
      by_cases e3 : 0 < (leR f r1 cu 3).1
      · rw [if_pos e3] at h; exact absurd (show (3 : Int) = -1 from h) (by decide)
      · rw [if_neg e3]
        show (leR f r1 cu 3).1 = 0
        omega
set_option maxHeartbeats 4000000 in
theorem kX0_least {E : ET} {sh : SHT} {nn : Nat × Nat} {V : VT} {B : Nat} {ow : Nat → Nat} {z : ZT} {w : Int} (hR : XR ow sh nn V B z) (W : RWZ (z.2 3))  (rw : R32 w) : TC E mX0_least 17 [.ref B, .int (iI w)] sh nn V (XP B nn (zp_least z w)) := by
  obtain ⟨hB, -, hc, -⟩ := id hR
  have w6 := W.1.2.2.2.2.2.2.1
  refine TC.intro [some (.ref B), some (.int (iI w)), none] rfl ?_
  refine TGo.il1 dX0_least_0 rfl ?_
  refine TGo.ic0 dX0_least_1 ?_
  refine TGo.ic1 dX0_least_2 ?_
  refine TGo.cF (csS3 (y2 := mX0_in) 1 rfl dX0_least_3 q598 q599 okX0_in npX0_in rfl rfl) (kX0_in (by omega) (by omega) (by omega)) ?_
  refine TGo.ifb_ne 11 dX0_least_6 (by decide) (fun h6 => ?_) (fun h6 => ?_)
  · refine TGo.al0 dX0_least_11 rfl ?_
    refine TGo.getS (t := 8) 17 17 (B + 61) (hB 0 (by decide)) rfl fgX0_88_0 dX0_least_12 rfl rfl rfl ?_
    refine TGo.icm1 dX0_least_15 ?_
    refine TGo.ic0 dX0_least_16 ?_
    refine TGo.cS (csV2 (y2 := mX9_finds) (t := 17) 16 rfl (hB 61 (by decide)) rfl rfl dX0_least_17 q1736 q1737 q1738 okX9_finds npX9_finds rfl rfl) (kX9_finds (r1 := 0) hR W (by omega) (by omega) (by omega)) (fun v17 V17 h17 => ?_)
    obtain ⟨rfl, hRf, hff⟩ := h17
    have hlb := lfZ_b W (r1 := 0) (cu := 0) (by omega)
    have hlb1 := hlb.2.1
    have hlb2 := hlb.2.2
    refine TGo.is2 dX0_least_20 rfl rfl ?_
    refine TGo.il1 dX0_least_21 rfl ?_
    refine TGo.if_ne 29 dX0_least_22 (by decide) (by omega) (fun h22 => ?_) (fun h22 => ?_)
    · refine TGo.il2 dX0_least_29 rfl ?_
      refine TGo.icm1 dX0_least_30 ?_
      refine TGo.icmp_ne 38 dX0_least_31 (by decide) (by omega) (fun h31 => ?_) (fun h31 => ?_)
      · refine TGo.al0 dX0_least_38 rfl ?_
        refine TGo.getS (t := 8) 17 17 (B + 61) (hB 0 (by decide)) rfl fgX0_88_0 dX0_least_39 rfl rfl rfl ?_
        refine TGo.getI (t := 17) 4 4 (hB 61 (by decide)) rfl fgX0_490_9 dX0_least_42 rfl rfl rfl ?_
        refine TGo.toz _ ((hff (by omega)).1) ?_
        refine TGo.iret dX0_least_45 rfl ?_
        first
        | (exfalso; omega)
        | (refine hR.same ?_
           unfold zp_least
           rw [if_pos (by omega)])
        | (refine hRf.same ?_
           unfold zp_least
           rw [if_neg (by omega)]
           first
           | (rw [if_pos (show w = 0 by omega)])
           | (rw [if_neg (show ¬ w = 0 by omega)]; done)
           | (rw [if_neg (show ¬ w = 0 by omega)]
              have e2 : (lfZ (z.2 3) 0 0).2.1 = 0 := lfZ_0 W (by omega) (by omega)
              rw [e2]))
      · refine TGo.ic0 dX0_least_34 ?_
        refine TGo.goto 45 dX0_least_35 (by decide) ?_
        refine TGo.iret dX0_least_45 rfl ?_
        first
        | (exfalso; omega)
        | (refine hR.same ?_
           unfold zp_least
           rw [if_pos (by omega)])
        | (refine hRf.same ?_
           unfold zp_least
           rw [if_neg (by omega)]
           first
           | (rw [if_pos (show w = 0 by omega)])
           | (rw [if_neg (show ¬ w = 0 by omega)]; done)
           | (rw [if_neg (show ¬ w = 0 by omega)]
              have e2 : (lfZ (z.2 3) 0 0).2.1 = 0 := lfZ_0 W (by omega) (by omega)
              rw [e2]))
    · refine TGo.il2 dX0_least_25 rfl ?_
      refine TGo.goto 45 dX0_least_26 (by decide) ?_
      refine TGo.iret dX0_least_45 rfl ?_
      first
      | (exfalso; omega)
      | (refine hR.same ?_
         unfold zp_least
         rw [if_pos (by omega)])
      | (refine hRf.same ?_
         unfold zp_least
         rw [if_neg (by omega)]
         first
         | (rw [if_pos (show w = 0 by omega)])
         | (rw [if_neg (show ¬ w = 0 by omega)]; done)
         | (rw [if_neg (show ¬ w = 0 by omega)]
            have e2 : (lfZ (z.2 3) 0 0).2.1 = 0 := lfZ_0 W (by omega) (by omega)
            rw [e2]))
  · refine TGo.icm1 dX0_least_9 ?_
    refine TGo.iret dX0_least_10 rfl ?_
    first
    | (exfalso; omega)
    | (refine hR.same ?_
       unfold zp_least
       rw [if_pos (by omega)])
    | (refine hRf.same ?_
       unfold zp_least
       rw [if_neg (by omega)]
       first
       | (rw [if_pos (show w = 0 by omega)])
       | (rw [if_neg (show ¬ w = 0 by omega)]; done)
       | (rw [if_neg (show ¬ w = 0 by omega)]
          have e2 : (lfZ (z.2 3) 0 0).2.1 = 0 := lfZ_0 W (by omega) (by omega)
          rw [e2]))
set_option maxHeartbeats 4000000 in
theorem kX0_would {E : ET} {sh : SHT} {nn : Nat × Nat} {V : VT} {B : Nat} {ow : Nat → Nat} {z : ZT} {r c : Int} (hR : XR ow sh nn V B z) (W : RWZ (z.2 3))  (rr : R32 r) (rc : R32 c) : TC E mX0_would 17 [.ref B, .int (iI r), .int (iI c)] sh nn V (XP B nn (zp_would z r c)) := by
  obtain ⟨hB, -, hc, -⟩ := id hR
  have w6 := W.1.2.2.2.2.2.2.1
  refine TC.intro [some (.ref B), some (.int (iI r)), some (.int (iI c))] rfl ?_
  refine TGo.il1 dX0_would_0 rfl ?_
  refine TGo.ic0 dX0_would_1 ?_
  refine TGo.ic3 dX0_would_2 ?_
  refine TGo.cF (csS3 (y2 := mX0_in) 1 rfl dX0_would_3 q598 q599 okX0_in npX0_in rfl rfl) (kX0_in (by omega) (by omega) (by omega)) ?_
  refine TGo.ifb_eq 18 dX0_would_6 (by decide) (fun h6 => ?_) (fun h6 => ?_)
  · refine TGo.icm1 dX0_would_18 ?_
    refine TGo.iret dX0_would_19 rfl ?_
    first
    | (exfalso; omega)
    | (refine hR.same ?_
       unfold zp_would
       rw [if_pos (by omega)])
    | (refine hRf.same ?_
       unfold zp_would
       rw [if_neg (by omega)]
       first
       | (rw [if_pos (by omega)])
       | (rw [if_neg (by omega)]))
  · refine TGo.il2 dX0_would_9 rfl ?_
    refine TGo.ic0 dX0_would_10 ?_
    refine TGo.ic5 dX0_would_11 ?_
    refine TGo.cF (csS3 (y2 := mX0_in) 1 rfl dX0_would_12 q598 q599 okX0_in npX0_in rfl rfl) (kX0_in (by omega) (by omega) (by omega)) ?_
    refine TGo.ifb_ne 20 dX0_would_15 (by decide) (fun h15 => ?_) (fun h15 => ?_)
    · refine TGo.al0 dX0_would_20 rfl ?_
      refine TGo.getS (t := 8) 17 17 (B + 61) (hB 0 (by decide)) rfl fgX0_88_0 dX0_would_21 rfl rfl rfl ?_
      refine TGo.il1 dX0_would_24 rfl ?_
      refine TGo.il2 dX0_would_25 rfl ?_
      refine TGo.cS (csV2 (y2 := mX9_finds) (t := 17) 16 rfl (hB 61 (by decide)) rfl rfl dX0_would_26 q1736 q1737 q1738 okX9_finds npX9_finds rfl rfl) (kX9_finds (r1 := r) hR W (by omega) (by omega) (by omega)) (fun v26 V26 h26 => ?_)
      obtain ⟨rfl, hRf, hff⟩ := h26
      have hlb := lfZ_b W (r1 := r) (cu := c) (by omega)
      have hlb1 := hlb.2.1
      have hlb2 := hlb.2.2
      refine TGo.icm1 dX0_would_29 ?_
      refine TGo.icmp_ne 37 dX0_would_30 (by decide) (by omega) (fun h30 => ?_) (fun h30 => ?_)
      · refine TGo.al0 dX0_would_37 rfl ?_
        refine TGo.getS (t := 8) 17 17 (B + 61) (hB 0 (by decide)) rfl fgX0_88_0 dX0_would_38 rfl rfl rfl ?_
        refine TGo.getI (t := 17) 8 8 (hB 61 (by decide)) rfl fgX0_491_9 dX0_would_41 rfl rfl rfl ?_
        refine TGo.toz _ (((hff (by omega)).2 (by omega))) ?_
        refine TGo.iret dX0_would_44 rfl ?_
        first
        | (exfalso; omega)
        | (refine hR.same ?_
           unfold zp_would
           rw [if_pos (by omega)])
        | (refine hRf.same ?_
           unfold zp_would
           rw [if_neg (by omega)]
           first
           | (rw [if_pos (by omega)])
           | (rw [if_neg (by omega)]))
      · refine TGo.icm1 dX0_would_33 ?_
        refine TGo.goto 44 dX0_would_34 (by decide) ?_
        refine TGo.iret dX0_would_44 rfl ?_
        first
        | (exfalso; omega)
        | (refine hR.same ?_
           unfold zp_would
           rw [if_pos (by omega)])
        | (refine hRf.same ?_
           unfold zp_would
           rw [if_neg (by omega)]
           first
           | (rw [if_pos (by omega)])
           | (rw [if_neg (by omega)]))
    · refine TGo.icm1 dX0_would_18 ?_
      refine TGo.iret dX0_would_19 rfl ?_
      first
      | (exfalso; omega)
      | (refine hR.same ?_
         unfold zp_would
         rw [if_pos (by omega)])
      | (refine hRf.same ?_
         unfold zp_would
         rw [if_neg (by omega)]
         first
         | (rw [if_pos (by omega)])
         | (rw [if_neg (by omega)]))
