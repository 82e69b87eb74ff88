/-! X: part -/
set_option maxRecDepth 100000
theorem zA_2 {z : ZT} {k j : Nat} {f : Int → Int} (h : (j == k) = false) : (zA z k f).2 j = z.2 j := u1_n (by simpa using h)
theorem zA_s {z : ZT} {k : Nat} {f : Int → Int} : (zA z k f).2 k = f := u1_s
/-- scripts of no part yet -/
theorem XC.hu0 {V : VT} {B p : Nat} {z : ZT} {r v : Int} (h : XC V B z) (hp : p < 6) (h0 : z.2 3 0 ≤ (p : Int)) : XC (vI V (B + (4 + 3 * p) + 1) r v) B z := by
  obtain ⟨⟨n1, n2, n3, n4, n5, n6, n7⟩, s1, s2, s3, s4⟩ := h
  have q : ∀ a, a ≠ B + (4 + 3 * p) + 1 → (vI V (B + (4 + 3 * p) + 1) r v).1 a = V.1 a := fun a ha => u2_a ha
  refine ⟨⟨n1, ?_, fun i i0 i1 => ?_, fun i i0 i1 => ?_, fun i i0 i1 => ?_, fun i i0 i1 => ?_, fun p' hp6 hp' r' r0 r1 => ?_⟩, ?_, fun j j0 j1 => ?_, fun i i0 i1 => ?_, fun h => ?_⟩
  · rw [q _ (by omega)]; exact n2
  · rw [q _ (by omega)]; exact n3 i i0 i1
  · rw [q _ (by omega)]; exact n4 i i0 i1
  · rw [q _ (by omega)]; exact n5 i i0 i1
  · rw [q _ (by omega)]; exact n6 i i0 i1
  · have w := n7 p' hp6 hp' r' r0 r1
    rw [q _ (by omega), q _ (by omega)]; exact w
  · rw [q _ (by omega)]; exact s1
  · rw [q _ (by omega)]; exact s2 j j0 j1
  · rw [q _ (by omega)]; exact s3 i i0 i1
  · rw [q _ (by omega), q _ (by omega)]; exact s4 h
/-- one part more, all of whose rules are holes -/
theorem XC.newp {V : VT} {B p : Nat} {z : ZT} (h : XC V B z) (hp : p < 6) (h0 : z.2 3 0 = (p : Int)) (hw : ∀ r, 0 ≤ r → r < 36 → V.1 (B + (4 + 3 * p) + 1) r = -1) : XC (vI V (B + 2) 8 (z.2 3 0 + 1)) B (za (zA z 3 (zf (z.2 3) (22 + 36 * z.2 3 0) 36 (-1))) 3 0 (z.2 3 0 + 1)) := by
  obtain ⟨⟨n1, n2, n3, n4, n5, n6, n7⟩, s1, s2, s3, s4⟩ := h
  have q : ∀ a, a ≠ B + 2 → (vI V (B + 2) 8 (z.2 3 0 + 1)).1 a = V.1 a := fun a ha => u2_a ha
  have f : ∀ i, i ≠ 0 → ¬ (22 + 36 * z.2 3 0 ≤ i ∧ i < 22 + 36 * z.2 3 0 + 36) → ((za (zA z 3 (zf (z.2 3) (22 + 36 * z.2 3 0) 36 (-1))) 3 0 (z.2 3 0 + 1))).2 3 i = z.2 3 i := fun i hi h2 => by
    rw [zf3 hi, zA_s]; unfold zf; rw [if_neg (by omega)]
  have f0 : ((za (zA z 3 (zf (z.2 3) (22 + 36 * z.2 3 0) 36 (-1))) 3 0 (z.2 3 0 + 1))).2 3 0 = z.2 3 0 + 1 := zf3s
  have fw : ∀ i, (22 + 36 * z.2 3 0 ≤ i ∧ i < 22 + 36 * z.2 3 0 + 36) → ((za (zA z 3 (zf (z.2 3) (22 + 36 * z.2 3 0) 36 (-1))) 3 0 (z.2 3 0 + 1))).2 3 i = -1 := fun i h2 => by
    rw [zf3 (by omega), zA_s]; unfold zf; rw [if_pos (by omega)]
  have g : ∀ k : Nat, (k == 3) = false → ((za (zA z 3 (zf (z.2 3) (22 + 36 * z.2 3 0) 36 (-1))) 3 0 (z.2 3 0 + 1))).2 k = z.2 k := fun k hk => (za_2 hk).trans (zA_2 hk)
  refine ⟨⟨n1, ⟨?_, ?_, ?_, ?_⟩, fun i i0 i1 => ?_, fun i i0 i1 => ?_, fun i i0 i1 => ?_, fun i i0 i1 => ?_, fun p' hp6 hp' r' r0 r1 => ?_⟩, ?_, fun j j0 j1 => ?_, fun i i0 i1 => ?_, fun h => ?_⟩
  · rw [f0]; exact u2_s
  · rw [f 5 (by omega) (by omega)]; exact (u2_n (Or.inr (by decide))).trans n2.2.1
  · rw [f 6 (by omega) (by omega)]; exact (u2_n (Or.inr (by decide))).trans n2.2.2.1
  · rw [f 4 (by omega) (by omega)]; exact (u2_n (Or.inr (by decide))).trans n2.2.2.2
  · rw [q _ (by omega), f _ (by omega) (by omega)]; exact n3 i i0 i1
  · rw [q _ (by omega), f _ (by omega) (by omega)]; exact n4 i i0 i1
  · rw [q _ (by omega), f _ (by omega) (by omega)]; exact n5 i i0 i1
  · rw [q _ (by omega), f _ (by omega) (by omega)]; exact n6 i i0 i1
  · rw [f0] at hp'
    show _ = wZ (((za (zA z 3 (zf (z.2 3) (22 + 36 * z.2 3 0) 36 (-1))) 3 0 (z.2 3 0 + 1))).2 3 (22 + 36 * p' + r')) ∧ (((za (zA z 3 (zf (z.2 3) (22 + 36 * z.2 3 0) 36 (-1))) 3 0 (z.2 3 0 + 1))).2 3 (22 + 36 * p' + r') ≠ -1 → _ = nZ (((za (zA z 3 (zf (z.2 3) (22 + 36 * z.2 3 0) 36 (-1))) 3 0 (z.2 3 0 + 1))).2 3 (22 + 36 * p' + r')))
    rw [q _ (by omega), q _ (by omega)]
    by_cases e : p' = p
    · subst e
      rw [fw _ (by omega)]
      refine ⟨?_, fun hh => absurd rfl hh⟩
      rw [show B + 2 + 2 + 3 * p' + 1 = B + (4 + 3 * p') + 1 by omega]
      exact hw r' r0 r1
    · rw [f _ (by omega) (by omega)]
      exact n7 p' hp6 (by omega) r' r0 r1
  · rw [q _ (by omega)]; exact s1
  · rw [q _ (by omega), g 2 rfl]; exact s2 j j0 j1
  · rw [q _ (by omega), g 7 rfl]; exact s3 i i0 i1
  · rw [q _ (by omega), q _ (by omega), g 72 rfl, g 73 rfl]; exact s4 h
theorem StA.fA {z : ZT} {f : Int → Int} {a v : Int} (h : StA f (z.2 3)) (ha : 4 ≤ a ∧ a + 36 ≤ 238) : StA f ((zA z 3 (zf (z.2 3) a 36 v)).2 3) := fun j hj => by
  rw [zA_s]; unfold zf; rw [if_neg (by omega)]; exact h j hj
set_option maxHeartbeats 4000000 in
theorem kX2_hushesR {E : ET} {sh : SHT} {nn : Nat × Nat} {V : VT} {S : Nat} {r : Int} (hS : ScS sh S) (hr : 0 ≤ r ∧ r < 36) : TW E mX2_hushes 1 [.ref S, .int (iI r)] sh nn V (some (.int (iI (V.1 (S + 1) r)))) (vI V (S + 1) r (-1)) := by
  refine TC.intro [some (.ref S), some (.int (iI r)), none] rfl ?_
  refine TGo.al0 dX2_hushes_0 rfl ?_
  refine TGo.getS (t := 10) 0 0 (S + 1) hS.1 rfl fgX2_9_2 dX2_hushes_1 rfl rfl rfl ?_
  refine TGo.il1 dX2_hushes_4 rfl ?_
  refine TGo.iald dX2_hushes_5 hS.2.1 (by omega) rfl ?_
  refine TGo.is2 dX2_hushes_6 rfl rfl ?_
  refine TGo.al0 dX2_hushes_7 rfl ?_
  refine TGo.getS (t := 10) 0 0 (S + 1) hS.1 rfl fgX2_9_2 dX2_hushes_8 rfl rfl rfl ?_
  refine TGo.il1 dX2_hushes_11 rfl ?_
  refine TGo.icm1 dX2_hushes_12 ?_
  refine TGo.iast dX2_hushes_13 hS.2.1 (by omega) rfl ?_
  refine TGo.il2 dX2_hushes_14 rfl ?_
  refine TGo.iret dX2_hushes_15 rfl ?_
  exact ⟨rfl, rfl, rfl, rfl⟩
set_option maxHeartbeats 4000000 in
theorem lX0_part {E : ET} {sh : SHT} {nn : Nat × Nat} {V0 : VT} {B p : Nat} {y : ZT} {a b : Int} (hB : XSh B sh) (hp : p < 6) (h0 : y.2 3 0 = (p : Int)) : ∀ (n j : Nat) (V : VT), 36 - j < n → j ≤ 36 → FrX B V0 V → XC V B y → (∀ r, 0 ≤ r → r < (j : Int) → V.1 (B + (4 + 3 * p) + 1) r = -1) → TGo E mX0_part 2 87 [some (.ref B), some (.int (iI a)), some (.int (iI b)), some (.int (iI (((j) : Nat) : Int)))] [] sh nn V (fun o sh' nn' V' => o = .inl (some (.int (iI (p : Int)))) ∧ sh' = sh ∧ nn' = nn ∧ FrX B V0 V' ∧ XC V' B (zi (za (zA y 3 (zf (y.2 3) (22 + 36 * y.2 3 0) 36 (-1))) 3 0 (y.2 3 0 + 1)) 1 0)) := by
  intro n
  induction n with
  | zero => intro j V h; omega
  | succ n ih =>
    intro j V hn hj hf hc hx
    have hS := hB.sc hp
    have hsr : V.2.2 (B + 3) (p : Int) = some (B + (4 + 3 * p)) := by
      have q := hc.1.1 p hp
      rw [show B + (4 + 3 * p) = B + 2 + 2 + 3 * p by omega]; exact q
    refine TGo.il3 dX0_part_87 rfl ?_
    refine TGo.bip 36 dX0_part_88 (by decide) ?_
    refine TGo.icmp_ge 119 dX0_part_90 (by decide) (by omega) (fun h90 => ?_) (fun h90 => ?_)
    · have hcn := XC.newp hc hp h0 (fun r r0 r1 => hx r r0 (by omega))
      rw [h0] at hcn
      refine TGo.al0 dX0_part_119 rfl ?_
      refine TGo.getS (t := 8) 2 2 (B + 2) (hB 0 (by decide)) rfl fgX0_16_0 dX0_part_120 rfl rfl rfl ?_
      refine TGo.dup dX0_part_123 rfl ?_
      refine TGo.getI (t := 9) 8 8 (hB 2 (by decide)) rfl fgX0_119_1 dX0_part_124 rfl rfl rfl ?_
      refine TGo.toz _ (hc.1.2.1.1.trans h0) ?_
      refine TGo.ic1 dX0_part_127 ?_
      refine TGo.iadd dX0_part_128 ?_
      refine TGo.putI (t := 9) 8 8 (hB 2 (by decide)) rfl fpX0_119_1 dX0_part_129 rfl rfl rfl ?_
      refine TGo.al0 dX0_part_132 rfl ?_
      refine TGo.al0 dX0_part_133 rfl ?_
      refine TGo.getS (t := 8) 2 2 (B + 2) (hB 0 (by decide)) rfl fgX0_16_0 dX0_part_134 rfl rfl rfl ?_
      refine TGo.getI (t := 9) 8 8 (hB 2 (by decide)) rfl fgX0_119_1 dX0_part_137 rfl rfl rfl ?_
      refine TGo.toz _ (u2_s) ?_
      refine TGo.ic1 dX0_part_140 ?_
      refine TGo.isub dX0_part_141 ?_
      refine TGo.toz (p : Int) (by omega) ?_
      refine TGo.cS (csV1 (y2 := mX0_done) (t := 8) 1 rfl (hB 0 (by decide)) rfl rfl dX0_part_142 q695 q697 qs3 okX0_done npX0_done rfl rfl) (kX0_done hB hcn) (fun v142 V142 h142 => ?_)
      obtain ⟨rfl, hc142, hf142⟩ := h142
      refine TGo.iret dX0_part_145 rfl ?_
      refine ⟨rfl, rfl, rfl, (hf.i 2 rfl).tr hf142, ?_⟩
      rw [h0]; exact hc142
    · refine TGo.al0 dX0_part_93 rfl ?_
      refine TGo.getS (t := 8) 2 2 (B + 2) (hB 0 (by decide)) rfl fgX0_16_0 dX0_part_94 rfl rfl rfl ?_
      refine TGo.getS (t := 9) 0 0 (B + 3) (hB 2 (by decide)) rfl fgX0_170_1 dX0_part_97 rfl rfl rfl ?_
      refine TGo.al0 dX0_part_100 rfl ?_
      refine TGo.getS (t := 8) 2 2 (B + 2) (hB 0 (by decide)) rfl fgX0_16_0 dX0_part_101 rfl rfl rfl ?_
      refine TGo.getI (t := 9) 8 8 (hB 2 (by decide)) rfl fgX0_119_1 dX0_part_104 rfl rfl rfl ?_
      refine TGo.toz _ (hc.1.2.1.1.trans h0) ?_
      refine TGo.aaldSq (B + (4 + 3 * p)) dX0_part_107 (hB 3 (by decide)) (by omega) rfl hsr ?_
      refine TGo.il3 dX0_part_108 rfl ?_
      refine TGo.cW (csV1 (y2 := mX2_hushes) (t := 10) 1 rfl hS.1 rfl rfl dX0_part_109 q707 q708 q709 okX2_hushes npX2_hushes rfl rfl) (kX2_hushesR hS (by omega)) ?_
      
      refine TGo.pop dX0_part_112 rfl ?_
      refine TGo.iinc dX0_part_113 rfl rfl rfl ?_
      refine TGo.goto 87 dX0_part_116 (by decide) ?_
      refine TGo.seq [some (.ref B), some (.int (iI a)), some (.int (iI b)), some (.int (iI (((j + 1) : Nat) : Int)))] [] _ rfl rfl rfl (ih (j + 1) _ (by omega) (by omega) (hf.tr (FrX.hush hp)) (hc.hu0 hp (by omega)) (fun r r0 r1 => ?_))
      show u2 V.1 (B + (4 + 3 * p) + 1) (j : Int) (-1) (B + (4 + 3 * p) + 1) r = -1
      by_cases e : r = (j : Int)
      · rw [e, u2_s]
      · rw [u2_n (Or.inr e)]; exact hx r r0 (by omega)
set_option maxHeartbeats 4000000 in
theorem kX0_part {E : ET} {sh : SHT} {nn : Nat × Nat} {V : VT} {B : Nat} {ow : Nat → Nat} {z : ZT} {a b : Int} (hR : XR ow sh nn V B z) (W : RWZ (z.2 3))  (ra : R32 a) (rb : R32 b) : TC E mX0_part 2 [.ref B, .int (iI a), .int (iI b)] sh nn V (XP B nn (zp_part z a b)) := by
  obtain ⟨hB, -, hc, -⟩ := id hR
  have w0 := W.1.1
  refine TC.intro [some (.ref B), some (.int (iI a)), some (.int (iI b)), none] rfl ?_
  refine TGo.il1 dX0_part_0 rfl ?_
  refine TGo.ic0 dX0_part_1 ?_
  refine TGo.bip 23 dX0_part_2 (by decide) ?_
  refine TGo.cF (csS3 (y2 := mX0_in) 1 rfl dX0_part_4 q598 q599 okX0_in npX0_in rfl rfl) (kX0_in (by omega) (by omega) (by omega)) ?_
  refine TGo.ifb_eq 22 dX0_part_7 (by decide) (fun h7 => ?_) (fun h7 => ?_)
  · refine TGo.al0 dX0_part_22 rfl ?_
    refine TGo.icm1 dX0_part_23 ?_
    refine TGo.cS (csV1 (y2 := mX0_refuse) (t := 8) 1 rfl (hB 0 (by decide)) rfl rfl dX0_part_24 q601 q603 qs1 okX0_refuse npX0_refuse rfl rfl) (kX0_refuse hB hc (by omega)) (fun v24 V24 h24 => ?_)
    obtain ⟨rfl, hc24, hf24⟩ := h24
    refine TGo.iret dX0_part_27 rfl ?_
    first
    | (exfalso; omega)
    | (refine hR.leaf W (FrX.rf.tr hf24) hc24 ((zTell_2 rfl).trans rfl) ((zTell_2 rfl).trans rfl) (StA.rf.tell) ?_
       unfold zp_part
       (repeat (first | rw [if_pos (by first | rfl | assumption | omega)] | rw [if_neg (by first | decide | assumption | omega)]))
       (try first | rfl))
  · refine TGo.il2 dX0_part_10 rfl ?_
    refine TGo.il1 dX0_part_11 rfl ?_
    refine TGo.ic1 dX0_part_12 ?_
    refine TGo.iadd dX0_part_13 ?_
    refine TGo.bip 24 dX0_part_14 (by decide) ?_
    refine TGo.cF (csS3 (y2 := mX0_in) 1 rfl dX0_part_16 q598 q599 okX0_in npX0_in rfl rfl) (kX0_in (by omega) (by omega) (by omega)) ?_
    refine TGo.ifb_ne 28 dX0_part_19 (by decide) (fun h19 => ?_) (fun h19 => ?_)
    · refine TGo.al0 dX0_part_28 rfl ?_
      refine TGo.getS (t := 8) 2 2 (B + 2) (hB 0 (by decide)) rfl fgX0_16_0 dX0_part_29 rfl rfl rfl ?_
      refine TGo.getI (t := 9) 8 8 (hB 2 (by decide)) rfl fgX0_119_1 dX0_part_32 rfl rfl rfl ?_
      refine TGo.toz _ (hc.1.2.1.1) ?_
      refine TGo.bip 6 dX0_part_35 (by decide) ?_
      refine TGo.icmp_ne 47 dX0_part_37 (by decide) (by omega) (fun h37 => ?_) (fun h37 => ?_)
      · refine TGo.al0 dX0_part_47 rfl ?_
        refine TGo.getS (t := 8) 2 2 (B + 2) (hB 0 (by decide)) rfl fgX0_16_0 dX0_part_48 rfl rfl rfl ?_
        refine TGo.getS (t := 9) 1 1 (B + 22) (hB 2 (by decide)) rfl fgX0_167_1 dX0_part_51 rfl rfl rfl ?_
        refine TGo.ic2 dX0_part_54 ?_
        refine TGo.al0 dX0_part_55 rfl ?_
        refine TGo.getS (t := 8) 2 2 (B + 2) (hB 0 (by decide)) rfl fgX0_16_0 dX0_part_56 rfl rfl rfl ?_
        refine TGo.getI (t := 9) 8 8 (hB 2 (by decide)) rfl fgX0_119_1 dX0_part_59 rfl rfl rfl ?_
        refine TGo.toz _ (hc.1.2.1.1) ?_
        refine TGo.imul dX0_part_62 ?_
        refine TGo.il1 dX0_part_63 rfl ?_
        refine TGo.iast dX0_part_64 (hB 22 (by decide)) (by omega) rfl ?_
        refine TGo.al0 dX0_part_65 rfl ?_
        refine TGo.getS (t := 8) 2 2 (B + 2) (hB 0 (by decide)) rfl fgX0_16_0 dX0_part_66 rfl rfl rfl ?_
        refine TGo.getS (t := 9) 1 1 (B + 22) (hB 2 (by decide)) rfl fgX0_167_1 dX0_part_69 rfl rfl rfl ?_
        refine TGo.ic2 dX0_part_72 ?_
        refine TGo.al0 dX0_part_73 rfl ?_
        refine TGo.getS (t := 8) 2 2 (B + 2) (hB 0 (by decide)) rfl fgX0_16_0 dX0_part_74 rfl rfl rfl ?_
        refine TGo.getI (t := 9) 8 8 (hB 2 (by decide)) rfl fgX0_119_1 dX0_part_77 rfl rfl rfl ?_
        refine TGo.toz _ ((u2_n (Or.inl (by omega))).trans (hc.1.2.1.1)) ?_
        refine TGo.imul dX0_part_80 ?_
        refine TGo.ic1 dX0_part_81 ?_
        refine TGo.iadd dX0_part_82 ?_
        refine TGo.il2 dX0_part_83 rfl ?_
        refine TGo.iast dX0_part_84 (hB 22 (by decide)) (by omega) rfl ?_
        refine TGo.ic0 dX0_part_85 ?_
        refine TGo.is3 dX0_part_86 rfl rfl ?_
        have y0 : (za (za z 3 (10 + 2 * z.2 3 0) a) 3 (10 + (2 * z.2 3 0 + 1)) b).2 3 0 = z.2 3 0 := by rw [zf3 (by omega), zf3 (by omega)]
        refine TGo.seq [some (.ref B), some (.int (iI a)), some (.int (iI b)), some (.int (iI (((0) : Nat) : Int)))] [] _ rfl rfl rfl ((lX0_part (p := (z.2 3 0).toNat) (y := (za (za z 3 (10 + 2 * z.2 3 0) a) 3 (10 + (2 * z.2 3 0 + 1)) b)) hB (by omega) (by rw [y0]; exact (Int.toNat_of_nonneg (by omega)).symm) 37 0 _ (by omega) (by omega) FrX.rf ((hc.sg (by omega)).sg (by omega)) (fun r r0 r1 => absurd r1 (by omega))).mono ?_)
        rintro o sh' nn' V' ⟨rfl, rfl, rfl, hf, hc'⟩
        rw [y0] at hc'
        rw [Int.toNat_of_nonneg (show 0 ≤ z.2 3 0 by omega)]
        refine hR.leaf W ((((FrX.rf.i 22 rfl).i 22 rfl)).tr hf) hc' (zi_2.trans ((za_2 rfl).trans ((zA_2 rfl).trans ((za_2 rfl).trans (za_2 rfl))))) (zi_2.trans ((za_2 rfl).trans ((zA_2 rfl).trans ((za_2 rfl).trans (za_2 rfl))))) (((((StA.rf.a3 (by omega)).a3 (by omega)).fA (by omega)).a3 (by omega)).i) ?_
        unfold zp_part
        rw [if_neg (fun q => q ⟨by assumption, by assumption⟩), if_neg (by omega), zT0 (by omega), show 10 + (2 * z.2 3 0 + 1) = 10 + 2 * z.2 3 0 + 1 by omega]
      · refine TGo.al0 dX0_part_40 rfl ?_
        refine TGo.bip (-5) dX0_part_41 (by decide) ?_
        refine TGo.cS (csV1 (y2 := mX0_refuse) (t := 8) 1 rfl (hB 0 (by decide)) rfl rfl dX0_part_43 q601 q603 qs1 okX0_refuse npX0_refuse rfl rfl) (kX0_refuse hB hc (by omega)) (fun v43 V43 h43 => ?_)
        obtain ⟨rfl, hc43, hf43⟩ := h43
        refine TGo.iret dX0_part_46 rfl ?_
        first
        | (exfalso; omega)
        | (refine hR.leaf W (FrX.rf.tr hf43) hc43 ((zTell_2 rfl).trans rfl) ((zTell_2 rfl).trans rfl) (StA.rf.tell) ?_
           unfold zp_part
           (repeat (first | rw [if_pos (by first | rfl | assumption | omega)] | rw [if_neg (by first | decide | assumption | omega)]))
           (try first | rfl))
    · refine TGo.al0 dX0_part_22 rfl ?_
      refine TGo.icm1 dX0_part_23 ?_
      refine TGo.cS (csV1 (y2 := mX0_refuse) (t := 8) 1 rfl (hB 0 (by decide)) rfl rfl dX0_part_24 q601 q603 qs1 okX0_refuse npX0_refuse rfl rfl) (kX0_refuse hB hc (by omega)) (fun v24 V24 h24 => ?_)
      obtain ⟨rfl, hc24, hf24⟩ := h24
      refine TGo.iret dX0_part_27 rfl ?_
      first
      | (exfalso; omega)
      | (refine hR.leaf W (FrX.rf.tr hf24) hc24 ((zTell_2 rfl).trans rfl) ((zTell_2 rfl).trans rfl) (StA.rf.tell) ?_
         unfold zp_part
         (repeat (first | rw [if_pos (by first | rfl | assumption | omega)] | rw [if_neg (by first | decide | assumption | omega)]))
         (try first | rfl))
