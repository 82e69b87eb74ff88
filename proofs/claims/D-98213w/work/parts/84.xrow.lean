/-! X: row -/
set_option maxRecDepth 100000
/-- what holds after j groups of four -/
def zrZ (z : ZT) (p q : Int) (j : Nat) : ZT := zi (zA (zi z 8 0) 3 (rowZ (z.2 7) (z.1 8) p (z.2 3) j).1) 6 (q + (rowZ (z.2 7) (z.1 8) p (z.2 3) j).2.2)
theorem zrZ_7 {z : ZT} {p q : Int} {j : Nat} : (zrZ z p q j).2 7 = z.2 7 := by
  show u1 z.2 3 (rowZ (z.2 7) (z.1 8) p (z.2 3) j).1 7 = z.2 7
  exact u1_n (by decide)
theorem zrZ_3 {z : ZT} {p q : Int} {j : Nat} : (zrZ z p q j).2 3 = (rowZ (z.2 7) (z.1 8) p (z.2 3) j).1 := by
  show u1 z.2 3 (rowZ (z.2 7) (z.1 8) p (z.2 3) j).1 3 = _
  exact u1_s
theorem zrZ_0 {z : ZT} {p q : Int} : zrZ z p q 0 = zi (zi z 8 0) 6 q := by
  have e : zA (zi z 8 0) 3 (z.2 3) = zi z 8 0 := Prod.ext rfl u1_id
  show zi (zA (zi z 8 0) 3 (z.2 3)) 6 (q + 0) = _
  rw [e, Int.add_zero]
theorem zr_eq {z : ZT} {F : Int → Int} {i v q q' : Int} : zi (za (zi (zA (zi z 8 0) 3 F) 6 q) 3 i v) 6 q' = zi (zA (zi z 8 0) 3 (zu F i v)) 6 q' := by
  refine zi_ext (fun k => ?_) ?_
  · show (if k = 6 then q' else if k = 6 then q else (if k = 8 then 0 else z.1 k)) = (if k = 6 then q' else (if k = 8 then 0 else z.1 k))
    by_cases e : k = 6
    · rw [if_pos e, if_pos e]
    · rw [if_neg e, if_neg e, if_neg e]
  · show u2 (u1 z.2 3 F) 3 i v = u1 z.2 3 (zu F i v)
    funext a b
    by_cases ea : a = 3
    · subst ea
      by_cases eb : b = i
      · subst eb; rw [u2_s, u1_s, zu_s]
      · rw [u2_n (Or.inr eb), u1_s, u1_s, zu_n eb]
    · rw [u2_n (Or.inl ea), u1_n ea, u1_n ea]
theorem zr_q {z : ZT} {F : Int → Int} {q q' : Int} : zi (zi (zA (zi z 8 0) 3 F) 6 q) 6 q' = zi (zA (zi z 8 0) 3 F) 6 q' := zi_zi
theorem zr_g {z : ZT} {p q : Int} {j : Nat} (h : goodZ (z.2 7) (z.1 8) j) : zi (za (zrZ z p q j) 3 (22 + 36 * p + (6 * z.2 7 (4 * (j : Int)) + z.2 7 (4 * (j : Int) + 1))) (6 * z.2 7 (4 * (j : Int) + 2) + z.2 7 (4 * (j : Int) + 3))) 6 ((zrZ z p q j).1 6 + 0) = zrZ z p q (j + 1) := by
  have e : rowZ (z.2 7) (z.1 8) p (z.2 3) (j + 1) = _ := if_pos h
  unfold zrZ
  rw [e, zr_eq, show 22 + 36 * p + (6 * z.2 7 (4 * (j : Int)) + z.2 7 (4 * (j : Int) + 1)) = 22 + 36 * p + 6 * z.2 7 (4 * (j : Int)) + z.2 7 (4 * (j : Int) + 1) by omega]
  show zi _ 6 (q + _ + 0) = zi _ 6 (q + _)
  rw [Int.add_zero]
theorem zr_b {z : ZT} {p q : Int} {j : Nat} (h : ¬ goodZ (z.2 7) (z.1 8) j) : zi (zrZ z p q j) 6 ((zrZ z p q j).1 6 + 1) = zrZ z p q (j + 1) := by
  have e : rowZ (z.2 7) (z.1 8) p (z.2 3) (j + 1) = _ := if_neg h
  unfold zrZ
  rw [e, zr_q]
  show zi _ 6 (q + _ + 1) = zi _ 6 (q + (_ + 1))
  rw [Int.add_assoc]
set_option maxHeartbeats 4000000 in
theorem lX0_row {E : ET} {sh : SHT} {nn : Nat × Nat} {V0 : VT} {B : Nat} {z : ZT} {p q : Int} (hB : XSh B sh) (hp : 0 ≤ p ∧ p < 6) (hb : ∀ i, 0 ≤ z.2 7 i ∧ z.2 7 i ≤ 255) (wt : 0 ≤ z.1 8 ∧ z.1 8 ≤ 400) (hq : 0 ≤ q ∧ q ≤ 1) : ∀ (n j : Nat) (V : VT), (z.1 8).toNat / 4 - j < n → j ≤ (z.1 8).toNat / 4 → FrX B V0 V → XC V B (zrZ z p q (j)) → TGo E mX0_row 3 56 [some (.ref B), some (.int (iI p)), some (.int (iI (z.1 8))), some (.int (iI (rowZ (z.2 7) (z.1 8) p (z.2 3) (j)).2.1)), some (.int (iI (4 * (((j) : Nat) : Int)))), none] [] sh nn V (fun o sh' nn' V' => o = .inl (some (.int (iI (rowZ (z.2 7) (z.1 8) p (z.2 3) ((z.1 8).toNat / 4)).2.1))) ∧ sh' = sh ∧ nn' = nn ∧ FrX B V0 V' ∧ XC V' B (zi (zrZ z p q ((z.1 8).toNat / 4)) 1 0)) := by
  intro n
  induction n with
  | zero => intro j V h; omega
  | succ n ih =>
    intro j V hn hj hf hc
    have hS := hB.sc (p := p.toNat) (by omega)
    have hle := rowZ_le (z.2 7) (z.1 8) p (z.2 3) j
    have h6 : (zrZ z p q (j)).1 6 = q + (rowZ (z.2 7) (z.1 8) p (z.2 3) (j)).2.2 := rfl
    have b0 := hb (4 * (j : Int))
    have s0 : (z.2 7 (4 * (j : Int)) < 128 ∧ sbZ (z.2 7 (4 * (j : Int))) = z.2 7 (4 * (j : Int))) ∨ (128 ≤ z.2 7 (4 * (j : Int)) ∧ sbZ (z.2 7 (4 * (j : Int))) = z.2 7 (4 * (j : Int)) - 256) := by unfold sbZ; split <;> omega
    have b1 := hb (4 * (j : Int) + 1)
    have s1 : (z.2 7 (4 * (j : Int) + 1) < 128 ∧ sbZ (z.2 7 (4 * (j : Int) + 1)) = z.2 7 (4 * (j : Int) + 1)) ∨ (128 ≤ z.2 7 (4 * (j : Int) + 1) ∧ sbZ (z.2 7 (4 * (j : Int) + 1)) = z.2 7 (4 * (j : Int) + 1) - 256) := by unfold sbZ; split <;> omega
    have b2 := hb (4 * (j : Int) + 2)
    have s2 : (z.2 7 (4 * (j : Int) + 2) < 128 ∧ sbZ (z.2 7 (4 * (j : Int) + 2)) = z.2 7 (4 * (j : Int) + 2)) ∨ (128 ≤ z.2 7 (4 * (j : Int) + 2) ∧ sbZ (z.2 7 (4 * (j : Int) + 2)) = z.2 7 (4 * (j : Int) + 2) - 256) := by unfold sbZ; split <;> omega
    have b3 := hb (4 * (j : Int) + 3)
    have s3 : (z.2 7 (4 * (j : Int) + 3) < 128 ∧ sbZ (z.2 7 (4 * (j : Int) + 3)) = z.2 7 (4 * (j : Int) + 3)) ∨ (128 ≤ z.2 7 (4 * (j : Int) + 3) ∧ sbZ (z.2 7 (4 * (j : Int) + 3)) = z.2 7 (4 * (j : Int) + 3) - 256) := by unfold sbZ; split <;> omega
    refine TGo.il dX0_row_56 rfl ?_
    refine TGo.ic4 dX0_row_58 ?_
    refine TGo.iadd dX0_row_59 ?_
    refine TGo.il2 dX0_row_60 rfl ?_
    refine TGo.icmp_gt 210 dX0_row_61 (by decide) (by omega) (fun h61 => ?_) (fun h61 => ?_)
    · obtain rfl : j = (z.1 8).toNat / 4 := by omega
      refine TGo.al0 dX0_row_210 rfl ?_
      refine TGo.il3 dX0_row_211 rfl ?_
      refine TGo.cS (csV1 (y2 := mX0_done) (t := 8) 1 rfl (hB 0 (by decide)) rfl rfl dX0_row_212 q695 q697 qs3 okX0_done npX0_done rfl rfl) (kX0_done hB hc) (fun v212 V212 h212 => ?_)
      obtain ⟨rfl, hc212, hf212⟩ := h212
      refine TGo.iret dX0_row_215 rfl ?_
      exact ⟨rfl, rfl, rfl, hf.tr hf212, hc212⟩
    · refine TGo.al0 dX0_row_64 rfl ?_
      refine TGo.getS (t := 8) 4 4 (B + 33) (hB 0 (by decide)) rfl fgX0_24_0 dX0_row_65 rfl rfl rfl ?_
      refine TGo.il dX0_row_68 rfl ?_
      refine TGo.bald dX0_row_70 (hB 33 (by decide)) (by omega) rfl ?_
      refine TGo.toz _ (((hc.2.2.2.1 _ (by omega) (by omega)).trans (by rw [zrZ_7]) : _ = sbZ (z.2 7 _))) ?_
      refine TGo.al0 dX0_row_71 rfl ?_
      refine TGo.getS (t := 8) 4 4 (B + 33) (hB 0 (by decide)) rfl fgX0_24_0 dX0_row_72 rfl rfl rfl ?_
      refine TGo.il dX0_row_75 rfl ?_
      refine TGo.ic1 dX0_row_77 ?_
      refine TGo.iadd dX0_row_78 ?_
      refine TGo.bald dX0_row_79 (hB 33 (by decide)) (by omega) rfl ?_
      refine TGo.toz _ (((hc.2.2.2.1 _ (by omega) (by omega)).trans (by rw [zrZ_7]) : _ = sbZ (z.2 7 _))) ?_
      refine TGo.cF (csS2 (y2 := mX0_isRule) 2 rfl dX0_row_80 q715 q716 okX0_isRule npX0_isRule rfl rfl) (kX0_isRule (by omega) (by omega)) ?_
      refine TGo.ifb_eq 114 dX0_row_83 (by decide) (fun h83 => ?_) (fun h83 => ?_)
      · refine TGo.ic0 dX0_row_114 ?_
        refine TGo.is dX0_row_115 rfl rfl ?_
        refine TGo.il dX0_row_117 rfl ?_
        refine TGo.if_eq 172 dX0_row_119 (by decide) (by decide) (fun _ => ?_) (fun h => absurd h (by decide))
        refine TGo.il3 dX0_row_172 rfl ?_
        refine TGo.il dX0_row_173 rfl ?_
        refine TGo.if_eq 182 dX0_row_175 (by decide) (by decide) (fun _ => ?_) (fun h => absurd h (by decide))
        refine TGo.ic0 dX0_row_182 ?_
        refine TGo.iadd dX0_row_183 ?_
        refine TGo.is3 dX0_row_184 rfl rfl ?_
        refine TGo.al0 dX0_row_185 rfl ?_
        refine TGo.dup dX0_row_186 rfl ?_
        refine TGo.getI (t := 8) 7 7 (hB 0 (by decide)) rfl fgX0_239_0 dX0_row_187 rfl rfl rfl ?_
        refine TGo.toz _ (hc.2.1.2.2.2.1) ?_
        refine TGo.il dX0_row_190 rfl ?_
        refine TGo.if_eq 199 dX0_row_192 (by decide) (by decide) (fun _ => ?_) (fun h => absurd h (by decide))
        refine TGo.ic1 dX0_row_199 ?_
        refine TGo.iadd dX0_row_200 ?_
        refine TGo.putI (t := 8) 7 7 (hB 0 (by decide)) rfl fpX0_239_0 dX0_row_201 rfl rfl rfl ?_
        refine TGo.iinc dX0_row_204 rfl rfl rfl ?_
        refine TGo.goto 56 dX0_row_207 (by decide) ?_
        have hg : ¬ goodZ (z.2 7) (z.1 8) j := fun h => by have h1 := h.1; have h2 := h.2.1.1; have h3 := h.2.1.2; have h4 := h.2.2.1; have h5 := h.2.2.2; omega
        have er : (rowZ (z.2 7) (z.1 8) p (z.2 3) (j + 1)) = _ := if_neg hg
        refine TGo.forget 5 ?_
        refine TGo.seq [some (.ref B), some (.int (iI p)), some (.int (iI (z.1 8))), some (.int (iI (rowZ (z.2 7) (z.1 8) p (z.2 3) (j + 1)).2.1)), some (.int (iI (4 * (((j + 1) : Nat) : Int)))), none] [] _ (by rw [er, show 4 * ((j + 1 : Nat) : Int) = 4 * (j : Int) + 4 by omega]; rw [Int.add_zero]; rfl) rfl rfl (ih (j + 1) _ (by omega) (by omega) (hf.i 0 rfl) (hc.pr.eqz (zr_b hg)))
      · refine TGo.al0 dX0_row_86 rfl ?_
        refine TGo.getS (t := 8) 4 4 (B + 33) (hB 0 (by decide)) rfl fgX0_24_0 dX0_row_87 rfl rfl rfl ?_
        refine TGo.il dX0_row_90 rfl ?_
        refine TGo.ic2 dX0_row_92 ?_
        refine TGo.iadd dX0_row_93 ?_
        refine TGo.bald dX0_row_94 (hB 33 (by decide)) (by omega) rfl ?_
        refine TGo.toz _ (((hc.2.2.2.1 _ (by omega) (by omega)).trans (by rw [zrZ_7]) : _ = sbZ (z.2 7 _))) ?_
        refine TGo.al0 dX0_row_95 rfl ?_
        refine TGo.getS (t := 8) 4 4 (B + 33) (hB 0 (by decide)) rfl fgX0_24_0 dX0_row_96 rfl rfl rfl ?_
        refine TGo.il dX0_row_99 rfl ?_
        refine TGo.ic3 dX0_row_101 ?_
        refine TGo.iadd dX0_row_102 ?_
        refine TGo.bald dX0_row_103 (hB 33 (by decide)) (by omega) rfl ?_
        refine TGo.toz _ (((hc.2.2.2.1 _ (by omega) (by omega)).trans (by rw [zrZ_7]) : _ = sbZ (z.2 7 _))) ?_
        refine TGo.cF (csS2 (y2 := mX0_isSaid) 2 rfl dX0_row_104 q718 q719 okX0_isSaid npX0_isSaid rfl rfl) (kX0_isSaid (by omega) (by omega)) ?_
        refine TGo.ifb_eq 114 dX0_row_107 (by decide) (fun h107 => ?_) (fun h107 => ?_)
        · refine TGo.ic0 dX0_row_114 ?_
          refine TGo.is dX0_row_115 rfl rfl ?_
          refine TGo.il dX0_row_117 rfl ?_
          refine TGo.if_eq 172 dX0_row_119 (by decide) (by decide) (fun _ => ?_) (fun h => absurd h (by decide))
          refine TGo.il3 dX0_row_172 rfl ?_
          refine TGo.il dX0_row_173 rfl ?_
          refine TGo.if_eq 182 dX0_row_175 (by decide) (by decide) (fun _ => ?_) (fun h => absurd h (by decide))
          refine TGo.ic0 dX0_row_182 ?_
          refine TGo.iadd dX0_row_183 ?_
          refine TGo.is3 dX0_row_184 rfl rfl ?_
          refine TGo.al0 dX0_row_185 rfl ?_
          refine TGo.dup dX0_row_186 rfl ?_
          refine TGo.getI (t := 8) 7 7 (hB 0 (by decide)) rfl fgX0_239_0 dX0_row_187 rfl rfl rfl ?_
          refine TGo.toz _ (hc.2.1.2.2.2.1) ?_
          refine TGo.il dX0_row_190 rfl ?_
          refine TGo.if_eq 199 dX0_row_192 (by decide) (by decide) (fun _ => ?_) (fun h => absurd h (by decide))
          refine TGo.ic1 dX0_row_199 ?_
          refine TGo.iadd dX0_row_200 ?_
          refine TGo.putI (t := 8) 7 7 (hB 0 (by decide)) rfl fpX0_239_0 dX0_row_201 rfl rfl rfl ?_
          refine TGo.iinc dX0_row_204 rfl rfl rfl ?_
          refine TGo.goto 56 dX0_row_207 (by decide) ?_
          have hg : ¬ goodZ (z.2 7) (z.1 8) j := fun h => by have h1 := h.1; have h2 := h.2.1.1; have h3 := h.2.1.2; have h4 := h.2.2.1; have h5 := h.2.2.2; omega
          have er : (rowZ (z.2 7) (z.1 8) p (z.2 3) (j + 1)) = _ := if_neg hg
          refine TGo.forget 5 ?_
          refine TGo.seq [some (.ref B), some (.int (iI p)), some (.int (iI (z.1 8))), some (.int (iI (rowZ (z.2 7) (z.1 8) p (z.2 3) (j + 1)).2.1)), some (.int (iI (4 * (((j + 1) : Nat) : Int)))), none] [] _ (by rw [er, show 4 * ((j + 1 : Nat) : Int) = 4 * (j : Int) + 4 by omega]; rw [Int.add_zero]; rfl) rfl rfl (ih (j + 1) _ (by omega) (by omega) (hf.i 0 rfl) (hc.pr.eqz (zr_b hg)))
        · refine TGo.ic1 dX0_row_110 ?_
          refine TGo.goto 115 dX0_row_111 (by decide) ?_
          refine TGo.is dX0_row_115 rfl rfl ?_
          refine TGo.il dX0_row_117 rfl ?_
          refine TGo.if_eq 172 dX0_row_119 (by decide) (by decide) (fun h => absurd h (by decide)) (fun _ => ?_)
          refine TGo.al0 dX0_row_122 rfl ?_
          refine TGo.getS (t := 8) 2 2 (B + 2) (hB 0 (by decide)) rfl fgX0_16_0 dX0_row_123 rfl rfl rfl ?_
          refine TGo.getS (t := 9) 0 0 (B + 3) (hB 2 (by decide)) rfl fgX0_170_1 dX0_row_126 rfl rfl rfl ?_
          refine TGo.il1 dX0_row_129 rfl ?_
          refine TGo.aaldSq (B + (4 + 3 * p.toNat)) dX0_row_130 (hB 3 (by decide)) (by omega) rfl (hc.srf (by omega)) ?_
          refine TGo.bip 6 dX0_row_131 (by decide) ?_
          refine TGo.al0 dX0_row_133 rfl ?_
          refine TGo.getS (t := 8) 4 4 (B + 33) (hB 0 (by decide)) rfl fgX0_24_0 dX0_row_134 rfl rfl rfl ?_
          refine TGo.il dX0_row_137 rfl ?_
          refine TGo.bald dX0_row_139 (hB 33 (by decide)) (by omega) rfl ?_
          refine TGo.toz _ (((hc.2.2.2.1 _ (by omega) (by omega)).trans (by rw [zrZ_7]) : _ = sbZ (z.2 7 _))) ?_
          refine TGo.toz (z.2 7 (4 * (j : Int))) (by omega) ?_
          refine TGo.imul dX0_row_140 ?_
          refine TGo.al0 dX0_row_141 rfl ?_
          refine TGo.getS (t := 8) 4 4 (B + 33) (hB 0 (by decide)) rfl fgX0_24_0 dX0_row_142 rfl rfl rfl ?_
          refine TGo.il dX0_row_145 rfl ?_
          refine TGo.ic1 dX0_row_147 ?_
          refine TGo.iadd dX0_row_148 ?_
          refine TGo.bald dX0_row_149 (hB 33 (by decide)) (by omega) rfl ?_
          refine TGo.toz _ (((hc.2.2.2.1 _ (by omega) (by omega)).trans (by rw [zrZ_7]) : _ = sbZ (z.2 7 _))) ?_
          refine TGo.toz (z.2 7 (4 * (j : Int) + 1)) (by omega) ?_
          refine TGo.iadd dX0_row_150 ?_
          refine TGo.al0 dX0_row_151 rfl ?_
          refine TGo.getS (t := 8) 4 4 (B + 33) (hB 0 (by decide)) rfl fgX0_24_0 dX0_row_152 rfl rfl rfl ?_
          refine TGo.il dX0_row_155 rfl ?_
          refine TGo.ic2 dX0_row_157 ?_
          refine TGo.iadd dX0_row_158 ?_
          refine TGo.bald dX0_row_159 (hB 33 (by decide)) (by omega) rfl ?_
          refine TGo.toz _ (((hc.2.2.2.1 _ (by omega) (by omega)).trans (by rw [zrZ_7]) : _ = sbZ (z.2 7 _))) ?_
          refine TGo.toz (z.2 7 (4 * (j : Int) + 2)) (by omega) ?_
          refine TGo.al0 dX0_row_160 rfl ?_
          refine TGo.getS (t := 8) 4 4 (B + 33) (hB 0 (by decide)) rfl fgX0_24_0 dX0_row_161 rfl rfl rfl ?_
          refine TGo.il dX0_row_164 rfl ?_
          refine TGo.ic3 dX0_row_166 ?_
          refine TGo.iadd dX0_row_167 ?_
          refine TGo.bald dX0_row_168 (hB 33 (by decide)) (by omega) rfl ?_
          refine TGo.toz _ (((hc.2.2.2.1 _ (by omega) (by omega)).trans (by rw [zrZ_7]) : _ = sbZ (z.2 7 _))) ?_
          refine TGo.toz (z.2 7 (4 * (j : Int) + 3)) (by omega) ?_
          refine TGo.cWn (csV3 (y2 := mX2_says) (t := 10) 1 rfl hS.1 rfl rfl dX0_row_169 q725 q726 q727 okX2_says npX2_says rfl rfl) (kX2_says hS (by omega)) ?_
          have hc2 := hc.says (p := p.toNat) (r := 6 * z.2 7 (4 * (j : Int)) + z.2 7 (4 * (j : Int) + 1)) (w := z.2 7 (4 * (j : Int) + 2)) (n := z.2 7 (4 * (j : Int) + 3)) (by omega) (by omega) (by omega) (by omega)
          rw [Int.toNat_of_nonneg hp.1] at hc2
          have hf2 := hf.tr (FrX.says (B := B) (V := V) (p := p.toNat) (r := 6 * z.2 7 (4 * (j : Int)) + z.2 7 (4 * (j : Int) + 1)) (w := z.2 7 (4 * (j : Int) + 2)) (n := z.2 7 (4 * (j : Int) + 3)) (by omega))
          refine TGo.il3 dX0_row_172 rfl ?_
          refine TGo.il dX0_row_173 rfl ?_
          refine TGo.if_eq 182 dX0_row_175 (by decide) (by decide) (fun h => absurd h (by decide)) (fun _ => ?_)
          refine TGo.ic1 dX0_row_178 ?_
          refine TGo.goto 183 dX0_row_179 (by decide) ?_
          refine TGo.iadd dX0_row_183 ?_
          refine TGo.is3 dX0_row_184 rfl rfl ?_
          refine TGo.al0 dX0_row_185 rfl ?_
          refine TGo.dup dX0_row_186 rfl ?_
          refine TGo.getI (t := 8) 7 7 (hB 0 (by decide)) rfl fgX0_239_0 dX0_row_187 rfl rfl rfl ?_
          refine TGo.toz _ (hc2.2.1.2.2.2.1) ?_
          refine TGo.il dX0_row_190 rfl ?_
          refine TGo.if_eq 199 dX0_row_192 (by decide) (by decide) (fun h => absurd h (by decide)) (fun _ => ?_)
          refine TGo.ic0 dX0_row_195 ?_
          refine TGo.goto 200 dX0_row_196 (by decide) ?_
          refine TGo.iadd dX0_row_200 ?_
          refine TGo.putI (t := 8) 7 7 (hB 0 (by decide)) rfl fpX0_239_0 dX0_row_201 rfl rfl rfl ?_
          refine TGo.iinc dX0_row_204 rfl rfl rfl ?_
          refine TGo.goto 56 dX0_row_207 (by decide) ?_
          have hg : goodZ (z.2 7) (z.1 8) j := ⟨by omega, ⟨by omega, by omega⟩, by omega, by omega⟩
          have er : (rowZ (z.2 7) (z.1 8) p (z.2 3) (j + 1)) = _ := if_pos hg
          refine TGo.forget 5 ?_
          refine TGo.seq [some (.ref B), some (.int (iI p)), some (.int (iI (z.1 8))), some (.int (iI (rowZ (z.2 7) (z.1 8) p (z.2 3) (j + 1)).2.1)), some (.int (iI (4 * (((j + 1) : Nat) : Int)))), none] [] _ (by rw [er, show 4 * ((j + 1 : Nat) : Int) = 4 * (j : Int) + 4 by omega]; rfl) rfl rfl (ih (j + 1) _ (by omega) (by omega) (hf2.i 0 rfl) (hc2.pr.eqz (zr_g hg)))
/-- the last group is none, when it is not whole -/
theorem row_end {z : ZT} {p : Int} (wt : 0 ≤ z.1 8 ∧ z.1 8 ≤ 400) : (rowZ (z.2 7) (z.1 8) p (z.2 3) (((z.1 8 + 3) / 4).toNat)) = ((rowZ (z.2 7) (z.1 8) p (z.2 3) ((z.1 8).toNat / 4)).1, (rowZ (z.2 7) (z.1 8) p (z.2 3) ((z.1 8).toNat / 4)).2.1, (if z.1 8 % 4 = 0 then 0 else 1) + (rowZ (z.2 7) (z.1 8) p (z.2 3) ((z.1 8).toNat / 4)).2.2) := by
  by_cases e : z.1 8 % 4 = 0
  · rw [if_pos e, show ((z.1 8 + 3) / 4).toNat = (z.1 8).toNat / 4 by omega, Int.zero_add]
  · rw [if_neg e, show ((z.1 8 + 3) / 4).toNat = (z.1 8).toNat / 4 + 1 by omega]
    have hg : ¬ goodZ (z.2 7) (z.1 8) (((z.1 8).toNat / 4 : Nat) : Int) := fun h => by have := h.1; omega
    have er : (rowZ (z.2 7) (z.1 8) p (z.2 3) ((z.1 8).toNat / 4 + 1)) = _ := if_neg hg
    rw [er, Int.add_comm 1]
theorem StA.row {z : ZT} {p : Int} {j : Nat} (hp : 0 ≤ p ∧ p < 6) (hb : ∀ i, 0 ≤ z.2 7 i ∧ z.2 7 i ≤ 255) : StA (z.2 3) (rowZ (z.2 7) (z.1 8) p (z.2 3) (j)).1 := by
  induction j with
  | zero => exact StA.rf
  | succ j ih =>
    intro i hi
    by_cases hg : goodZ (z.2 7) (z.1 8) j
    · have er : (rowZ (z.2 7) (z.1 8) p (z.2 3) (j + 1)) = _ := if_pos hg
      rw [er]
      have h2 := hg.2.1
      have b0 := hb (4 * (j : Int))
      have b1 := hb (4 * (j : Int) + 1)
      exact (zu_n (by omega)).trans (ih i hi)
    · have er : (rowZ (z.2 7) (z.1 8) p (z.2 3) (j + 1)) = _ := if_neg hg
      rw [er]; exact ih i hi
set_option maxHeartbeats 4000000 in
theorem kX0_row {E : ET} {sh : SHT} {nn : Nat × Nat} {V : VT} {B : Nat} {ow : Nat → Nat} {z : ZT} {p : Int} (hR : XR ow sh nn V B z) (W : RWZ (z.2 3)) (wt : 0 ≤ z.1 8 ∧ z.1 8 ≤ 400) (hb : ∀ i, 0 ≤ z.2 7 i ∧ z.2 7 i ≤ 255) (rp : R32 p) : TC E mX0_row 3 [.ref B, .int (iI p)] sh nn V (XP B nn (zp_row z p)) := by
  obtain ⟨hB, -, hc, -⟩ := id hR
  have w0 := W.1.1
  refine TC.intro [some (.ref B), some (.int (iI p)), none, none, none, none] rfl ?_
  refine TGo.al0 dX0_row_0 rfl ?_
  refine TGo.il1 dX0_row_1 rfl ?_
  refine TGo.cF (csV1 (y2 := mX0_isPart) (t := 8) 2 rfl (hB 0 (by decide)) rfl rfl dX0_row_2 q721 q723 qs4 okX0_isPart npX0_isPart rfl rfl) (kX0_isPart hB hc w0 (by omega)) ?_
  refine TGo.ifb_ne 15 dX0_row_5 (by decide) (fun h5 => ?_) (fun h5 => ?_)
  · refine TGo.al0 dX0_row_15 rfl ?_
    refine TGo.getI (t := 8) 5 5 (hB 0 (by decide)) rfl fgX0_232_0 dX0_row_16 rfl rfl rfl ?_
    refine TGo.toz _ (hc.2.1.2.1) ?_
    refine TGo.is2 dX0_row_19 rfl rfl ?_
    refine TGo.al0 dX0_row_20 rfl ?_
    refine TGo.ic0 dX0_row_21 ?_
    refine TGo.putI (t := 8) 5 5 (hB 0 (by decide)) rfl fpX0_232_0 dX0_row_22 rfl rfl rfl ?_
    refine TGo.il2 dX0_row_25 rfl ?_
    refine TGo.if_ne 36 dX0_row_26 (by decide) (by omega) (fun h26 => ?_) (fun h26 => ?_)
    · refine TGo.ic0 dX0_row_36 ?_
      refine TGo.is3 dX0_row_37 rfl rfl ?_
      refine TGo.al0 dX0_row_38 rfl ?_
      refine TGo.il2 dX0_row_39 rfl ?_
      refine TGo.ic4 dX0_row_40 ?_
      refine TGo.irem dX0_row_41 (by omega) ?_
      refine TGo.if_ne 49 dX0_row_42 (by decide) (by omega) (fun h42 => ?_) (fun h42 => ?_)
      · refine TGo.ic1 dX0_row_49 ?_
        refine TGo.putI (t := 8) 7 7 (hB 0 (by decide)) rfl fpX0_239_0 dX0_row_50 rfl rfl rfl ?_
        refine TGo.ic0 dX0_row_53 ?_
        refine TGo.is dX0_row_54 rfl rfl ?_
        have hq : (0 : Int) ≤ (if z.1 8 % 4 = 0 then 0 else 1) ∧ (if z.1 8 % 4 = 0 then (0 : Int) else 1) ≤ 1 := by split <;> omega
        have hc0 : XC _ B (zi (zi z 8 0) 6 1) := ((hc.tp).pr)
        have hc1 := hc0.eqz (show zi (zi z 8 0) 6 1 = zrZ z p (if z.1 8 % 4 = 0 then 0 else 1) 0 by rw [zrZ_0]; first | rw [if_pos (by omega)] | rw [if_neg (by omega)])
        refine TGo.seq [some (.ref B), some (.int (iI p)), some (.int (iI (z.1 8))), some (.int (iI (rowZ (z.2 7) (z.1 8) p (z.2 3) (0)).2.1)), some (.int (iI (4 * (((0) : Nat) : Int)))), none] [] _ rfl rfl rfl ((lX0_row hB (by omega) hb wt hq ((z.1 8).toNat / 4 + 1) 0 _ (by omega) (by omega) ((FrX.rf.b).b) hc1).mono ?_)
        rintro o sh' nn' V' ⟨rfl, rfl, rfl, hf, hc'⟩
        have hle := rowZ_le (z.2 7) (z.1 8) p (z.2 3) ((z.1 8).toNat / 4)
        refine hR.leaf W hf hc' (zi_2.trans (zi_2.trans ((zA_2 rfl).trans zi_2))) (zi_2.trans (zi_2.trans ((zA_2 rfl).trans zi_2))) ?_ ?_
        · have e : (zi (zrZ z p (if z.1 8 % 4 = 0 then 0 else 1) ((z.1 8).toNat / 4)) 1 0).2 3 = (rowZ (z.2 7) (z.1 8) p (z.2 3) ((z.1 8).toNat / 4)).1 := zrZ_3 (q := if z.1 8 % 4 = 0 then 0 else 1)
          rw [e]; exact StA.row (by omega) hb
        · unfold zp_row
          rw [if_neg (fun q => q (by assumption)), if_neg (by omega), row_end wt, zT0 (show 0 ≤ _ from hle.1.1)]
          rfl
      · refine TGo.ic0 dX0_row_45 ?_
        refine TGo.goto 50 dX0_row_46 (by decide) ?_
        refine TGo.putI (t := 8) 7 7 (hB 0 (by decide)) rfl fpX0_239_0 dX0_row_50 rfl rfl rfl ?_
        refine TGo.ic0 dX0_row_53 ?_
        refine TGo.is dX0_row_54 rfl rfl ?_
        have hq : (0 : Int) ≤ (if z.1 8 % 4 = 0 then 0 else 1) ∧ (if z.1 8 % 4 = 0 then (0 : Int) else 1) ≤ 1 := by split <;> omega
        have hc0 : XC _ B (zi (zi z 8 0) 6 0) := ((hc.tp).pr)
        have hc1 := hc0.eqz (show zi (zi z 8 0) 6 0 = zrZ z p (if z.1 8 % 4 = 0 then 0 else 1) 0 by rw [zrZ_0]; first | rw [if_pos (by omega)] | rw [if_neg (by omega)])
        refine TGo.seq [some (.ref B), some (.int (iI p)), some (.int (iI (z.1 8))), some (.int (iI (rowZ (z.2 7) (z.1 8) p (z.2 3) (0)).2.1)), some (.int (iI (4 * (((0) : Nat) : Int)))), none] [] _ rfl rfl rfl ((lX0_row hB (by omega) hb wt hq ((z.1 8).toNat / 4 + 1) 0 _ (by omega) (by omega) ((FrX.rf.b).b) hc1).mono ?_)
        rintro o sh' nn' V' ⟨rfl, rfl, rfl, hf, hc'⟩
        have hle := rowZ_le (z.2 7) (z.1 8) p (z.2 3) ((z.1 8).toNat / 4)
        refine hR.leaf W hf hc' (zi_2.trans (zi_2.trans ((zA_2 rfl).trans zi_2))) (zi_2.trans (zi_2.trans ((zA_2 rfl).trans zi_2))) ?_ ?_
        · have e : (zi (zrZ z p (if z.1 8 % 4 = 0 then 0 else 1) ((z.1 8).toNat / 4)) 1 0).2 3 = (rowZ (z.2 7) (z.1 8) p (z.2 3) ((z.1 8).toNat / 4)).1 := zrZ_3 (q := if z.1 8 % 4 = 0 then 0 else 1)
          rw [e]; exact StA.row (by omega) hb
        · unfold zp_row
          rw [if_neg (fun q => q (by assumption)), if_neg (by omega), row_end wt, zT0 (show 0 ≤ _ from hle.1.1)]
          rfl
    · refine TGo.al0 dX0_row_29 rfl ?_
      refine TGo.bip (-6) dX0_row_30 (by decide) ?_
      refine TGo.cS (csV1 (y2 := mX0_refuse) (t := 8) 1 rfl (hB 0 (by decide)) rfl rfl dX0_row_32 q601 q603 qs1 okX0_refuse npX0_refuse rfl rfl) (kX0_refuse hB (hc.tp) (by omega)) (fun v32 V32 h32 => ?_)
      obtain ⟨rfl, hc32, hf32⟩ := h32
      refine TGo.iret dX0_row_35 rfl ?_
      first
      | (exfalso; omega)
      | (refine hR.leaf W ((FrX.rf.b).tr hf32) hc32 ((zTell_2 rfl).trans (zi_2.trans rfl)) ((zTell_2 rfl).trans (zi_2.trans rfl)) ((StA.rf.i).tell) ?_
         unfold zp_row
         (repeat (first | rw [if_pos (by first | rfl | assumption | omega)] | rw [if_neg (by first | decide | assumption | omega)]))
         (try first | rfl))
  · refine TGo.al0 dX0_row_8 rfl ?_
    refine TGo.bip (-2) dX0_row_9 (by decide) ?_
    refine TGo.cS (csV1 (y2 := mX0_refuse) (t := 8) 1 rfl (hB 0 (by decide)) rfl rfl dX0_row_11 q601 q603 qs1 okX0_refuse npX0_refuse rfl rfl) (kX0_refuse hB hc (by omega)) (fun v11 V11 h11 => ?_)
    obtain ⟨rfl, hc11, hf11⟩ := h11
    refine TGo.iret dX0_row_14 rfl ?_
    first
    | (exfalso; omega)
    | (refine hR.leaf W (FrX.rf.tr hf11) hc11 ((zTell_2 rfl).trans rfl) ((zTell_2 rfl).trans rfl) (StA.rf.tell) ?_
       unfold zp_row
       (repeat (first | rw [if_pos (by first | rfl | assumption | omega)] | rw [if_neg (by first | decide | assumption | omega)]))
       (try first | rfl))
