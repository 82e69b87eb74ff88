/-! THE MODEL: row, count, what is said at cues -/
set_option maxRecDepth 100000
/-- but for these cells, nothing has changed -/
def Fr (L : List Nat) (V V' : VT) : Prop := (∀ a, a ∉ L → V'.1 a = V.1 a) ∧ V'.2 = V.2
theorem Fr.rf {L : List Nat} {V : VT} : Fr L V V := ⟨fun _ _ => rfl, rfl⟩
theorem Fr.tr {L : List Nat} {A B C : VT} (h : Fr L A B) (h2 : Fr L B C) : Fr L A C := ⟨fun a ha => (h2.1 a ha).trans (h.1 a ha), h2.2.trans h.2⟩
theorem Fr.i {L : List Nat} {V V' : VT} {a : Nat} {k v : Int} (h : Fr L V V') (ha : a ∈ L) : Fr L V (vI V' a k v) := ⟨fun b hb => by rw [show (vI V' a k v).1 b = V'.1 b from u2_a (fun e => hb (e ▸ ha))]; exact h.1 b hb, h.2⟩
theorem Fr.sub {L M : List Nat} {V V' : VT} (h : Fr L V V') (hs : ∀ a, a ∈ L → a ∈ M) : Fr M V V' := ⟨fun a ha => h.1 a (fun q => ha (hs a q)), h.2⟩
theorem zi_s {z : ZT} {k v : Int} : (zi z k v).1 k = v := by show (if k = k then v else _) = v; rw [if_pos rfl]
theorem zAu {z : ZT} {k : Nat} {f : Int → Int} {i v : Int} : za (zA z k f) k i v = zA z k (zu f i v) := by
  unfold za zA; simp only; rw [u12]
set_option maxHeartbeats 4000000 in
theorem lX10_row {E : ET} {sh : SHT} {nn : Nat × Nat} {T : Nat} {z : ZT} {t p : Int} {m : Nat} (hT : MSh T sh) (ht : 0 ≤ t ∧ t ≤ 400) (hp : 0 ≤ p ∧ p < 6) (hm : t ≤ 4 * (m : Int) ∧ 4 * (m : Int) < t + 4) (hb : ∀ i, 0 ≤ z.2 7 i ∧ z.2 7 i ≤ 255) : ∀ (n j : Nat) (V : VT), m - j < n → j ≤ m → PE T V (zi (zA z 3 (rowZ (z.2 7) t p (z.2 3) j).1) 6 (rowZ (z.2 7) t p (z.2 3) j).2.2) → TGo E mX10_row 3 51 [some (.ref T), some (.int (iI p)), some (.int (iI t)), some (.int (iI (rowZ (z.2 7) t p (z.2 3) (j)).2.1)), some (.int (iI (4 * (((j) : Nat) : Int))))] [] sh nn V (fun o sh' nn' V' => o = .inl (some (.int (iI (rowZ (z.2 7) t p (z.2 3) m).2.1))) ∧ sh' = sh ∧ nn' = nn ∧ PE T V' (zTell (zi (zA z 3 (rowZ (z.2 7) t p (z.2 3) m).1) 6 (rowZ (z.2 7) t p (z.2 3) m).2.2) (rowZ (z.2 7) t p (z.2 3) m).2.1)) := by
  intro n
  induction n with
  | zero => intro j V h; omega
  | succ n ih =>
    intro j V hn hj hz
    have hr := rowZ_le (z.2 7) t p (z.2 3) j
    have b0 := hb (4 * (j : Int))
    have b1 := hb (4 * (j : Int) + 1)
    have b2 := hb (4 * (j : Int) + 2)
    have b3 := hb (4 * (j : Int) + 3)
    refine TGo.il dX10_row_51 rfl ?_
    refine TGo.il2 dX10_row_53 rfl ?_
    refine TGo.icmp_ge 193 dX10_row_54 (by decide) (by omega) (fun h54 => ?_) (fun h54 => ?_)
    · obtain rfl : j = m := by omega
      refine TGo.al0 dX10_row_193 rfl ?_
      refine TGo.il3 dX10_row_194 rfl ?_
      refine TGo.cS (csV1 (y2 := mX10_tell) (t := 18) 1 rfl (hT 0 (by decide)) rfl rfl dX10_row_195 q2035 q2037 qs39 okX10_tell npX10_tell rfl rfl) (kX10_tell hT hz (by omega)) (fun v195 V195 h195 => ?_)
      obtain ⟨rfl, hz195⟩ := h195
      refine TGo.iret dX10_row_198 rfl ?_
      exact ⟨rfl, rfl, rfl, hz195⟩
    · refine TGo.il dX10_row_57 rfl ?_
      refine TGo.ic3 dX10_row_59 ?_
      refine TGo.iadd dX10_row_60 ?_
      refine TGo.il2 dX10_row_61 rfl ?_
      refine TGo.icmp_ge 177 dX10_row_62 (by decide) (by omega) (fun h62 => ?_) (fun h62 => ?_)
      · refine TGo.al0 dX10_row_177 rfl ?_
        refine TGo.dup dX10_row_178 rfl ?_
        refine TGo.getI (t := 18) 6 6 (hT 0 (by decide)) rfl fgX10_239_10 dX10_row_179 rfl rfl rfl ?_
        refine TGo.toz _ (hz.1 6 rfl) ?_
        refine TGo.ic1 dX10_row_182 ?_
        refine TGo.iadd dX10_row_183 ?_
        refine TGo.putI (t := 18) 6 6 (hT 0 (by decide)) rfl fpX10_239_10 dX10_row_184 rfl rfl rfl ?_
        refine TGo.iinc dX10_row_187 rfl rfl rfl ?_
        refine TGo.goto 51 dX10_row_190 (by decide) ?_
        exact TGo.seq [some (.ref T), some (.int (iI p)), some (.int (iI t)), some (.int (iI (rowZ (z.2 7) t p (z.2 3) ((j + 1))).2.1)), some (.int (iI (4 * ((((j + 1)) : Nat) : Int))))] [] _ (by rw [rowZ]; (first | (rw [if_pos (show goodZ (z.2 7) t (j : Int) by unfold goodZ; omega)]) | (rw [if_neg (show ¬ goodZ (z.2 7) t (j : Int) by unfold goodZ; omega)])) <;> rfl) rfl rfl (ih (j + 1) _ (by omega) (by omega) (PE.eq (hz.i rfl) (by rw [rowZ]; (first | (rw [if_pos (show goodZ (z.2 7) t (j : Int) by unfold goodZ; omega)]) | (rw [if_neg (show ¬ goodZ (z.2 7) t (j : Int) by unfold goodZ; omega)])) <;> simp only [zi_za, zAu, zi_zi, zi_s])))
      · refine TGo.al0 dX10_row_65 rfl ?_
        refine TGo.getS (t := 18) 7 7 (T + 5) (hT 0 (by decide)) rfl fgX10_23_10 dX10_row_66 rfl rfl rfl ?_
        refine TGo.il dX10_row_69 rfl ?_
        refine TGo.iald dX10_row_71 (hT 5 (by decide)) (by omega) rfl ?_
        refine TGo.toz (z.2 7 (4 * (j : Int))) (hz.2.1 7 (by decide) _) ?_
        refine TGo.al0 dX10_row_72 rfl ?_
        refine TGo.getS (t := 18) 7 7 (T + 5) (hT 0 (by decide)) rfl fgX10_23_10 dX10_row_73 rfl rfl rfl ?_
        refine TGo.il dX10_row_76 rfl ?_
        refine TGo.ic1 dX10_row_78 ?_
        refine TGo.iadd dX10_row_79 ?_
        refine TGo.iald dX10_row_80 (hT 5 (by decide)) (by omega) rfl ?_
        refine TGo.toz (z.2 7 (4 * (j : Int) + 1)) (hz.2.1 7 (by decide) _) ?_
        refine TGo.cF (csS2 (y2 := mX10_isPlace) 2 rfl dX10_row_81 q2053 q2054 okX10_isPlace npX10_isPlace rfl rfl) (kX10_isPlace (by omega) (by omega)) ?_
        refine TGo.ifb_eq 177 dX10_row_84 (by decide) (fun h84 => ?_) (fun h84 => ?_)
        · refine TGo.al0 dX10_row_177 rfl ?_
          refine TGo.dup dX10_row_178 rfl ?_
          refine TGo.getI (t := 18) 6 6 (hT 0 (by decide)) rfl fgX10_239_10 dX10_row_179 rfl rfl rfl ?_
          refine TGo.toz _ (hz.1 6 rfl) ?_
          refine TGo.ic1 dX10_row_182 ?_
          refine TGo.iadd dX10_row_183 ?_
          refine TGo.putI (t := 18) 6 6 (hT 0 (by decide)) rfl fpX10_239_10 dX10_row_184 rfl rfl rfl ?_
          refine TGo.iinc dX10_row_187 rfl rfl rfl ?_
          refine TGo.goto 51 dX10_row_190 (by decide) ?_
          exact TGo.seq [some (.ref T), some (.int (iI p)), some (.int (iI t)), some (.int (iI (rowZ (z.2 7) t p (z.2 3) ((j + 1))).2.1)), some (.int (iI (4 * ((((j + 1)) : Nat) : Int))))] [] _ (by rw [rowZ]; (first | (rw [if_pos (show goodZ (z.2 7) t (j : Int) by unfold goodZ; omega)]) | (rw [if_neg (show ¬ goodZ (z.2 7) t (j : Int) by unfold goodZ; omega)])) <;> rfl) rfl rfl (ih (j + 1) _ (by omega) (by omega) (PE.eq (hz.i rfl) (by rw [rowZ]; (first | (rw [if_pos (show goodZ (z.2 7) t (j : Int) by unfold goodZ; omega)]) | (rw [if_neg (show ¬ goodZ (z.2 7) t (j : Int) by unfold goodZ; omega)])) <;> simp only [zi_za, zAu, zi_zi, zi_s])))
        · refine TGo.al0 dX10_row_87 rfl ?_
          refine TGo.getS (t := 18) 7 7 (T + 5) (hT 0 (by decide)) rfl fgX10_23_10 dX10_row_88 rfl rfl rfl ?_
          refine TGo.il dX10_row_91 rfl ?_
          refine TGo.ic2 dX10_row_93 ?_
          refine TGo.iadd dX10_row_94 ?_
          refine TGo.iald dX10_row_95 (hT 5 (by decide)) (by omega) rfl ?_
          refine TGo.toz (z.2 7 (4 * (j : Int) + 2)) (hz.2.1 7 (by decide) _) ?_
          refine TGo.cF (csS1 (y2 := mX10_isSaid) 2 rfl dX10_row_96 q2057 q2058 okX10_isSaid npX10_isSaid rfl rfl) (kX10_isSaid (by omega)) ?_
          refine TGo.ifb_eq 177 dX10_row_99 (by decide) (fun h99 => ?_) (fun h99 => ?_)
          · refine TGo.al0 dX10_row_177 rfl ?_
            refine TGo.dup dX10_row_178 rfl ?_
            refine TGo.getI (t := 18) 6 6 (hT 0 (by decide)) rfl fgX10_239_10 dX10_row_179 rfl rfl rfl ?_
            refine TGo.toz _ (hz.1 6 rfl) ?_
            refine TGo.ic1 dX10_row_182 ?_
            refine TGo.iadd dX10_row_183 ?_
            refine TGo.putI (t := 18) 6 6 (hT 0 (by decide)) rfl fpX10_239_10 dX10_row_184 rfl rfl rfl ?_
            refine TGo.iinc dX10_row_187 rfl rfl rfl ?_
            refine TGo.goto 51 dX10_row_190 (by decide) ?_
            exact TGo.seq [some (.ref T), some (.int (iI p)), some (.int (iI t)), some (.int (iI (rowZ (z.2 7) t p (z.2 3) ((j + 1))).2.1)), some (.int (iI (4 * ((((j + 1)) : Nat) : Int))))] [] _ (by rw [rowZ]; (first | (rw [if_pos (show goodZ (z.2 7) t (j : Int) by unfold goodZ; omega)]) | (rw [if_neg (show ¬ goodZ (z.2 7) t (j : Int) by unfold goodZ; omega)])) <;> rfl) rfl rfl (ih (j + 1) _ (by omega) (by omega) (PE.eq (hz.i rfl) (by rw [rowZ]; (first | (rw [if_pos (show goodZ (z.2 7) t (j : Int) by unfold goodZ; omega)]) | (rw [if_neg (show ¬ goodZ (z.2 7) t (j : Int) by unfold goodZ; omega)])) <;> simp only [zi_za, zAu, zi_zi, zi_s])))
          · refine TGo.al0 dX10_row_102 rfl ?_
            refine TGo.getS (t := 18) 7 7 (T + 5) (hT 0 (by decide)) rfl fgX10_23_10 dX10_row_103 rfl rfl rfl ?_
            refine TGo.il dX10_row_106 rfl ?_
            refine TGo.ic3 dX10_row_108 ?_
            refine TGo.iadd dX10_row_109 ?_
            refine TGo.iald dX10_row_110 (hT 5 (by decide)) (by omega) rfl ?_
            refine TGo.toz (z.2 7 (4 * (j : Int) + 3)) (hz.2.1 7 (by decide) _) ?_
            refine TGo.bip 6 dX10_row_111 (by decide) ?_
            refine TGo.icmp_ge 177 dX10_row_113 (by decide) (by omega) (fun h113 => ?_) (fun h113 => ?_)
            · refine TGo.al0 dX10_row_177 rfl ?_
              refine TGo.dup dX10_row_178 rfl ?_
              refine TGo.getI (t := 18) 6 6 (hT 0 (by decide)) rfl fgX10_239_10 dX10_row_179 rfl rfl rfl ?_
              refine TGo.toz _ (hz.1 6 rfl) ?_
              refine TGo.ic1 dX10_row_182 ?_
              refine TGo.iadd dX10_row_183 ?_
              refine TGo.putI (t := 18) 6 6 (hT 0 (by decide)) rfl fpX10_239_10 dX10_row_184 rfl rfl rfl ?_
              refine TGo.iinc dX10_row_187 rfl rfl rfl ?_
              refine TGo.goto 51 dX10_row_190 (by decide) ?_
              exact TGo.seq [some (.ref T), some (.int (iI p)), some (.int (iI t)), some (.int (iI (rowZ (z.2 7) t p (z.2 3) ((j + 1))).2.1)), some (.int (iI (4 * ((((j + 1)) : Nat) : Int))))] [] _ (by rw [rowZ]; (first | (rw [if_pos (show goodZ (z.2 7) t (j : Int) by unfold goodZ; omega)]) | (rw [if_neg (show ¬ goodZ (z.2 7) t (j : Int) by unfold goodZ; omega)])) <;> rfl) rfl rfl (ih (j + 1) _ (by omega) (by omega) (PE.eq (hz.i rfl) (by rw [rowZ]; (first | (rw [if_pos (show goodZ (z.2 7) t (j : Int) by unfold goodZ; omega)]) | (rw [if_neg (show ¬ goodZ (z.2 7) t (j : Int) by unfold goodZ; omega)])) <;> simp only [zi_za, zAu, zi_zi, zi_s])))
            · refine TGo.al0 dX10_row_116 rfl ?_
              refine TGo.getS (t := 18) 3 3 (T + 2) (hT 0 (by decide)) rfl fgX10_13_10 dX10_row_117 rfl rfl rfl ?_
              refine TGo.bip 22 dX10_row_120 (by decide) ?_
              refine TGo.bip 36 dX10_row_122 (by decide) ?_
              refine TGo.il1 dX10_row_124 rfl ?_
              refine TGo.imul dX10_row_125 ?_
              refine TGo.iadd dX10_row_126 ?_
              refine TGo.bip 6 dX10_row_127 (by decide) ?_
              refine TGo.al0 dX10_row_129 rfl ?_
              refine TGo.getS (t := 18) 7 7 (T + 5) (hT 0 (by decide)) rfl fgX10_23_10 dX10_row_130 rfl rfl rfl ?_
              refine TGo.il dX10_row_133 rfl ?_
              refine TGo.iald dX10_row_135 (hT 5 (by decide)) (by omega) rfl ?_
              refine TGo.toz (z.2 7 (4 * (j : Int))) (hz.2.1 7 (by decide) _) ?_
              refine TGo.imul dX10_row_136 ?_
              refine TGo.iadd dX10_row_137 ?_
              refine TGo.al0 dX10_row_138 rfl ?_
              refine TGo.getS (t := 18) 7 7 (T + 5) (hT 0 (by decide)) rfl fgX10_23_10 dX10_row_139 rfl rfl rfl ?_
              refine TGo.il dX10_row_142 rfl ?_
              refine TGo.ic1 dX10_row_144 ?_
              refine TGo.iadd dX10_row_145 ?_
              refine TGo.iald dX10_row_146 (hT 5 (by decide)) (by omega) rfl ?_
              refine TGo.toz (z.2 7 (4 * (j : Int) + 1)) (hz.2.1 7 (by decide) _) ?_
              refine TGo.iadd dX10_row_147 ?_
              refine TGo.bip 6 dX10_row_148 (by decide) ?_
              refine TGo.al0 dX10_row_150 rfl ?_
              refine TGo.getS (t := 18) 7 7 (T + 5) (hT 0 (by decide)) rfl fgX10_23_10 dX10_row_151 rfl rfl rfl ?_
              refine TGo.il dX10_row_154 rfl ?_
              refine TGo.ic2 dX10_row_156 ?_
              refine TGo.iadd dX10_row_157 ?_
              refine TGo.iald dX10_row_158 (hT 5 (by decide)) (by omega) rfl ?_
              refine TGo.toz (z.2 7 (4 * (j : Int) + 2)) (hz.2.1 7 (by decide) _) ?_
              refine TGo.imul dX10_row_159 ?_
              refine TGo.al0 dX10_row_160 rfl ?_
              refine TGo.getS (t := 18) 7 7 (T + 5) (hT 0 (by decide)) rfl fgX10_23_10 dX10_row_161 rfl rfl rfl ?_
              refine TGo.il dX10_row_164 rfl ?_
              refine TGo.ic3 dX10_row_166 ?_
              refine TGo.iadd dX10_row_167 ?_
              refine TGo.iald dX10_row_168 (hT 5 (by decide)) (by omega) rfl ?_
              refine TGo.toz (z.2 7 (4 * (j : Int) + 3)) (hz.2.1 7 (by decide) _) ?_
              refine TGo.iadd dX10_row_169 ?_
              refine TGo.iast dX10_row_170 (hT 2 (by decide)) (by omega) rfl ?_
              refine TGo.iinc dX10_row_171 rfl rfl rfl ?_
              refine TGo.goto 187 dX10_row_174 (by decide) ?_
              refine TGo.iinc dX10_row_187 rfl rfl rfl ?_
              refine TGo.goto 51 dX10_row_190 (by decide) ?_
              exact TGo.seq [some (.ref T), some (.int (iI p)), some (.int (iI t)), some (.int (iI (rowZ (z.2 7) t p (z.2 3) ((j + 1))).2.1)), some (.int (iI (4 * ((((j + 1)) : Nat) : Int))))] [] _ (by rw [rowZ]; (first | (rw [if_pos (show goodZ (z.2 7) t (j : Int) by unfold goodZ; omega)]) | (rw [if_neg (show ¬ goodZ (z.2 7) t (j : Int) by unfold goodZ; omega)])) <;> rfl) rfl rfl (ih (j + 1) _ (by omega) (by omega) (PE.eq (hz.a 3 rfl rfl) (by rw [rowZ]; (first | (rw [if_pos (show goodZ (z.2 7) t (j : Int) by unfold goodZ; omega)]) | (rw [if_neg (show ¬ goodZ (z.2 7) t (j : Int) by unfold goodZ; omega)])) <;> simp only [zi_za, zAu, zi_zi, zi_s])))
def zp_row (z : ZT) (p : Int) : Int × ZT :=
  if ¬ (0 ≤ p ∧ p < z.2 3 0) then ((-2), zTell z (-2)) else if z.1 8 = 0 then (-6, zTell (zi z 8 0) (-6)) else ((rowZ (z.2 7) (z.1 8) p (z.2 3) ((z.1 8 + 3) / 4).toNat).2.1, zTell (zi (zA (zi z 8 0) 3 (rowZ (z.2 7) (z.1 8) p (z.2 3) ((z.1 8 + 3) / 4).toNat).1) 6 (rowZ (z.2 7) (z.1 8) p (z.2 3) ((z.1 8 + 3) / 4).toNat).2.2) (rowZ (z.2 7) (z.1 8) p (z.2 3) ((z.1 8 + 3) / 4).toNat).2.1)
set_option maxHeartbeats 4000000 in
theorem kX10_row {E : ET} {sh : SHT} {nn : Nat × Nat} {V : VT} {T : Nat} {z : ZT} {p : Int} (hT : MSh T sh) (hz : PE T V z) (W : RWZ (z.2 3)) (wt : 0 ≤ z.1 8 ∧ z.1 8 ≤ 400) (hb : ∀ i, 0 ≤ z.2 7 i ∧ z.2 7 i ≤ 255) (rp : R32 p) : TC E mX10_row 3 [.ref T, .int (iI p)] sh nn V (ZP T sh nn (zp_row z p)) := by
  have w0 := W.1.1
  refine TC.intro [some (.ref T), some (.int (iI p)), none, none, none] rfl ?_
  refine TGo.al0 dX10_row_0 rfl ?_
  refine TGo.ic0 dX10_row_1 ?_
  refine TGo.putI (t := 18) 0 0 (hT 0 (by decide)) rfl fpX10_163_10 dX10_row_2 rfl rfl rfl ?_
  refine TGo.al0 dX10_row_5 rfl ?_
  refine TGo.il1 dX10_row_6 rfl ?_
  refine TGo.cF (csV1 (y2 := mX10_isPart) (t := 18) 2 rfl (hT 0 (by decide)) rfl rfl dX10_row_7 q2061 q2063 qs40 okX10_isPart npX10_isPart rfl rfl) (kX10_isPart hT (hz.s rfl) w0 (by omega)) ?_
  refine TGo.ifb_ne 20 dX10_row_10 (by decide) (fun h10 => ?_) (fun h10 => ?_)
  · refine TGo.al0 dX10_row_20 rfl ?_
    refine TGo.getI (t := 18) 8 8 (hT 0 (by decide)) rfl fgX10_236_10 dX10_row_21 rfl rfl rfl ?_
    refine TGo.toz _ ((u2_n (Or.inr (by decide))).trans (hz.1 8 rfl)) ?_
    refine TGo.is2 dX10_row_24 rfl rfl ?_
    refine TGo.al0 dX10_row_25 rfl ?_
    refine TGo.ic0 dX10_row_26 ?_
    refine TGo.putI (t := 18) 8 8 (hT 0 (by decide)) rfl fpX10_236_10 dX10_row_27 rfl rfl rfl ?_
    refine TGo.il2 dX10_row_30 rfl ?_
    refine TGo.if_ne 41 dX10_row_31 (by decide) (by omega) (fun h31 => ?_) (fun h31 => ?_)
    · refine TGo.al0 dX10_row_41 rfl ?_
      refine TGo.ic0 dX10_row_42 ?_
      refine TGo.putI (t := 18) 6 6 (hT 0 (by decide)) rfl fpX10_239_10 dX10_row_43 rfl rfl rfl ?_
      refine TGo.ic0 dX10_row_46 ?_
      refine TGo.is3 dX10_row_47 rfl rfl ?_
      refine TGo.ic0 dX10_row_48 ?_
      refine TGo.is dX10_row_49 rfl rfl ?_
      refine (lX10_row (z := zi z 8 0) (m := ((z.1 8 + 3) / 4).toNat) hT (by omega) (by omega) (by omega) hb (((z.1 8 + 3) / 4).toNat + 1) 0 _ (by omega) (by omega) (PE.eq (((hz.s rfl).i rfl).i rfl) (by show _ = zi (zA (zi z 8 0) 3 ((zi z 8 0).2 3)) 6 0; rw [zA_0]))).mono ?_
      rintro o sh' nn' V' ⟨ho, hs, hn, hp⟩
      unfold zp_row
      (repeat (first | rw [if_pos (by first | rfl | assumption | omega)] | rw [if_neg (by first | decide | assumption | omega)]))
      exact ⟨ho, hs, hn, hp⟩
    · refine TGo.al0 dX10_row_34 rfl ?_
      refine TGo.bip (-6) dX10_row_35 (by decide) ?_
      refine TGo.cS (csV1 (y2 := mX10_tell) (t := 18) 1 rfl (hT 0 (by decide)) rfl rfl dX10_row_37 q2035 q2037 qs39 okX10_tell npX10_tell rfl rfl) (kX10_tell hT ((hz.s rfl).i rfl) (by omega)) (fun v37 V37 h37 => ?_)
      obtain ⟨rfl, hz37⟩ := h37
      refine TGo.iret dX10_row_40 rfl ?_
      first
      | (exfalso; omega)
      | (refine leafZ hz37 ?_
         unfold zp_row
         (repeat (first | rw [if_pos (by first | rfl | assumption | omega)] | rw [if_neg (by first | decide | assumption | omega)]))
         (try first | rfl | rw [bZ_t (by first | assumption | omega)] | rw [bZ_f (by first | assumption | omega)]))
  · refine TGo.al0 dX10_row_13 rfl ?_
    refine TGo.bip (-2) dX10_row_14 (by decide) ?_
    refine TGo.cS (csV1 (y2 := mX10_tell) (t := 18) 1 rfl (hT 0 (by decide)) rfl rfl dX10_row_16 q2035 q2037 qs39 okX10_tell npX10_tell rfl rfl) (kX10_tell hT (hz.s rfl) (by omega)) (fun v16 V16 h16 => ?_)
    obtain ⟨rfl, hz16⟩ := h16
    refine TGo.iret dX10_row_19 rfl ?_
    first
    | (exfalso; omega)
    | (refine leafZ hz16 ?_
       unfold zp_row
       (repeat (first | rw [if_pos (by first | rfl | assumption | omega)] | rw [if_neg (by first | decide | assumption | omega)]))
       (try first | rfl | rw [bZ_t (by first | assumption | omega)] | rw [bZ_f (by first | assumption | omega)]))
def zp_count (z : ZT) (w : Int) : Int × ZT :=
  ((if w = 0 then z.2 3 0 else if w = 1 then z.2 3 1 else if w = 2 then z.2 3 2 else if w = 3 then z.2 3 3 else if w = 4 then z.2 3 5 else if w = 5 then z.2 3 6 else if w = 12 then z.2 3 4 else if w = 6 then z.1 8 else if w = 7 then z.2 2 1 else if w = 8 then z.2 2 2 else if w = 9 then z.2 2 3 else if w = 10 then z.2 2 5 else if w = 11 then z.2 2 6 else if 13 ≤ w ∧ w ≤ 15 then z.2 3 (7 + (w - 13)) else -1), z)
set_option maxHeartbeats 4000000 in
theorem kX10_count {E : ET} {sh : SHT} {nn : Nat × Nat} {V : VT} {T : Nat} {z : ZT} {w : Int} (hT : MSh T sh) (hz : PE T V z)  (rw : R32 w) : TC E mX10_count 2 [.ref T, .int (iI w)] sh nn V (ZP T sh nn (zp_count z w)) := by
  refine TC.intro [some (.ref T), some (.int (iI w))] rfl ?_
  refine TGo.al0 dX10_count_0 rfl ?_
  refine TGo.ic0 dX10_count_1 ?_
  refine TGo.putI (t := 18) 0 0 (hT 0 (by decide)) rfl fpX10_163_10 dX10_count_2 rfl rfl rfl ?_
  refine TGo.il1 dX10_count_5 rfl ?_
  by_cases h6 : w < 0 ∨ 12 < w
  · refine TGo.tabOut 163 dX10_count_6 (by omega) h6 (by decide) ?_
    refine TGo.il1 dX10_count_163 rfl ?_
    refine TGo.i2l dX10_count_164 (by omega) ?_
    refine TGo.ldc2 13 dX10_count_165 q2579 (by decide) ?_
    refine TGo.ldc2 15 dX10_count_168 q2580 (by decide) ?_
    refine TGo.cF (csS3 (y2 := mX10_in) 1 rfl dX10_count_171 q2032 q2033 okX10_in npX10_in rfl rfl) (kX10_in (by omega) (by omega) (by omega)) ?_
    refine TGo.ifb_eq 192 dX10_count_174 (by decide) (fun h174 => ?_) (fun h174 => ?_)
    · refine TGo.icm1 dX10_count_192 ?_
      refine TGo.iret dX10_count_193 rfl ?_
      refine leafZ (hz.s rfl) ?_
      unfold zp_count
      (repeat (first | rw [if_pos (by first | assumption | omega)] | rw [if_neg (by omega)]))
      (try (rw [show 7 + (w - 13) = 7 + w - 13 by omega]))
    · refine TGo.al0 dX10_count_177 rfl ?_
      refine TGo.getS (t := 18) 3 3 (T + 2) (hT 0 (by decide)) rfl fgX10_13_10 dX10_count_178 rfl rfl rfl ?_
      refine TGo.bip 7 dX10_count_181 (by decide) ?_
      refine TGo.il1 dX10_count_183 rfl ?_
      refine TGo.iadd dX10_count_184 ?_
      refine TGo.bip 13 dX10_count_185 (by decide) ?_
      refine TGo.isub dX10_count_187 ?_
      refine TGo.iald dX10_count_188 (hT 2 (by decide)) (by omega) rfl ?_
      refine TGo.toz _ ((u2_n (Or.inl (by omega))).trans (hz.2.1 3 (by decide) _)) ?_
      refine TGo.goto 193 dX10_count_189 (by decide) ?_
      refine TGo.iret dX10_count_193 rfl ?_
      refine leafZ (hz.s rfl) ?_
      unfold zp_count
      (repeat (first | rw [if_pos (by first | assumption | omega)] | rw [if_neg (by omega)]))
      (try (rw [show 7 + (w - 13) = 7 + w - 13 by omega]))
  · rcases (show w = 0 ∨ w = 1 ∨ w = 2 ∨ w = 3 ∨ w = 4 ∨ w = 5 ∨ w = 6 ∨ w = 7 ∨ w = 8 ∨ w = 9 ∨ w = 10 ∨ w = 11 ∨ w = 12 by omega) with h6 | h6 | h6 | h6 | h6 | h6 | h6 | h6 | h6 | h6 | h6 | h6 | h6
    · refine TGo.tabIn (off := 66) 72 dX10_count_6 (by omega) (by omega) (by rw [h6]; decide) (by decide) ?_
      refine TGo.al0 dX10_count_72 rfl ?_
      refine TGo.getS (t := 18) 3 3 (T + 2) (hT 0 (by decide)) rfl fgX10_13_10 dX10_count_73 rfl rfl rfl ?_
      refine TGo.ic0 dX10_count_76 ?_
      refine TGo.iald dX10_count_77 (hT 2 (by decide)) (by omega) rfl ?_
      refine TGo.toz _ ((u2_n (Or.inl (by omega))).trans (hz.2.1 3 (by decide) _)) ?_
      refine TGo.iret dX10_count_78 rfl ?_
      refine leafZ (hz.s rfl) ?_
      unfold zp_count
      (repeat (first | rw [if_pos (by first | assumption | omega)] | rw [if_neg (by omega)]))
      (try (rw [show 7 + (w - 13) = 7 + w - 13 by omega]))
    · refine TGo.tabIn (off := 73) 79 dX10_count_6 (by omega) (by omega) (by rw [h6]; decide) (by decide) ?_
      refine TGo.al0 dX10_count_79 rfl ?_
      refine TGo.getS (t := 18) 3 3 (T + 2) (hT 0 (by decide)) rfl fgX10_13_10 dX10_count_80 rfl rfl rfl ?_
      refine TGo.ic1 dX10_count_83 ?_
      refine TGo.iald dX10_count_84 (hT 2 (by decide)) (by omega) rfl ?_
      refine TGo.toz _ ((u2_n (Or.inl (by omega))).trans (hz.2.1 3 (by decide) _)) ?_
      refine TGo.iret dX10_count_85 rfl ?_
      refine leafZ (hz.s rfl) ?_
      unfold zp_count
      (repeat (first | rw [if_pos (by first | assumption | omega)] | rw [if_neg (by omega)]))
      (try (rw [show 7 + (w - 13) = 7 + w - 13 by omega]))
    · refine TGo.tabIn (off := 80) 86 dX10_count_6 (by omega) (by omega) (by rw [h6]; decide) (by decide) ?_
      refine TGo.al0 dX10_count_86 rfl ?_
      refine TGo.getS (t := 18) 3 3 (T + 2) (hT 0 (by decide)) rfl fgX10_13_10 dX10_count_87 rfl rfl rfl ?_
      refine TGo.ic2 dX10_count_90 ?_
      refine TGo.iald dX10_count_91 (hT 2 (by decide)) (by omega) rfl ?_
      refine TGo.toz _ ((u2_n (Or.inl (by omega))).trans (hz.2.1 3 (by decide) _)) ?_
      refine TGo.iret dX10_count_92 rfl ?_
      refine leafZ (hz.s rfl) ?_
      unfold zp_count
      (repeat (first | rw [if_pos (by first | assumption | omega)] | rw [if_neg (by omega)]))
      (try (rw [show 7 + (w - 13) = 7 + w - 13 by omega]))
    · refine TGo.tabIn (off := 87) 93 dX10_count_6 (by omega) (by omega) (by rw [h6]; decide) (by decide) ?_
      refine TGo.al0 dX10_count_93 rfl ?_
      refine TGo.getS (t := 18) 3 3 (T + 2) (hT 0 (by decide)) rfl fgX10_13_10 dX10_count_94 rfl rfl rfl ?_
      refine TGo.ic3 dX10_count_97 ?_
      refine TGo.iald dX10_count_98 (hT 2 (by decide)) (by omega) rfl ?_
      refine TGo.toz _ ((u2_n (Or.inl (by omega))).trans (hz.2.1 3 (by decide) _)) ?_
      refine TGo.iret dX10_count_99 rfl ?_
      refine leafZ (hz.s rfl) ?_
      unfold zp_count
      (repeat (first | rw [if_pos (by first | assumption | omega)] | rw [if_neg (by omega)]))
      (try (rw [show 7 + (w - 13) = 7 + w - 13 by omega]))
    · refine TGo.tabIn (off := 94) 100 dX10_count_6 (by omega) (by omega) (by rw [h6]; decide) (by decide) ?_
      refine TGo.al0 dX10_count_100 rfl ?_
      refine TGo.getS (t := 18) 3 3 (T + 2) (hT 0 (by decide)) rfl fgX10_13_10 dX10_count_101 rfl rfl rfl ?_
      refine TGo.ic5 dX10_count_104 ?_
      refine TGo.iald dX10_count_105 (hT 2 (by decide)) (by omega) rfl ?_
      refine TGo.toz _ ((u2_n (Or.inl (by omega))).trans (hz.2.1 3 (by decide) _)) ?_
      refine TGo.iret dX10_count_106 rfl ?_
      refine leafZ (hz.s rfl) ?_
      unfold zp_count
      (repeat (first | rw [if_pos (by first | assumption | omega)] | rw [if_neg (by omega)]))
      (try (rw [show 7 + (w - 13) = 7 + w - 13 by omega]))
    · refine TGo.tabIn (off := 101) 107 dX10_count_6 (by omega) (by omega) (by rw [h6]; decide) (by decide) ?_
      refine TGo.al0 dX10_count_107 rfl ?_
      refine TGo.getS (t := 18) 3 3 (T + 2) (hT 0 (by decide)) rfl fgX10_13_10 dX10_count_108 rfl rfl rfl ?_
      refine TGo.bip 6 dX10_count_111 (by decide) ?_
      refine TGo.iald dX10_count_113 (hT 2 (by decide)) (by omega) rfl ?_
      refine TGo.toz _ ((u2_n (Or.inl (by omega))).trans (hz.2.1 3 (by decide) _)) ?_
      refine TGo.iret dX10_count_114 rfl ?_
      refine leafZ (hz.s rfl) ?_
      unfold zp_count
      (repeat (first | rw [if_pos (by first | assumption | omega)] | rw [if_neg (by omega)]))
      (try (rw [show 7 + (w - 13) = 7 + w - 13 by omega]))
    · refine TGo.tabIn (off := 109) 115 dX10_count_6 (by omega) (by omega) (by rw [h6]; decide) (by decide) ?_
      refine TGo.al0 dX10_count_115 rfl ?_
      refine TGo.getI (t := 18) 8 8 (hT 0 (by decide)) rfl fgX10_236_10 dX10_count_116 rfl rfl rfl ?_
      refine TGo.toz _ ((u2_n (Or.inr (by decide))).trans (hz.1 8 rfl)) ?_
      refine TGo.iret dX10_count_119 rfl ?_
      refine leafZ (hz.s rfl) ?_
      unfold zp_count
      (repeat (first | rw [if_pos (by first | assumption | omega)] | rw [if_neg (by omega)]))
      (try (rw [show 7 + (w - 13) = 7 + w - 13 by omega]))
    · refine TGo.tabIn (off := 114) 120 dX10_count_6 (by omega) (by omega) (by rw [h6]; decide) (by decide) ?_
      refine TGo.al0 dX10_count_120 rfl ?_
      refine TGo.getS (t := 18) 2 2 (T + 1) (hT 0 (by decide)) rfl fgX10_7_10 dX10_count_121 rfl rfl rfl ?_
      refine TGo.ic1 dX10_count_124 ?_
      refine TGo.iald dX10_count_125 (hT 1 (by decide)) (by omega) rfl ?_
      refine TGo.toz _ ((u2_n (Or.inl (by omega))).trans (hz.2.1 2 (by decide) _)) ?_
      refine TGo.iret dX10_count_126 rfl ?_
      refine leafZ (hz.s rfl) ?_
      unfold zp_count
      (repeat (first | rw [if_pos (by first | assumption | omega)] | rw [if_neg (by omega)]))
      (try (rw [show 7 + (w - 13) = 7 + w - 13 by omega]))
    · refine TGo.tabIn (off := 121) 127 dX10_count_6 (by omega) (by omega) (by rw [h6]; decide) (by decide) ?_
      refine TGo.al0 dX10_count_127 rfl ?_
      refine TGo.getS (t := 18) 2 2 (T + 1) (hT 0 (by decide)) rfl fgX10_7_10 dX10_count_128 rfl rfl rfl ?_
      refine TGo.ic2 dX10_count_131 ?_
      refine TGo.iald dX10_count_132 (hT 1 (by decide)) (by omega) rfl ?_
      refine TGo.toz _ ((u2_n (Or.inl (by omega))).trans (hz.2.1 2 (by decide) _)) ?_
      refine TGo.iret dX10_count_133 rfl ?_
      refine leafZ (hz.s rfl) ?_
      unfold zp_count
      (repeat (first | rw [if_pos (by first | assumption | omega)] | rw [if_neg (by omega)]))
      (try (rw [show 7 + (w - 13) = 7 + w - 13 by omega]))
    · refine TGo.tabIn (off := 128) 134 dX10_count_6 (by omega) (by omega) (by rw [h6]; decide) (by decide) ?_
      refine TGo.al0 dX10_count_134 rfl ?_
      refine TGo.getS (t := 18) 2 2 (T + 1) (hT 0 (by decide)) rfl fgX10_7_10 dX10_count_135 rfl rfl rfl ?_
      refine TGo.ic3 dX10_count_138 ?_
      refine TGo.iald dX10_count_139 (hT 1 (by decide)) (by omega) rfl ?_
      refine TGo.toz _ ((u2_n (Or.inl (by omega))).trans (hz.2.1 2 (by decide) _)) ?_
      refine TGo.iret dX10_count_140 rfl ?_
      refine leafZ (hz.s rfl) ?_
      unfold zp_count
      (repeat (first | rw [if_pos (by first | assumption | omega)] | rw [if_neg (by omega)]))
      (try (rw [show 7 + (w - 13) = 7 + w - 13 by omega]))
    · refine TGo.tabIn (off := 135) 141 dX10_count_6 (by omega) (by omega) (by rw [h6]; decide) (by decide) ?_
      refine TGo.al0 dX10_count_141 rfl ?_
      refine TGo.getS (t := 18) 2 2 (T + 1) (hT 0 (by decide)) rfl fgX10_7_10 dX10_count_142 rfl rfl rfl ?_
      refine TGo.ic5 dX10_count_145 ?_
      refine TGo.iald dX10_count_146 (hT 1 (by decide)) (by omega) rfl ?_
      refine TGo.toz _ ((u2_n (Or.inl (by omega))).trans (hz.2.1 2 (by decide) _)) ?_
      refine TGo.iret dX10_count_147 rfl ?_
      refine leafZ (hz.s rfl) ?_
      unfold zp_count
      (repeat (first | rw [if_pos (by first | assumption | omega)] | rw [if_neg (by omega)]))
      (try (rw [show 7 + (w - 13) = 7 + w - 13 by omega]))
    · refine TGo.tabIn (off := 142) 148 dX10_count_6 (by omega) (by omega) (by rw [h6]; decide) (by decide) ?_
      refine TGo.al0 dX10_count_148 rfl ?_
      refine TGo.getS (t := 18) 2 2 (T + 1) (hT 0 (by decide)) rfl fgX10_7_10 dX10_count_149 rfl rfl rfl ?_
      refine TGo.bip 6 dX10_count_152 (by decide) ?_
      refine TGo.iald dX10_count_154 (hT 1 (by decide)) (by omega) rfl ?_
      refine TGo.toz _ ((u2_n (Or.inl (by omega))).trans (hz.2.1 2 (by decide) _)) ?_
      refine TGo.iret dX10_count_155 rfl ?_
      refine leafZ (hz.s rfl) ?_
      unfold zp_count
      (repeat (first | rw [if_pos (by first | assumption | omega)] | rw [if_neg (by omega)]))
      (try (rw [show 7 + (w - 13) = 7 + w - 13 by omega]))
    · refine TGo.tabIn (off := 150) 156 dX10_count_6 (by omega) (by omega) (by rw [h6]; decide) (by decide) ?_
      refine TGo.al0 dX10_count_156 rfl ?_
      refine TGo.getS (t := 18) 3 3 (T + 2) (hT 0 (by decide)) rfl fgX10_13_10 dX10_count_157 rfl rfl rfl ?_
      refine TGo.ic4 dX10_count_160 ?_
      refine TGo.iald dX10_count_161 (hT 2 (by decide)) (by omega) rfl ?_
      refine TGo.toz _ ((u2_n (Or.inl (by omega))).trans (hz.2.1 3 (by decide) _)) ?_
      refine TGo.iret dX10_count_162 rfl ?_
      refine leafZ (hz.s rfl) ?_
      unfold zp_count
      (repeat (first | rw [if_pos (by first | assumption | omega)] | rw [if_neg (by omega)]))
      (try (rw [show 7 + (w - 13) = 7 + w - 13 by omega]))
/-- a script played at cues: the state ahead of each; what is said; where it stops -/
def stZ (f c : Int → Int) : Nat → Int
  | 0 => 0
  | k + 1 => if stZ f c k = -1 then -1 else nZ (f (6 * stZ f c k + c (k : Int)))
def wdZ (f c : Int → Int) (k : Nat) : Int := if stZ f c k = -1 then -1 else wZ (f (6 * stZ f c k + c (k : Int)))
def stopZ (f c : Int → Int) : Nat → Int
  | 0 => -1
  | k + 1 => if stopZ f c k = -1 then (if wdZ f c k = -1 then (k : Int) else -1) else stopZ f c k
def PlZ (f c : Int → Int) (n : Nat) : Prop := (∀ r, 0 ≤ r → r < 36 → cOK (f r)) ∧ ∀ k : Int, 0 ≤ k → k < n → 0 ≤ c k ∧ c k < 6
theorem wZ_r {c : Int} (h : cOK c) : -1 ≤ wZ c ∧ wZ c ≤ 9 ∧ (wZ c = -1 ↔ c = -1) := by unfold wZ; split <;> omega
theorem nZ_r {c : Int} (h : cOK c) : -1 ≤ nZ c ∧ nZ c ≤ 5 ∧ (nZ c = -1 ↔ c = -1) := by unfold nZ; split <;> omega
theorem stZ_r {f c : Int → Int} {n : Nat} (h : PlZ f c n) : ∀ k, k ≤ n → -1 ≤ stZ f c k ∧ stZ f c k ≤ 5 := by
  intro k
  induction k with
  | zero => intro _; rw [stZ]; omega
  | succ k ih =>
    intro hk
    have := ih (by omega)
    rw [stZ]
    split
    · omega
    · have h2 := h.2 k (by omega) (by omega)
      have h3 := nZ_r (h.1 (6 * stZ f c k + c (k : Int)) (by omega) (by omega))
      omega
theorem stopZ_r (f c : Int → Int) : ∀ k, -1 ≤ stopZ f c k ∧ stopZ f c k < (k : Int) ∨ (k = 0 ∧ stopZ f c k = -1) := by
  intro k
  induction k with
  | zero => exact Or.inr ⟨rfl, rfl⟩
  | succ k ih => rw [stopZ]; left; split <;> (try split) <;> omega
theorem stopZ_st {f c : Int → Int} {n : Nat} (h : PlZ f c n) : ∀ k, k ≤ n → (stopZ f c k = -1 ↔ stZ f c k ≠ -1) := by
  intro k
  induction k with
  | zero => intro _; rw [stopZ, stZ]; omega
  | succ k ih =>
    intro hk
    have h1 := ih (by omega)
    have h2 := stZ_r h k (by omega)
    rw [stopZ, stZ]
    by_cases hs : stZ f c k = -1
    · rw [if_neg (fun z => (h1.mp z) hs), if_pos hs]
      exact ⟨fun z => absurd (h1.mp z) (fun y => y hs), fun z => absurd rfl z⟩
    · rw [if_pos (h1.mpr hs), if_neg hs]
      have h3 := h.2 k (by omega) (by omega)
      have h4 := h.1 (6 * stZ f c k + c (k : Int)) (by omega) (by omega)
      have h5 := wZ_r h4
      have h6 := nZ_r h4
      unfold wdZ
      rw [if_neg hs]
      split <;> omega
theorem stopZ_stay {f c : Int → Int} {j : Nat} (h : stopZ f c j ≠ -1) : ∀ k, j ≤ k → stopZ f c k = stopZ f c j := by
  intro k hk
  induction k with
  | zero => obtain rfl : j = 0 := by omega
            rfl
  | succ k ih =>
    rcases Nat.eq_or_lt_of_le hk with e | e
    · rw [e]
    · rw [stopZ, if_neg (by rw [ih (by omega)]; exact h), ih (by omega)]
theorem stopZ_by {f c : Int → Int} {i : Nat} : ∀ n, i < n → ((stopZ f c n ≠ -1 ∧ stopZ f c n ≤ (i : Int)) ↔ stopZ f c (i + 1) ≠ -1) := by
  intro n hn
  by_cases h : stopZ f c (i + 1) = -1
  · have hk : ∀ k, i + 1 ≤ k → stopZ f c k = -1 ∨ (i : Int) < stopZ f c k := by
      intro k hk
      induction k with
      | zero => omega
      | succ k ih =>
        rcases Nat.eq_or_lt_of_le hk with e | e
        · left; rw [← e]; exact h
        · rw [stopZ]
          rcases ih (by omega) with e1 | e1
          · rw [if_pos e1]; split <;> omega
          · rw [if_neg (by omega)]; exact Or.inr e1
    have := hk n (by omega)
    constructor
    · intro z; omega
    · intro z; exact absurd h z
  · have e := stopZ_stay h n (by omega)
    have := stopZ_r f c (i + 1)
    rw [e]
    exact ⟨fun _ => h, fun _ => ⟨h, by omega⟩⟩
set_option maxHeartbeats 4000000 in
theorem lX10_playCues {E : ET} {sh : SHT} {nn : Nat × Nat} {T : Nat} {z : ZT} {f c : Int → Int} {v : Int} {m : Nat} {V0 : VT} (hT : MSh T sh) (hv : 0 ≤ v ∧ v < 12) (hf : ∀ r, z.2 3 (298 + 36 * v + r) = f r) (hc : ∀ i, z.2 3 (730 + i) = c i) (hm : z.2 3 5 = (m : Int)) (hm2 : m ≤ 12) (hP : PlZ f c m) : ∀ (n j : Nat) (V : VT) (x : Option Value), m - j < n → j ≤ m → PE T V z → Fr [T, T + 17] V0 V ∧ V.1 T 37 = stopZ f c j ∧ (∀ k : Nat, k < j → stopZ f c (k + 1) = -1 → V.1 (T + 17) (k : Int) = wdZ f c k) → TGo E mX10_playCues 2 9 [some (.ref T), some (.int (iI v)), some (.int (iI (stZ f c (j)))), some (.int (iI (((j) : Nat) : Int))), x] [] sh nn V (fun o sh' nn' V' => o = .inl none ∧ sh' = sh ∧ nn' = nn ∧ (fun V' => PE T V' z ∧ Fr [T, T + 17] V0 V' ∧ V'.1 T 37 = stopZ f c m ∧ ∀ k : Nat, k < m → stopZ f c (k + 1) = -1 → V'.1 (T + 17) (k : Int) = wdZ f c k) V') := by
  intro n
  induction n with
  | zero => intro j V x h; omega
  | succ n ih =>
    intro j V x hn hj hz hx
    have hs1 := stopZ_st hP j hj
    have hs2 := stZ_r hP j hj
    have hs3 := stopZ_r f c j
    refine TGo.il3 dX10_playCues_9 rfl ?_
    refine TGo.al0 dX10_playCues_10 rfl ?_
    refine TGo.getS (t := 18) 3 3 (T + 2) (hT 0 (by decide)) rfl fgX10_13_10 dX10_playCues_11 rfl rfl rfl ?_
    refine TGo.ic5 dX10_playCues_14 ?_
    refine TGo.iald dX10_playCues_15 (hT 2 (by decide)) (by omega) rfl ?_
    refine TGo.toz _ (hz.2.1 3 (by decide) _) ?_
    refine TGo.icmp_ge 87 dX10_playCues_16 (by decide) (by omega) (fun h16 => ?_) (fun h16 => ?_)
    · refine TGo.vret dX10_playCues_87 rfl ?_
      rcases Nat.eq_or_lt_of_le hj with ej | ej
      · obtain rfl := ej
        exact ⟨rfl, rfl, rfl, hz, hx⟩
      · have e0 := stopZ_stay (f := f) (c := c) (j := j) (by omega)
        refine ⟨rfl, rfl, rfl, hz, hx.1, hx.2.1.trans (e0 m hj).symm, fun k hk hs => ?_⟩
        rcases Nat.lt_or_ge k j with e | e
        · exact hx.2.2 k e hs
        · exact absurd hs (by rw [e0 (k + 1) (by omega)]; omega)
    · refine TGo.al0 dX10_playCues_19 rfl ?_
      refine TGo.getI (t := 18) 37 37 (hT 0 (by decide)) rfl fgX10_483_10 dX10_playCues_20 rfl rfl rfl ?_
      refine TGo.toz _ (hx.2.1) ?_
      refine TGo.icm1 dX10_playCues_23 ?_
      refine TGo.icmp_ne 87 dX10_playCues_24 (by decide) (by omega) (fun h24 => ?_) (fun h24 => ?_)
      · refine TGo.vret dX10_playCues_87 rfl ?_
        rcases Nat.eq_or_lt_of_le hj with ej | ej
        · obtain rfl := ej
          exact ⟨rfl, rfl, rfl, hz, hx⟩
        · have e0 := stopZ_stay (f := f) (c := c) (j := j) (by omega)
          refine ⟨rfl, rfl, rfl, hz, hx.1, hx.2.1.trans (e0 m hj).symm, fun k hk hs => ?_⟩
          rcases Nat.lt_or_ge k j with e | e
          · exact hx.2.2 k e hs
          · exact absurd hs (by rw [e0 (k + 1) (by omega)]; omega)
      · have hc2 := hP.2 j (by omega) (by omega)
        have hr := hP.1 (6 * stZ f c j + c (j : Int)) (by omega) (by omega)
        have hw := wZ_r hr
        refine TGo.al0 dX10_playCues_27 rfl ?_
        refine TGo.il1 dX10_playCues_28 rfl ?_
        refine TGo.bip 6 dX10_playCues_29 (by decide) ?_
        refine TGo.il2 dX10_playCues_31 rfl ?_
        refine TGo.imul dX10_playCues_32 ?_
        refine TGo.al0 dX10_playCues_33 rfl ?_
        refine TGo.getS (t := 18) 3 3 (T + 2) (hT 0 (by decide)) rfl fgX10_13_10 dX10_playCues_34 rfl rfl rfl ?_
        refine TGo.sip 730 dX10_playCues_37 (by decide) ?_
        refine TGo.il3 dX10_playCues_40 rfl ?_
        refine TGo.iadd dX10_playCues_41 ?_
        refine TGo.iald dX10_playCues_42 (hT 2 (by decide)) (by omega) rfl ?_
        refine TGo.toz _ (hz.2.1 3 (by decide) _) ?_
        refine TGo.toz (c (j : Int)) (hc _) ?_
        refine TGo.iadd dX10_playCues_43 ?_
        refine TGo.cF (csV2 (y2 := mX10_ruleOf) (t := 18) 1 rfl (hT 0 (by decide)) rfl rfl dX10_playCues_44 q2372 q2374 qs85 okX10_ruleOf npX10_ruleOf rfl rfl) (kX10_ruleOf hT hz (by omega) (by omega)) ?_
        refine TGo.toz (f (6 * stZ f c j + c (j : Int))) (hf _) ?_
        refine TGo.is dX10_playCues_47 rfl rfl ?_
        refine TGo.al0 dX10_playCues_49 rfl ?_
        refine TGo.getS (t := 18) 36 36 (T + 17) (hT 0 (by decide)) rfl fgX10_88_10 dX10_playCues_50 rfl rfl rfl ?_
        refine TGo.il3 dX10_playCues_53 rfl ?_
        refine TGo.il dX10_playCues_54 rfl ?_
        refine TGo.cF (csS1 (y2 := mX10_wordOf) 1 rfl dX10_playCues_56 q2069 q2070 okX10_wordOf npX10_wordOf rfl rfl) (kX10_wordOf (by omega)) ?_
        refine TGo.iast dX10_playCues_59 (hT 17 (by decide)) (by omega) rfl ?_
        refine TGo.il dX10_playCues_60 rfl ?_
        refine TGo.cF (csS1 (y2 := mX10_nextOf) 1 rfl dX10_playCues_62 q2087 q2088 okX10_nextOf npX10_nextOf rfl rfl) (kX10_nextOf (by omega)) ?_
        refine TGo.is2 dX10_playCues_65 rfl rfl ?_
        refine TGo.al0 dX10_playCues_66 rfl ?_
        refine TGo.il dX10_playCues_67 rfl ?_
        refine TGo.icm1 dX10_playCues_69 ?_
        refine TGo.icmp_ne 77 dX10_playCues_70 (by decide) (by omega) (fun h70 => ?_) (fun h70 => ?_)
        · refine TGo.icm1 dX10_playCues_77 ?_
          refine TGo.putI (t := 18) 37 37 (hT 0 (by decide)) rfl fpX10_483_10 dX10_playCues_78 rfl rfl rfl ?_
          refine TGo.iinc dX10_playCues_81 rfl rfl rfl ?_
          refine TGo.goto 9 dX10_playCues_84 (by decide) ?_
          exact TGo.seq [some (.ref T), some (.int (iI v)), some (.int (iI (stZ f c ((j + 1))))), some (.int (iI ((((j + 1)) : Nat) : Int))), _] [] _ (by rw [stZ, if_neg (by omega)]; rfl) rfl rfl (ih (j + 1) _ _ (by omega) (by omega) ((hz.t 17 rfl).s rfl) (by
            have ew : wdZ f c j = wZ (f (6 * stZ f c j + c (j : Int))) := by unfold wdZ; rw [if_neg (by omega)]
            refine ⟨(hx.1.i (by simp)).i (by simp), ?_, fun k hk hs => ?_⟩
            · refine u2_s.trans ?_
              rw [stopZ, if_pos (by omega), ew]
              first | rw [if_pos (by omega)] | rw [if_neg (by omega)]
            · refine (u2_n (Or.inl (by omega))).trans ?_
              rcases Nat.lt_or_ge k j with e | e
              · exact (u2_n (Or.inr (by omega))).trans (hx.2.2 k e hs)
              · obtain rfl : k = j := by omega
                exact u2_s.trans ew.symm))
        · refine TGo.il3 dX10_playCues_73 rfl ?_
          refine TGo.goto 78 dX10_playCues_74 (by decide) ?_
          refine TGo.putI (t := 18) 37 37 (hT 0 (by decide)) rfl fpX10_483_10 dX10_playCues_78 rfl rfl rfl ?_
          refine TGo.iinc dX10_playCues_81 rfl rfl rfl ?_
          refine TGo.goto 9 dX10_playCues_84 (by decide) ?_
          exact TGo.seq [some (.ref T), some (.int (iI v)), some (.int (iI (stZ f c ((j + 1))))), some (.int (iI ((((j + 1)) : Nat) : Int))), _] [] _ (by rw [stZ, if_neg (by omega)]; rfl) rfl rfl (ih (j + 1) _ _ (by omega) (by omega) ((hz.t 17 rfl).s rfl) (by
            have ew : wdZ f c j = wZ (f (6 * stZ f c j + c (j : Int))) := by unfold wdZ; rw [if_neg (by omega)]
            refine ⟨(hx.1.i (by simp)).i (by simp), ?_, fun k hk hs => ?_⟩
            · refine u2_s.trans ?_
              rw [stopZ, if_pos (by omega), ew]
              first | rw [if_pos (by omega)] | rw [if_neg (by omega)]
            · refine (u2_n (Or.inl (by omega))).trans ?_
              rcases Nat.lt_or_ge k j with e | e
              · exact (u2_n (Or.inr (by omega))).trans (hx.2.2 k e hs)
              · obtain rfl : k = j := by omega
                exact u2_s.trans ew.symm))
theorem WPl {z : ZT} (W : RWZ (z.2 3)) {v : Int} (hv : 0 ≤ v ∧ v < z.2 3 2) : PlZ (fun r => z.2 3 (298 + 36 * v + r)) (fun i => z.2 3 (730 + i)) (z.2 3 5).toNat := ⟨fun r h0 h1 => W.2.2.2.2.2.1 v r hv.1 hv.2 h0 h1, fun k h0 h1 => W.2.2.2.2.2.2.1 k h0 (by omega)⟩
set_option maxHeartbeats 4000000 in
theorem kX10_playCues {E : ET} {sh : SHT} {nn : Nat × Nat} {V : VT} {T : Nat} {z : ZT} {v : Int} (hT : MSh T sh) (hz : PE T V z) (W : RWZ (z.2 3)) (hv : 0 ≤ v ∧ v < z.2 3 2) : TN E mX10_playCues 2 [.ref T, .int (iI v)] sh nn V (fun V' => PE T V' z ∧ Fr [T, T + 17] V V' ∧ V'.1 T 37 = stopZ (fun r => z.2 3 (298 + 36 * v + r)) (fun i => z.2 3 (730 + i)) (z.2 3 5).toNat ∧ ∀ k : Nat, k < (z.2 3 5).toNat → stopZ (fun r => z.2 3 (298 + 36 * v + r)) (fun i => z.2 3 (730 + i)) (k + 1) = -1 → V'.1 (T + 17) (k : Int) = wdZ (fun r => z.2 3 (298 + 36 * v + r)) (fun i => z.2 3 (730 + i)) k) := by
  have w2 := W.1.2.2.1
  have w5 := W.1.2.2.2.2.2.1
  refine TC.intro [some (.ref T), some (.int (iI v)), none, none, none] rfl ?_
  refine TGo.ic0 dX10_playCues_0 ?_
  refine TGo.is2 dX10_playCues_1 rfl rfl ?_
  refine TGo.al0 dX10_playCues_2 rfl ?_
  refine TGo.icm1 dX10_playCues_3 ?_
  refine TGo.putI (t := 18) 37 37 (hT 0 (by decide)) rfl fpX10_483_10 dX10_playCues_4 rfl rfl rfl ?_
  refine TGo.ic0 dX10_playCues_7 ?_
  refine TGo.is3 dX10_playCues_8 rfl rfl ?_
  exact lX10_playCues (f := (fun r => z.2 3 (298 + 36 * v + r))) (c := (fun i => z.2 3 (730 + i))) (m := (z.2 3 5).toNat) hT (by omega) (fun _ => rfl) (fun _ => rfl) (by omega) (by omega) (WPl W hv) ((z.2 3 5).toNat + 1) 0 _ _ (by omega) (by omega) (hz.s rfl) ⟨Fr.rf.i (by simp), u2_s, fun k hk => by omega⟩
