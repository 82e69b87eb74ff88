/-! X: talk, mends -/
set_option maxRecDepth 100000
def TkS (sh : SHT) (P : Nat) : Prop := sh P = (14, 0) ∧ sh (P + 1) = (1, 432) ∧ sh (P + 2) = (1, 433)
theorem XSh.tk {B : Nat} {sh : SHT} (h : XSh B sh) : TkS sh (B + 48) := ⟨h 48 (by decide), h 49 (by decide), h 50 (by decide)⟩
theorem ScV.fr {L : List Nat} {V V' : VT} {S : Nat} {g : Int → Int} (hf : Fr L V V') (h1 : S + 1 ∉ L) (h2 : S + 2 ∉ L) (h : ScV V S g) : ScV V' S g := fun r r0 r1 => by
  rw [hf.1 _ h1, hf.1 _ h2]; exact h r r0 r1
/-- how X's talk ends, after n words -/
def XTE (P : Nat) (V : VT) (f g : Int → Int) (c0 : Int) (n : Nat) : Prop :=
  (∀ i : Nat, i < n → V.1 (P + 2) i = wZ (tkR f g c0 i)) ∧ V.1 P 2 = n ∧ ((whZ f g c0 n (tkI f g c0 n) ≠ -1 ∧ V.1 P 6 = whZ f g c0 n (tkI f g c0 n) ∧ V.1 P 7 = n - whZ f g c0 n (tkI f g c0 n)) ∨ (whZ f g c0 n (tkI f g c0 n) = -1 ∧ tkR f g c0 n = -1 ∧ 6 * V.1 P 3 + V.1 P 4 = tkP f g c0 n ∧ V.1 P 5 = (n : Int) % 2))
set_option maxHeartbeats 4000000 in
theorem lX6_goesOn {E : ET} {sh : SHT} {nn : Nat × Nat} {P : Nat} {S S2 : Nat} {f g : Int → Int} {c0 : Int} {V0 : VT} (hS : ScS sh S) (hS2 : ScS sh S2) (hn1 : S + 1 ∉ [P, P + 1, P + 2]) (hn2 : S + 2 ∉ [P, P + 1, P + 2]) (hn3 : S2 + 1 ∉ [P, P + 1, P + 2]) (hn4 : S2 + 2 ∉ [P, P + 1, P + 2]) (hcf : ∀ r, 0 ≤ r → r < 36 → cOK (f r)) (hcg : ∀ r, 0 ≤ r → r < 36 → cOK (g r)) (hc0 : 0 ≤ c0 ∧ c0 < 6) (hv0 : ScV V0 S f) (hw0 : ScV V0 S2 g) : ∀ (n j : Nat) (V : VT) (y8 y9 y10 : Option Value), 432 - j < n → j ≤ 432 → TkS sh P → (Fr [P, P + 1, P + 2] V0 V ∧ (∀ i, i < j → ¬ tkD f g c0 i) ∧ (∀ x, 0 ≤ x → x < 432 → V.1 (P + 1) x = whZ f g c0 j x) ∧ (∀ i : Nat, i < j → V.1 (P + 2) i = wZ (tkR f g c0 i)) ∧ V.1 P 2 = (j : Int)) → TGo E mX6_goesOn 2 44 [some (.ref P), some (.ref S), some (.ref S2), some (.int (iI c0)), some (.int (iI (tkA f g c0 (j)).1)), some (.int (iI (tkA f g c0 (j)).2.1)), some (.int (iI ((((j) : Nat) : Int) % 2))), some (.int (iI (tkA f g c0 (j)).2.2)), y8, y9, y10] [] sh nn V (fun o sh' nn' V' => ∃ v, o = .inl (some v) ∧ sh' = sh ∧ nn' = nn ∧ v = .int (iI (bZ (tkW f g c0 ≠ -1))) ∧ Fr [P, P + 1, P + 2] V0 V' ∧ XTE P V' f g c0 (tkN f g c0)) := by
  intro n
  induction n with
  | zero => intro j V y8 y9 y10 h; omega
  | succ n ih =>
    intro j V y8 y9 y10 hn hj hz hx
    have hP := hz
    obtain ⟨hfr, hd, hw1, hv2, h2⟩ := hx
    have hv := hv0.fr hfr hn1 hn2
    have hw := hw0.fr hfr hn3 hn4
    have hA := tkA_r hcf hcg hc0 j hd
    have hI := tkI_r hA
    have hmk := whZ_mk hcf hcg hc0 j hd
    have hwr := whZ_r f g c0 j (tkI f g c0 j)
    refine TGo.bip 6 dX6_goesOn_44 (by decide) ?_
    refine TGo.il dX6_goesOn_46 rfl ?_
    refine TGo.imul dX6_goesOn_48 ?_
    refine TGo.il dX6_goesOn_49 rfl ?_
    refine TGo.iadd dX6_goesOn_51 ?_
    refine TGo.ic2 dX6_goesOn_52 ?_
    refine TGo.imul dX6_goesOn_53 ?_
    refine TGo.il dX6_goesOn_54 rfl ?_
    refine TGo.iadd dX6_goesOn_56 ?_
    refine TGo.bip 6 dX6_goesOn_57 (by decide) ?_
    refine TGo.imul dX6_goesOn_59 ?_
    refine TGo.il dX6_goesOn_60 rfl ?_
    refine TGo.iadd dX6_goesOn_62 ?_
    refine TGo.toz (tkI f g c0 j) (by unfold tkI; omega) ?_
    refine TGo.is dX6_goesOn_63 rfl rfl ?_
    refine TGo.al0 dX6_goesOn_65 rfl ?_
    refine TGo.getS (t := 14) 0 0 (P + 1) hP.1 rfl fgX6_15_6 dX6_goesOn_66 rfl rfl rfl ?_
    refine TGo.il dX6_goesOn_69 rfl ?_
    refine TGo.iald dX6_goesOn_71 hP.2.1 (by omega) rfl ?_
    refine TGo.toz _ (hw1 _ hI.1 hI.2) ?_
    refine TGo.icm1 dX6_goesOn_72 ?_
    refine TGo.icmp_eq 105 dX6_goesOn_73 (by decide) (by omega) (fun h73 => ?_) (fun h73 => ?_)
    · have hlt := mkZ_in (v := (j : Int)) hI.1 (show whZ f g c0 j (tkI f g c0 j) = -1 by omega) (by omega) 432 (by omega)
      have hl2 := mkZ_le (zu (whZ f g c0 j) (tkI f g c0 j) (j : Int)) 432
      refine TGo.al0 dX6_goesOn_105 rfl ?_
      refine TGo.getS (t := 14) 0 0 (P + 1) hP.1 rfl fgX6_15_6 dX6_goesOn_106 rfl rfl rfl ?_
      refine TGo.il dX6_goesOn_109 rfl ?_
      refine TGo.al0 dX6_goesOn_111 rfl ?_
      refine TGo.getI (t := 14) 2 2 hP.1 rfl fgX6_22_6 dX6_goesOn_112 rfl rfl rfl ?_
      refine TGo.toz _ (h2) ?_
      refine TGo.iast dX6_goesOn_115 hP.2.1 (by omega) rfl ?_
      refine TGo.il dX6_goesOn_116 rfl ?_
      refine TGo.if_ne 125 dX6_goesOn_118 (by decide) (by omega) (fun h118 => ?_) (fun h118 => ?_)
      · refine TGo.al2 dX6_goesOn_125 rfl ?_
        refine TGo.as dX6_goesOn_126 rfl rfl ?_
        have eP : tkP f g c0 j = 6 * (tkA f g c0 j).2.1 + (tkA f g c0 j).2.2 := if_neg (by omega)
        have eR : tkR f g c0 j = g (6 * (tkA f g c0 j).2.1 + (tkA f g c0 j).2.2) := by unfold tkR; rw [if_neg (by omega), eP]
        have hcR : cOK (g (6 * (tkA f g c0 j).2.1 + (tkA f g c0 j).2.2)) := hcg _ (by omega) (by omega)
        have hR1 := wZ_r hcR
        have hR2 := nZ_r hcR
        refine TGo.bip 6 dX6_goesOn_128 (by decide) ?_
        refine TGo.il dX6_goesOn_130 rfl ?_
        refine TGo.if_ne 140 dX6_goesOn_132 (by decide) (by omega) (fun h132 => ?_) (fun h132 => ?_)
        · refine TGo.il dX6_goesOn_140 rfl ?_
          refine TGo.imul dX6_goesOn_142 ?_
          refine TGo.il dX6_goesOn_143 rfl ?_
          refine TGo.iadd dX6_goesOn_145 ?_
          refine TGo.is dX6_goesOn_146 rfl rfl ?_
          refine TGo.al dX6_goesOn_148 rfl ?_
          refine TGo.il dX6_goesOn_150 rfl ?_
          refine TGo.cF (csV1 (y2 := mX2_isHole) (t := 10) 1 rfl hS2.1 rfl rfl dX6_goesOn_152 q1607 q745 q746 okX2_isHole npX2_isHole rfl rfl) (kX2_isHole hS2 (ScV.fr (Fr.rf.i (by simp) : Fr [P, P + 1, P + 2] V _) hn3 hn4 hw) (by omega) hcR) ?_
          refine TGo.ifb_eq 181 dX6_goesOn_155 (by decide) (fun h155 => ?_) (fun h155 => ?_)
          · refine TGo.al0 dX6_goesOn_181 rfl ?_
            refine TGo.getS (t := 14) 1 1 (P + 2) hP.1 rfl fgX6_19_6 dX6_goesOn_182 rfl rfl rfl ?_
            refine TGo.al0 dX6_goesOn_185 rfl ?_
            refine TGo.getI (t := 14) 2 2 hP.1 rfl fgX6_22_6 dX6_goesOn_186 rfl rfl rfl ?_
            refine TGo.toz _ ((u2_n (Or.inl (by omega))).trans (h2)) ?_
            refine TGo.al dX6_goesOn_189 rfl ?_
            refine TGo.getS (t := 10) 0 0 (S2 + 1) hS2.1 rfl fgX6_47_2 dX6_goesOn_191 rfl rfl rfl ?_
            refine TGo.il dX6_goesOn_194 rfl ?_
            refine TGo.iald dX6_goesOn_196 hS2.2.1 (by omega) rfl ?_
            refine TGo.toz _ ((congrFun (((Fr.rf.i (by simp)) : Fr [P, P + 1, P + 2] V _).1 (S2 + 1) hn3) _).trans (hw _ (by omega) (by omega)).1) ?_
            refine TGo.iast dX6_goesOn_197 hP.2.2 (by omega) rfl ?_
            refine TGo.al0 dX6_goesOn_198 rfl ?_
            refine TGo.dup dX6_goesOn_199 rfl ?_
            refine TGo.getI (t := 14) 2 2 hP.1 rfl fgX6_22_6 dX6_goesOn_200 rfl rfl rfl ?_
            refine TGo.toz _ ((u2_n (Or.inl (by omega))).trans ((u2_n (Or.inl (by omega))).trans (h2))) ?_
            refine TGo.ic1 dX6_goesOn_203 ?_
            refine TGo.iadd dX6_goesOn_204 ?_
            refine TGo.putI (t := 14) 2 2 hP.1 rfl fpX6_22_6 dX6_goesOn_205 rfl rfl rfl ?_
            refine TGo.il dX6_goesOn_208 rfl ?_
            refine TGo.if_ne 226 dX6_goesOn_210 (by decide) (by omega) (fun h210 => ?_) (fun h210 => ?_)
            · refine TGo.al dX6_goesOn_226 rfl ?_
              refine TGo.getS (t := 10) 1 1 (S2 + 2) hS2.1 rfl fgX6_49_2 dX6_goesOn_228 rfl rfl rfl ?_
              refine TGo.il dX6_goesOn_231 rfl ?_
              refine TGo.iald dX6_goesOn_233 hS2.2.2 (by omega) rfl ?_
              refine TGo.toz _ ((congrFun (((((Fr.rf.i (by simp)).i (by simp)).i (by simp)) : Fr [P, P + 1, P + 2] V _).1 (S2 + 2) hn4) _).trans ((hw _ (by omega) (by omega)).2 (by omega))) ?_
              refine TGo.is dX6_goesOn_234 rfl rfl ?_
              refine TGo.ic1 dX6_goesOn_236 ?_
              refine TGo.il dX6_goesOn_237 rfl ?_
              refine TGo.isub dX6_goesOn_239 ?_
              refine TGo.is dX6_goesOn_240 rfl rfl ?_
              refine TGo.al dX6_goesOn_242 rfl ?_
              refine TGo.getS (t := 10) 0 0 (S2 + 1) hS2.1 rfl fgX6_47_2 dX6_goesOn_244 rfl rfl rfl ?_
              refine TGo.il dX6_goesOn_247 rfl ?_
              refine TGo.iald dX6_goesOn_249 hS2.2.1 (by omega) rfl ?_
              refine TGo.toz _ ((congrFun (((((Fr.rf.i (by simp)).i (by simp)).i (by simp)) : Fr [P, P + 1, P + 2] V _).1 (S2 + 1) hn3) _).trans (hw _ (by omega) (by omega)).1) ?_
              refine TGo.bip 6 dX6_goesOn_250 (by decide) ?_
              refine TGo.irem dX6_goesOn_252 (by omega) ?_
              refine TGo.is dX6_goesOn_253 rfl rfl ?_
              refine TGo.goto 44 dX6_goesOn_255 (by decide) ?_
              first | (exfalso; omega) | exact TGo.seq [some (.ref P), some (.ref S), some (.ref S2), some (.int (iI c0)), some (.int (iI (tkA f g c0 ((j + 1))).1)), some (.int (iI (tkA f g c0 ((j + 1))).2.1)), some (.int (iI (((((j + 1)) : Nat) : Int) % 2))), some (.int (iI (tkA f g c0 ((j + 1))).2.2)), _, _, _] [] _ (by rw [tkA]; first | (rw [if_pos (by omega), show ((j + 1 : Nat) : Int) % 2 = 1 - (j : Int) % 2 by omega]; rfl) | (rw [if_neg (by omega), show ((j + 1 : Nat) : Int) % 2 = 1 - (j : Int) % 2 by omega]; rfl)) rfl rfl (ih (j + 1) _ _ _ _ (by omega) (by omega) hz (by
                have hwn : whZ f g c0 j (tkI f g c0 j) = -1 := by omega
                have hdn : ¬ tkD f g c0 j := fun q => by rcases q with q | q <;> omega
                have hd1 : ∀ i, i < j + 1 → ¬ tkD f g c0 i := fun i hi => by
                  rcases Nat.lt_or_ge i j with e | e
                  · exact hd i e
                  · obtain rfl : i = j := by omega
                    exact hdn
                refine ⟨((hfr.i (by simp)).i (by simp)).i (by simp), hd1, fun x h0 h1 => ?_, fun i hi => ?_, u2_s⟩
                · rw [whZ]
                  refine (u2_n (Or.inl (by omega))).trans ((u2_n (Or.inl (by omega))).trans ?_)
                  by_cases e : x = tkI f g c0 j
                  · rw [e, zu_s]; exact u2_s
                  · rw [zu_n e]; exact (u2_n (Or.inr e)).trans (hw1 x h0 h1)
                · rcases Nat.lt_or_ge i j with e | e
                  · exact (u2_n (Or.inl (by omega))).trans ((u2_n (Or.inr (by omega))).trans ((u2_n (Or.inl (by omega))).trans (hv2 i e)))
                  · obtain rfl : i = j := by omega
                    rw [eR]
                    exact (u2_n (Or.inl (by omega))).trans u2_s))
            · exfalso; omega
          · refine TGo.al0 dX6_goesOn_158 rfl ?_
            refine TGo.il dX6_goesOn_159 rfl ?_
            refine TGo.bip 6 dX6_goesOn_161 (by decide) ?_
            refine TGo.idiv dX6_goesOn_163 (by omega) ?_
            refine TGo.putI (t := 14) 3 3 hP.1 rfl fpX6_38_6 dX6_goesOn_164 rfl rfl rfl ?_
            refine TGo.al0 dX6_goesOn_167 rfl ?_
            refine TGo.il dX6_goesOn_168 rfl ?_
            refine TGo.putI (t := 14) 4 4 hP.1 rfl fpX6_41_6 dX6_goesOn_170 rfl rfl rfl ?_
            refine TGo.al0 dX6_goesOn_173 rfl ?_
            refine TGo.il dX6_goesOn_174 rfl ?_
            refine TGo.putI (t := 14) 5 5 hP.1 rfl fpX6_44_6 dX6_goesOn_176 rfl rfl rfl ?_
            refine TGo.ic0 dX6_goesOn_179 ?_
            refine TGo.zret dX6_goesOn_180 rfl (by first | exact Or.inl rfl | exact Or.inr rfl | exact bZ_or _ | assumption) ?_
            have hN := tkN_end hd (Or.inr (by omega) : tkD f g c0 j) hj
            refine ⟨_, rfl, rfl, rfl, ?_, (((hfr.i (by simp)).i (by simp)).i (by simp)).i (by simp), ?_⟩
            · rw [bZ_f]; unfold tkW; rw [hN]; omega
            · rw [hN]; exact ⟨fun i hi => (u2_n (Or.inl (by omega))).trans ((u2_n (Or.inl (by omega))).trans ((u2_n (Or.inl (by omega))).trans ((u2_n (Or.inl (by omega))).trans (hv2 i hi)))), (u2_n (Or.inr (by omega))).trans ((u2_n (Or.inr (by omega))).trans ((u2_n (Or.inr (by omega))).trans ((u2_n (Or.inl (by omega))).trans (h2)))), Or.inr ⟨by omega, by omega, (congr (congrArg (fun a b : Int => 6 * a + b) ((u2_n (Or.inr (by omega))).trans ((u2_n (Or.inr (by omega))).trans (u2_s)))) ((u2_n (Or.inr (by omega))).trans (u2_s))).trans (by show 6 * _ + _ = _; omega), u2_s⟩⟩
        · exfalso; omega
      · refine TGo.al1 dX6_goesOn_121 rfl ?_
        refine TGo.goto 126 dX6_goesOn_122 (by decide) ?_
        refine TGo.as dX6_goesOn_126 rfl rfl ?_
        have eP : tkP f g c0 j = 6 * (tkA f g c0 j).1 + (tkA f g c0 j).2.2 := if_pos (by omega)
        have eR : tkR f g c0 j = f (6 * (tkA f g c0 j).1 + (tkA f g c0 j).2.2) := by unfold tkR; rw [if_pos (by omega), eP]
        have hcR : cOK (f (6 * (tkA f g c0 j).1 + (tkA f g c0 j).2.2)) := hcf _ (by omega) (by omega)
        have hR1 := wZ_r hcR
        have hR2 := nZ_r hcR
        refine TGo.bip 6 dX6_goesOn_128 (by decide) ?_
        refine TGo.il dX6_goesOn_130 rfl ?_
        refine TGo.if_ne 140 dX6_goesOn_132 (by decide) (by omega) (fun h132 => ?_) (fun h132 => ?_)
        · exfalso; omega
        · refine TGo.il dX6_goesOn_135 rfl ?_
          refine TGo.goto 142 dX6_goesOn_137 (by decide) ?_
          refine TGo.imul dX6_goesOn_142 ?_
          refine TGo.il dX6_goesOn_143 rfl ?_
          refine TGo.iadd dX6_goesOn_145 ?_
          refine TGo.is dX6_goesOn_146 rfl rfl ?_
          refine TGo.al dX6_goesOn_148 rfl ?_
          refine TGo.il dX6_goesOn_150 rfl ?_
          refine TGo.cF (csV1 (y2 := mX2_isHole) (t := 10) 1 rfl hS.1 rfl rfl dX6_goesOn_152 q1607 q745 q746 okX2_isHole npX2_isHole rfl rfl) (kX2_isHole hS (ScV.fr (Fr.rf.i (by simp) : Fr [P, P + 1, P + 2] V _) hn1 hn2 hv) (by omega) hcR) ?_
          refine TGo.ifb_eq 181 dX6_goesOn_155 (by decide) (fun h155 => ?_) (fun h155 => ?_)
          · refine TGo.al0 dX6_goesOn_181 rfl ?_
            refine TGo.getS (t := 14) 1 1 (P + 2) hP.1 rfl fgX6_19_6 dX6_goesOn_182 rfl rfl rfl ?_
            refine TGo.al0 dX6_goesOn_185 rfl ?_
            refine TGo.getI (t := 14) 2 2 hP.1 rfl fgX6_22_6 dX6_goesOn_186 rfl rfl rfl ?_
            refine TGo.toz _ ((u2_n (Or.inl (by omega))).trans (h2)) ?_
            refine TGo.al dX6_goesOn_189 rfl ?_
            refine TGo.getS (t := 10) 0 0 (S + 1) hS.1 rfl fgX6_47_2 dX6_goesOn_191 rfl rfl rfl ?_
            refine TGo.il dX6_goesOn_194 rfl ?_
            refine TGo.iald dX6_goesOn_196 hS.2.1 (by omega) rfl ?_
            refine TGo.toz _ ((congrFun (((Fr.rf.i (by simp)) : Fr [P, P + 1, P + 2] V _).1 (S + 1) hn1) _).trans (hv _ (by omega) (by omega)).1) ?_
            refine TGo.iast dX6_goesOn_197 hP.2.2 (by omega) rfl ?_
            refine TGo.al0 dX6_goesOn_198 rfl ?_
            refine TGo.dup dX6_goesOn_199 rfl ?_
            refine TGo.getI (t := 14) 2 2 hP.1 rfl fgX6_22_6 dX6_goesOn_200 rfl rfl rfl ?_
            refine TGo.toz _ ((u2_n (Or.inl (by omega))).trans ((u2_n (Or.inl (by omega))).trans (h2))) ?_
            refine TGo.ic1 dX6_goesOn_203 ?_
            refine TGo.iadd dX6_goesOn_204 ?_
            refine TGo.putI (t := 14) 2 2 hP.1 rfl fpX6_22_6 dX6_goesOn_205 rfl rfl rfl ?_
            refine TGo.il dX6_goesOn_208 rfl ?_
            refine TGo.if_ne 226 dX6_goesOn_210 (by decide) (by omega) (fun h210 => ?_) (fun h210 => ?_)
            · exfalso; omega
            · refine TGo.al dX6_goesOn_213 rfl ?_
              refine TGo.getS (t := 10) 1 1 (S + 2) hS.1 rfl fgX6_49_2 dX6_goesOn_215 rfl rfl rfl ?_
              refine TGo.il dX6_goesOn_218 rfl ?_
              refine TGo.iald dX6_goesOn_220 hS.2.2 (by omega) rfl ?_
              refine TGo.toz _ ((congrFun (((((Fr.rf.i (by simp)).i (by simp)).i (by simp)) : Fr [P, P + 1, P + 2] V _).1 (S + 2) hn2) _).trans ((hv _ (by omega) (by omega)).2 (by omega))) ?_
              refine TGo.is dX6_goesOn_221 rfl rfl ?_
              refine TGo.goto 236 dX6_goesOn_223 (by decide) ?_
              refine TGo.ic1 dX6_goesOn_236 ?_
              refine TGo.il dX6_goesOn_237 rfl ?_
              refine TGo.isub dX6_goesOn_239 ?_
              refine TGo.is dX6_goesOn_240 rfl rfl ?_
              refine TGo.al dX6_goesOn_242 rfl ?_
              refine TGo.getS (t := 10) 0 0 (S + 1) hS.1 rfl fgX6_47_2 dX6_goesOn_244 rfl rfl rfl ?_
              refine TGo.il dX6_goesOn_247 rfl ?_
              refine TGo.iald dX6_goesOn_249 hS.2.1 (by omega) rfl ?_
              refine TGo.toz _ ((congrFun (((((Fr.rf.i (by simp)).i (by simp)).i (by simp)) : Fr [P, P + 1, P + 2] V _).1 (S + 1) hn1) _).trans (hv _ (by omega) (by omega)).1) ?_
              refine TGo.bip 6 dX6_goesOn_250 (by decide) ?_
              refine TGo.irem dX6_goesOn_252 (by omega) ?_
              refine TGo.is dX6_goesOn_253 rfl rfl ?_
              refine TGo.goto 44 dX6_goesOn_255 (by decide) ?_
              first | (exfalso; omega) | exact TGo.seq [some (.ref P), some (.ref S), some (.ref S2), some (.int (iI c0)), some (.int (iI (tkA f g c0 ((j + 1))).1)), some (.int (iI (tkA f g c0 ((j + 1))).2.1)), some (.int (iI (((((j + 1)) : Nat) : Int) % 2))), some (.int (iI (tkA f g c0 ((j + 1))).2.2)), _, _, _] [] _ (by rw [tkA]; first | (rw [if_pos (by omega), show ((j + 1 : Nat) : Int) % 2 = 1 - (j : Int) % 2 by omega]; rfl) | (rw [if_neg (by omega), show ((j + 1 : Nat) : Int) % 2 = 1 - (j : Int) % 2 by omega]; rfl)) rfl rfl (ih (j + 1) _ _ _ _ (by omega) (by omega) hz (by
                have hwn : whZ f g c0 j (tkI f g c0 j) = -1 := by omega
                have hdn : ¬ tkD f g c0 j := fun q => by rcases q with q | q <;> omega
                have hd1 : ∀ i, i < j + 1 → ¬ tkD f g c0 i := fun i hi => by
                  rcases Nat.lt_or_ge i j with e | e
                  · exact hd i e
                  · obtain rfl : i = j := by omega
                    exact hdn
                refine ⟨((hfr.i (by simp)).i (by simp)).i (by simp), hd1, fun x h0 h1 => ?_, fun i hi => ?_, u2_s⟩
                · rw [whZ]
                  refine (u2_n (Or.inl (by omega))).trans ((u2_n (Or.inl (by omega))).trans ?_)
                  by_cases e : x = tkI f g c0 j
                  · rw [e, zu_s]; exact u2_s
                  · rw [zu_n e]; exact (u2_n (Or.inr e)).trans (hw1 x h0 h1)
                · rcases Nat.lt_or_ge i j with e | e
                  · exact (u2_n (Or.inl (by omega))).trans ((u2_n (Or.inr (by omega))).trans ((u2_n (Or.inl (by omega))).trans (hv2 i e)))
                  · obtain rfl : i = j := by omega
                    rw [eR]
                    exact (u2_n (Or.inl (by omega))).trans u2_s))
          · refine TGo.al0 dX6_goesOn_158 rfl ?_
            refine TGo.il dX6_goesOn_159 rfl ?_
            refine TGo.bip 6 dX6_goesOn_161 (by decide) ?_
            refine TGo.idiv dX6_goesOn_163 (by omega) ?_
            refine TGo.putI (t := 14) 3 3 hP.1 rfl fpX6_38_6 dX6_goesOn_164 rfl rfl rfl ?_
            refine TGo.al0 dX6_goesOn_167 rfl ?_
            refine TGo.il dX6_goesOn_168 rfl ?_
            refine TGo.putI (t := 14) 4 4 hP.1 rfl fpX6_41_6 dX6_goesOn_170 rfl rfl rfl ?_
            refine TGo.al0 dX6_goesOn_173 rfl ?_
            refine TGo.il dX6_goesOn_174 rfl ?_
            refine TGo.putI (t := 14) 5 5 hP.1 rfl fpX6_44_6 dX6_goesOn_176 rfl rfl rfl ?_
            refine TGo.ic0 dX6_goesOn_179 ?_
            refine TGo.zret dX6_goesOn_180 rfl (by first | exact Or.inl rfl | exact Or.inr rfl | exact bZ_or _ | assumption) ?_
            have hN := tkN_end hd (Or.inr (by omega) : tkD f g c0 j) hj
            refine ⟨_, rfl, rfl, rfl, ?_, (((hfr.i (by simp)).i (by simp)).i (by simp)).i (by simp), ?_⟩
            · rw [bZ_f]; unfold tkW; rw [hN]; omega
            · rw [hN]; exact ⟨fun i hi => (u2_n (Or.inl (by omega))).trans ((u2_n (Or.inl (by omega))).trans ((u2_n (Or.inl (by omega))).trans ((u2_n (Or.inl (by omega))).trans (hv2 i hi)))), (u2_n (Or.inr (by omega))).trans ((u2_n (Or.inr (by omega))).trans ((u2_n (Or.inr (by omega))).trans ((u2_n (Or.inl (by omega))).trans (h2)))), Or.inr ⟨by omega, by omega, (congr (congrArg (fun a b : Int => 6 * a + b) ((u2_n (Or.inr (by omega))).trans ((u2_n (Or.inr (by omega))).trans (u2_s)))) ((u2_n (Or.inr (by omega))).trans (u2_s))).trans (by show 6 * _ + _ = _; omega), u2_s⟩⟩
    · refine TGo.al0 dX6_goesOn_76 rfl ?_
      refine TGo.al0 dX6_goesOn_77 rfl ?_
      refine TGo.getS (t := 14) 0 0 (P + 1) hP.1 rfl fgX6_15_6 dX6_goesOn_78 rfl rfl rfl ?_
      refine TGo.il dX6_goesOn_81 rfl ?_
      refine TGo.iald dX6_goesOn_83 hP.2.1 (by omega) rfl ?_
      refine TGo.toz _ (hw1 _ hI.1 hI.2) ?_
      refine TGo.putI (t := 14) 6 6 hP.1 rfl fpX6_26_6 dX6_goesOn_84 rfl rfl rfl ?_
      refine TGo.al0 dX6_goesOn_87 rfl ?_
      refine TGo.al0 dX6_goesOn_88 rfl ?_
      refine TGo.getI (t := 14) 2 2 hP.1 rfl fgX6_22_6 dX6_goesOn_89 rfl rfl rfl ?_
      refine TGo.toz _ ((u2_n (Or.inr (by decide))).trans (h2)) ?_
      refine TGo.al0 dX6_goesOn_92 rfl ?_
      refine TGo.getS (t := 14) 0 0 (P + 1) hP.1 rfl fgX6_15_6 dX6_goesOn_93 rfl rfl rfl ?_
      refine TGo.il dX6_goesOn_96 rfl ?_
      refine TGo.iald dX6_goesOn_98 hP.2.1 (by omega) rfl ?_
      refine TGo.toz _ ((u2_n (Or.inl (by omega))).trans (hw1 _ hI.1 hI.2)) ?_
      refine TGo.isub dX6_goesOn_99 ?_
      refine TGo.putI (t := 14) 7 7 hP.1 rfl fpX6_29_6 dX6_goesOn_100 rfl rfl rfl ?_
      refine TGo.ic1 dX6_goesOn_103 ?_
      refine TGo.zret dX6_goesOn_104 rfl (by first | exact Or.inl rfl | exact Or.inr rfl | exact bZ_or _ | assumption) ?_
      have hN := tkN_end hd (Or.inl (by omega) : tkD f g c0 j) hj
      refine ⟨_, rfl, rfl, rfl, ?_, (hfr.i (by simp)).i (by simp), ?_⟩
      · rw [bZ_t]; unfold tkW; rw [hN]; omega
      · rw [hN]; exact ⟨fun i hi => (u2_n (Or.inl (by omega))).trans ((u2_n (Or.inl (by omega))).trans (hv2 i hi)), (u2_n (Or.inr (by omega))).trans ((u2_n (Or.inr (by omega))).trans (h2)), Or.inl ⟨by omega, (u2_n (Or.inr (by omega))).trans (u2_s), u2_s⟩⟩
set_option maxHeartbeats 4000000 in
theorem zX6_goesOn {E : ET} {sh : SHT} {nn : Nat × Nat} {P : Nat} {S S2 : Nat} {f g : Int → Int} {c0 : Int} {V0 : VT} (hS : ScS sh S) (hS2 : ScS sh S2) (hn1 : S + 1 ∉ [P, P + 1, P + 2]) (hn2 : S + 2 ∉ [P, P + 1, P + 2]) (hn3 : S2 + 1 ∉ [P, P + 1, P + 2]) (hn4 : S2 + 2 ∉ [P, P + 1, P + 2]) (hcf : ∀ r, 0 ≤ r → r < 36 → cOK (f r)) (hcg : ∀ r, 0 ≤ r → r < 36 → cOK (g r)) (hc0 : 0 ≤ c0 ∧ c0 < 6) (hv0 : ScV V0 S f) (hw0 : ScV V0 S2 g) : ∀ (n j : Nat) (V : VT), 432 - j < n → j ≤ 432 → TkS sh P → (Fr [P, P + 1, P + 2] V0 V ∧ ∀ x, 0 ≤ x → x < (j : Int) → V.1 (P + 1) x = -1) → TGo E mX6_goesOn 2 3 [some (.ref P), some (.ref S), some (.ref S2), some (.int (iI c0)), some (.int (iI (((j) : Nat) : Int))), none, none, none, none, none, none] [] sh nn V (fun o sh' nn' V' => ∃ v, o = .inl (some v) ∧ sh' = sh ∧ nn' = nn ∧ v = .int (iI (bZ (tkW f g c0 ≠ -1))) ∧ Fr [P, P + 1, P + 2] V0 V' ∧ XTE P V' f g c0 (tkN f g c0)) := by
  intro n
  induction n with
  | zero => intro j V h; omega
  | succ n ih =>
    intro j V hn hj hz hx
    have hP := hz
    refine TGo.il dX6_goesOn_3 rfl ?_
    refine TGo.al0 dX6_goesOn_5 rfl ?_
    refine TGo.getS (t := 14) 0 0 (P + 1) hP.1 rfl fgX6_15_6 dX6_goesOn_6 rfl rfl rfl ?_
    refine TGo.alen1 dX6_goesOn_9 hP.2.1 ?_
    refine TGo.icmp_ge 27 dX6_goesOn_10 (by decide) (by omega) (fun h10 => ?_) (fun h10 => ?_)
    · refine TGo.ic0 dX6_goesOn_27 ?_
      refine TGo.is dX6_goesOn_28 rfl rfl ?_
      refine TGo.ic0 dX6_goesOn_30 ?_
      refine TGo.is dX6_goesOn_31 rfl rfl ?_
      refine TGo.ic0 dX6_goesOn_33 ?_
      refine TGo.is dX6_goesOn_34 rfl rfl ?_
      refine TGo.il3 dX6_goesOn_36 rfl ?_
      refine TGo.is dX6_goesOn_37 rfl rfl ?_
      refine TGo.al0 dX6_goesOn_39 rfl ?_
      refine TGo.ic0 dX6_goesOn_40 ?_
      refine TGo.putI (t := 14) 2 2 hP.1 rfl fpX6_22_6 dX6_goesOn_41 rfl rfl rfl ?_
      obtain rfl : j = 432 := by omega
      exact TGo.seq [some (.ref P), some (.ref S), some (.ref S2), some (.int (iI c0)), some (.int (iI (tkA f g c0 (0)).1)), some (.int (iI (tkA f g c0 (0)).2.1)), some (.int (iI ((((0) : Nat) : Int) % 2))), some (.int (iI (tkA f g c0 (0)).2.2)), none, none, none] [] _ rfl rfl rfl (lX6_goesOn hS hS2 hn1 hn2 hn3 hn4 hcf hcg hc0 hv0 hw0 433 0 _ _ _ _ (by omega) (by omega) hz ⟨hx.1.i (by simp), fun i hi => by omega, fun x h0 h1 => (u2_n (Or.inl (by omega))).trans (hx.2 x h0 (by omega)), fun i hi => by omega, u2_s⟩)
    · refine TGo.al0 dX6_goesOn_13 rfl ?_
      refine TGo.getS (t := 14) 0 0 (P + 1) hP.1 rfl fgX6_15_6 dX6_goesOn_14 rfl rfl rfl ?_
      refine TGo.il dX6_goesOn_17 rfl ?_
      refine TGo.icm1 dX6_goesOn_19 ?_
      refine TGo.iast dX6_goesOn_20 hP.2.1 (by omega) rfl ?_
      refine TGo.iinc dX6_goesOn_21 rfl rfl rfl ?_
      refine TGo.goto 3 dX6_goesOn_24 (by decide) ?_
      exact TGo.seq [some (.ref P), some (.ref S), some (.ref S2), some (.int (iI c0)), some (.int (iI ((((j + 1)) : Nat) : Int))), none, none, none, none, none, none] [] _ (rfl) rfl rfl (ih (j + 1) _ (by omega) (by omega) hz ⟨hx.1.i (by simp), fun r h0 h1 => by
        by_cases e : r = (j : Int)
        · rw [e]; exact u2_s
        · exact (u2_n (Or.inr e)).trans (hx.2 r h0 (by omega))⟩)
set_option maxHeartbeats 4000000 in
theorem kX6_goesOn {E : ET} {sh : SHT} {nn : Nat × Nat} {V : VT} {P S S2 : Nat} {f g : Int → Int} {c0 : Int} (hP : TkS sh P) (hS : ScS sh S) (hS2 : ScS sh S2) (hn1 : S + 1 ∉ [P, P + 1, P + 2]) (hn2 : S + 2 ∉ [P, P + 1, P + 2]) (hn3 : S2 + 1 ∉ [P, P + 1, P + 2]) (hn4 : S2 + 2 ∉ [P, P + 1, P + 2]) (hcf : ∀ r, 0 ≤ r → r < 36 → cOK (f r)) (hcg : ∀ r, 0 ≤ r → r < 36 → cOK (g r)) (hc0 : 0 ≤ c0 ∧ c0 < 6) (hv0 : ScV V S f) (hw0 : ScV V S2 g) : TS E mX6_goesOn 2 [.ref P, .ref S, .ref S2, .int (iI c0)] sh nn V (fun v V' => v = .int (iI (bZ (tkW f g c0 ≠ -1))) ∧ Fr [P, P + 1, P + 2] V V' ∧ XTE P V' f g c0 (tkN f g c0)) := by
  refine TC.intro [some (.ref P), some (.ref S), some (.ref S2), some (.int (iI c0)), none, none, none, none, none, none, none] rfl ?_
  refine TGo.ic0 dX6_goesOn_0 ?_
  refine TGo.is dX6_goesOn_1 rfl rfl ?_
  exact zX6_goesOn (V0 := V) hS hS2 hn1 hn2 hn3 hn4 hcf hcg hc0 hv0 hw0 433 0 _ (by omega) (by omega) hP ⟨Fr.rf, fun w h0 h1 => by omega⟩
theorem xtalk_eq {P : Nat} {V : VT} {f g : Int → Int} {c0 : Int} (hE : XTE P V f g c0 (tkN f g c0)) (hn : tkN f g c0 ≤ 432) : ((0 ≤ V.1 P 2 ∧ V.1 P 2 ≤ 432) ∧ (tkW f g c0 ≠ -1 → 0 ≤ V.1 P 6 ∧ 1 ≤ V.1 P 7 ∧ V.1 P 6 + V.1 P 7 = V.1 P 2)) ∧ ∀ w, 0 ≤ w → (w ≤ 2 ∨ 10 ≤ w) →
  talkZ f g c0 w = (if w = 0 then (if tkW f g c0 ≠ -1 then -1 else V.1 P 2) else if w = 1 then (if tkW f g c0 ≠ -1 then V.1 P 6 else -1) else if w = 2 then (if tkW f g c0 ≠ -1 then V.1 P 7 else -1) else if w - 10 < V.1 P 2 then V.1 (P + 2) (w - 10) else if tkW f g c0 ≠ -1 then V.1 (P + 2) (V.1 P 6 + (w - 10 - V.1 P 6) % V.1 P 7) else -1) := by
  obtain ⟨hv, h2, hE⟩ := hE
  have hwr := whZ_r f g c0 (tkN f g c0) (tkI f g c0 (tkN f g c0))
  have hW : whZ f g c0 (tkN f g c0) (tkI f g c0 (tkN f g c0)) = tkW f g c0 := rfl
  rw [hW] at hE hwr
  unfold talkZ
  generalize tkW f g c0 = W at *
  generalize tkN f g c0 = N at *
  refine ⟨⟨by omega, fun q => by rcases hE with e | e <;> omega⟩, fun w h0 h1 => ?_⟩
  rw [h2]
  rcases hE with ⟨q1, q3, q4⟩ | ⟨q1, -⟩
  · rw [if_pos q1, if_pos q1, if_pos q1, if_pos q1, if_neg q1, if_neg q1, if_neg q1, q3, q4]
    by_cases e0 : w = 0
    · rw [if_pos e0, if_pos e0]
    · rw [if_neg e0, if_neg e0]
      by_cases e1 : w = 1
      · rw [if_pos e1, if_pos e1]
      · rw [if_neg e1, if_neg e1]
        by_cases e2 : w = 2
        · rw [if_pos e2, if_pos e2]
        · rw [if_neg e2, if_neg e2]
          have hm1 := Int.emod_nonneg (w - 10 - W) (show (N : Int) - W ≠ 0 by omega)
          have hm2 := Int.emod_lt_of_pos (w - 10 - W) (show 0 < (N : Int) - W by omega)
          have hm3 : W ≤ w - 10 → w - 10 < N → (w - 10 - W) % ((N : Int) - W) = w - 10 - W := fun a b => Int.emod_eq_of_lt (by omega) (by omega)
          generalize (w - 10 - W) % ((N : Int) - W) = M at *
          by_cases e3 : w - 10 < N
          · rw [if_pos e3]
            rw [show (if w - 10 < W then w - 10 else W + M) = w - 10 by split <;> omega, ← hv _ (by omega), show (((w - 10).toNat : Nat) : Int) = w - 10 by omega]
          · rw [if_neg e3, if_neg (by omega), ← hv _ (by omega), show (((W + M).toNat : Nat) : Int) = W + M by omega]
  · have q9 : ¬ W ≠ -1 := fun q => q q1
    rw [if_neg q9, if_neg q9, if_neg q9, if_neg q9, if_pos q1, if_pos q1, if_pos q1]
    by_cases e0 : w = 0
    · rw [if_pos e0, if_pos e0]
    · rw [if_neg e0, if_neg e0]
      by_cases e1 : w = 1
      · rw [if_pos e1, if_pos e1]; exact q1
      · rw [if_neg e1, if_neg e1]
        by_cases e2 : w = 2
        · rw [if_pos e2, if_pos e2]
        · rw [if_neg e2, if_neg e2]
          by_cases e3 : w - 10 < N
          · rw [if_pos e3, if_pos e3, ← hv _ (by omega), show (((w - 10).toNat : Nat) : Int) = w - 10 by omega]
          · rw [if_neg e3, if_neg e3]
theorem FrTk {B : Nat} {V V' : VT} (h : Fr [B + 48, B + 48 + 1, B + 48 + 2] V V') : FrS B V V' := FrS.of h (fun a ha => by
  simp only [List.mem_cons, List.not_mem_nil, or_false] at ha
  rcases ha with e | e | e
  · exact ⟨48, by omega, e⟩
  · exact ⟨49, by omega, by omega⟩
  · exact ⟨50, by omega, by omega⟩)
theorem nT {ow : Nat → Nat} {B a : Nat} (how : ∀ i, xOk i = true → ow (B + i) = 1) (ha : ow a = 4) : a ∉ [B + 48, B + 48 + 1, B + 48 + 2] := fun h => by
  simp only [List.mem_cons, List.not_mem_nil, or_false] at h
  have q0 := how 48 (by decide)
  have q1 := how 49 (by decide)
  have q2 := how 50 (by decide)
  rcases h with e | e | e
  · rw [e] at ha; omega
  · rw [e, show B + 48 + 1 = B + 49 by omega] at ha; omega
  · rw [e, show B + 48 + 2 = B + 50 by omega] at ha; omega
set_option maxHeartbeats 4000000 in
theorem kX0_areTalking {E : ET} {sh : SHT} {nn : Nat × Nat} {V : VT} {B : Nat} {ow : Nat → Nat} {z : ZT} {a b c : Int} (hR : XR ow sh nn V B z) (W : RWZ (z.2 3)) (ra : R32 a) (rb : R32 b) (rc : R32 c) : TF E mX0_areTalking 3 [.ref B, .int (iI a), .int (iI b), .int (iI c)] sh nn V (.int (iI (bZ ((0 ≤ a ∧ a < z.2 3 2) ∧ (0 ≤ b ∧ b < z.2 3 2) ∧ 0 ≤ c ∧ c ≤ 5)))) := by
  obtain ⟨hB, -, hc, -⟩ := id hR
  refine TC.intro [some (.ref B), some (.int (iI a)), some (.int (iI b)), some (.int (iI c))] rfl ?_
  refine TGo.al0 dX0_areTalking_0 rfl ?_
  refine TGo.il1 dX0_areTalking_1 rfl ?_
  refine TGo.cF (csV1 (y2 := mX0_isVersion) (t := 8) 2 rfl (hB 0 (by decide)) rfl rfl dX0_areTalking_2 q1496 q1498 qs19 okX0_isVersion npX0_isVersion rfl rfl) (kX0_isVersion hR W (by omega)) ?_
  refine TGo.ifb_eq 29 dX0_areTalking_5 (by decide) (fun h5 => ?_) (fun h5 => ?_)
  · refine TGo.ic0 dX0_areTalking_29 ?_
    refine TGo.zret dX0_areTalking_30 rfl (by first | exact Or.inl rfl | exact Or.inr rfl | exact bZ_or _ | assumption) ?_
    refine leafF ?_
    first | rfl | omega | exact (bZ_t (by omega)).symm | exact (bZ_f (by omega)).symm | exact bZ_iff (by omega)
  · refine TGo.al0 dX0_areTalking_8 rfl ?_
    refine TGo.il2 dX0_areTalking_9 rfl ?_
    refine TGo.cF (csV1 (y2 := mX0_isVersion) (t := 8) 2 rfl (hB 0 (by decide)) rfl rfl dX0_areTalking_10 q1496 q1498 qs19 okX0_isVersion npX0_isVersion rfl rfl) (kX0_isVersion hR W (by omega)) ?_
    refine TGo.ifb_eq 29 dX0_areTalking_13 (by decide) (fun h13 => ?_) (fun h13 => ?_)
    · refine TGo.ic0 dX0_areTalking_29 ?_
      refine TGo.zret dX0_areTalking_30 rfl (by first | exact Or.inl rfl | exact Or.inr rfl | exact bZ_or _ | assumption) ?_
      refine leafF ?_
      first | rfl | omega | exact (bZ_t (by omega)).symm | exact (bZ_f (by omega)).symm | exact bZ_iff (by omega)
    · refine TGo.il3 dX0_areTalking_16 rfl ?_
      refine TGo.ic0 dX0_areTalking_17 ?_
      refine TGo.ic5 dX0_areTalking_18 ?_
      refine TGo.cF (csS3 (y2 := mX0_in) 1 rfl dX0_areTalking_19 q598 q599 okX0_in npX0_in rfl rfl) (kX0_in (by omega) (by omega) (by omega)) ?_
      refine TGo.ifb_eq 29 dX0_areTalking_22 (by decide) (fun h22 => ?_) (fun h22 => ?_)
      · refine TGo.ic0 dX0_areTalking_29 ?_
        refine TGo.zret dX0_areTalking_30 rfl (by first | exact Or.inl rfl | exact Or.inr rfl | exact bZ_or _ | assumption) ?_
        refine leafF ?_
        first | rfl | omega | exact (bZ_t (by omega)).symm | exact (bZ_f (by omega)).symm | exact bZ_iff (by omega)
      · refine TGo.ic1 dX0_areTalking_25 ?_
        refine TGo.goto 30 dX0_areTalking_26 (by decide) ?_
        refine TGo.zret dX0_areTalking_30 rfl (by first | exact Or.inl rfl | exact Or.inr rfl | exact bZ_or _ | assumption) ?_
        refine leafF ?_
        first | rfl | omega | exact (bZ_t (by omega)).symm | exact (bZ_f (by omega)).symm | exact bZ_iff (by omega)
set_option maxHeartbeats 4000000 in
theorem kX6_word {E : ET} {sh : SHT} {nn : Nat × Nat} {V : VT} {P : Nat} {i : Int} (hP : TkS sh P) {W : Int} (h2 : 0 ≤ V.1 P 2 ∧ V.1 P 2 ≤ 432) (h6 : W ≠ -1 → 0 ≤ V.1 P 6 ∧ 1 ≤ V.1 P 7 ∧ V.1 P 6 + V.1 P 7 = V.1 P 2) (hi : 0 ≤ i) (hr : R32 i) : TF E mX6_word 1 [.ref P, .int (iI (bZ (W ≠ -1))), .int (iI i)] sh nn V (.int (iI (if i < V.1 P 2 then V.1 (P + 2) i else if W ≠ -1 then V.1 (P + 2) (V.1 P 6 + (i - V.1 P 6) % V.1 P 7) else -1))) := by
  refine TC.intro [some (.ref P), some (.int (iI (bZ (W ≠ -1)))), some (.int (iI i))] rfl ?_
  refine TGo.il2 dX6_word_0 rfl ?_
  refine TGo.al0 dX6_word_1 rfl ?_
  refine TGo.getI (t := 14) 2 2 hP.1 rfl fgX6_22_6 dX6_word_2 rfl rfl rfl ?_
  refine TGo.icmp_ge 17 dX6_word_5 (by decide) (by omega) (fun h5 => ?_) (fun h5 => ?_)
  · refine TGo.il1 dX6_word_17 rfl ?_
    refine TGo.ifb_eq 45 dX6_word_18 (by decide) (fun h18 => ?_) (fun h18 => ?_)
    · refine TGo.icm1 dX6_word_45 ?_
      refine TGo.iret dX6_word_46 rfl ?_
      refine leafF ?_
      first | (rw [if_pos (by omega)]) | (rw [if_neg (by omega), if_pos (by assumption)]) | (rw [if_neg (by omega), if_neg (by assumption)])
    · have h6 := h6 (by assumption)
      have hm1 := Int.emod_nonneg (i - V.1 P 6) (show V.1 P 7 ≠ 0 by omega)
      have hm2 := Int.emod_lt_of_pos (i - V.1 P 6) (show 0 < V.1 P 7 by omega)
      refine TGo.al0 dX6_word_21 rfl ?_
      refine TGo.getS (t := 14) 1 1 (P + 2) hP.1 rfl fgX6_19_6 dX6_word_22 rfl rfl rfl ?_
      refine TGo.al0 dX6_word_25 rfl ?_
      refine TGo.getI (t := 14) 6 6 hP.1 rfl fgX6_26_6 dX6_word_26 rfl rfl rfl ?_
      refine TGo.il2 dX6_word_29 rfl ?_
      refine TGo.al0 dX6_word_30 rfl ?_
      refine TGo.getI (t := 14) 6 6 hP.1 rfl fgX6_26_6 dX6_word_31 rfl rfl rfl ?_
      refine TGo.isub dX6_word_34 ?_
      refine TGo.al0 dX6_word_35 rfl ?_
      refine TGo.getI (t := 14) 7 7 hP.1 rfl fgX6_29_6 dX6_word_36 rfl rfl rfl ?_
      refine TGo.irem dX6_word_39 (by omega) ?_
      refine TGo.iadd dX6_word_40 ?_
      refine TGo.iald dX6_word_41 hP.2.2 (by omega) rfl ?_
      refine TGo.goto 46 dX6_word_42 (by decide) ?_
      refine TGo.iret dX6_word_46 rfl ?_
      refine leafF ?_
      first | (rw [if_pos (by omega)]) | (rw [if_neg (by omega), if_pos (by assumption)]) | (rw [if_neg (by omega), if_neg (by assumption)])
  · refine TGo.al0 dX6_word_8 rfl ?_
    refine TGo.getS (t := 14) 1 1 (P + 2) hP.1 rfl fgX6_19_6 dX6_word_9 rfl rfl rfl ?_
    refine TGo.il2 dX6_word_12 rfl ?_
    refine TGo.iald dX6_word_13 hP.2.2 (by omega) rfl ?_
    refine TGo.goto 46 dX6_word_14 (by decide) ?_
    refine TGo.iret dX6_word_46 rfl ?_
    refine leafF ?_
    first | (rw [if_pos (by omega)]) | (rw [if_neg (by omega), if_pos (by assumption)]) | (rw [if_neg (by omega), if_neg (by assumption)])
set_option maxHeartbeats 4000000 in
theorem kX0_talk {E : ET} {sh : SHT} {nn : Nat × Nat} {V : VT} {B : Nat} {ow : Nat → Nat} {z : ZT} {a b c w : Int} (hR : XR ow sh nn V B z) (W : RWZ (z.2 3)) (ra : R32 a) (rb : R32 b) (rc : R32 c) (rw : R32 w) : TC E mX0_talk 5 [.ref B, .int (iI a), .int (iI b), .int (iI c), .int (iI w)] sh nn V (XP B nn (zp_talk z a b c w)) := by
  obtain ⟨hB, -, hc, -⟩ := id hR
  have w2 := W.1.2.2.1
  obtain ⟨ap, av, al, cp, cv, cl, gp, gv, gl, hne, ⟨hp1, hp2⟩, ⟨hv1, hv2⟩, hl1, hl2⟩ := id hR.2.2.2.1
  refine TC.intro [some (.ref B), some (.int (iI a)), some (.int (iI b)), some (.int (iI c)), some (.int (iI w)), none] rfl ?_
  refine TGo.al0 dX0_talk_0 rfl ?_
  refine TGo.il1 dX0_talk_1 rfl ?_
  refine TGo.il2 dX0_talk_2 rfl ?_
  refine TGo.il3 dX0_talk_3 rfl ?_
  refine TGo.cF (csV3 (y2 := mX0_areTalking) (t := 8) 3 rfl (hB 0 (by decide)) rfl rfl dX0_talk_4 q1599 q1601 qs26 okX0_areTalking npX0_areTalking rfl rfl) (kX0_areTalking hR W (by omega) (by omega) (by omega)) ?_
  refine TGo.ifb_eq 32 dX0_talk_7 (by decide) (fun h7 => ?_) (fun h7 => ?_)
  · refine TGo.icm1 dX0_talk_32 ?_
    refine TGo.iret dX0_talk_33 rfl ?_
    first
    | (exfalso; omega)
    | (refine hR.same ?_
       unfold zp_talk
       rw [if_pos (by omega)])
    | (refine (hR.sc (FrTk hf49)).same ?_
       unfold zp_talk
       rw [if_neg (by omega), hE]
       all_goals refine congrArg (fun q => (q, z)) ?_
       all_goals first
       | (rw [if_pos (show w = 0 by omega)]; first | (rw [if_pos (by assumption)]) | (rw [if_neg (by assumption)]))
       | (rw [if_neg (show ¬ w = 0 by omega), if_pos (show w = 1 by omega)]; first | (rw [if_pos (by assumption)]) | (rw [if_neg (by assumption)]))
       | (rw [if_neg (show ¬ w = 0 by omega), if_neg (show ¬ w = 1 by omega), if_pos (show w = 2 by omega)]; first | (rw [if_pos (by assumption)]) | (rw [if_neg (by assumption)]))
       | (rw [if_neg (show ¬ w = 0 by omega)]
          by_cases e1 : w = 1
          · rw [if_pos e1, if_neg (by assumption)]
          · rw [if_neg e1, if_pos (show w = 2 by omega), if_neg (by assumption)])
       | rfl)
  · refine TGo.il dX0_talk_10 rfl ?_
    refine TGo.ic0 dX0_talk_12 ?_
    refine TGo.ic2 dX0_talk_13 ?_
    refine TGo.cF (csS3 (y2 := mX0_in) 1 rfl dX0_talk_14 q598 q599 okX0_in npX0_in rfl rfl) (kX0_in (by omega) (by omega) (by omega)) ?_
    refine TGo.ifb_ne 34 dX0_talk_17 (by decide) (fun h17 => ?_) (fun h17 => ?_)
    · have hcf : ∀ r, 0 ≤ r → r < 36 → cOK ((fun r => z.2 3 (298 + 36 * a + r)) r) := fun r h0 h1 => W.2.2.2.2.2.1 a r (by omega) (by omega) h0 h1
      have hcg : ∀ r, 0 ≤ r → r < 36 → cOK ((fun r => z.2 3 (298 + 36 * b + r)) r) := fun r h0 h1 => W.2.2.2.2.2.1 b r (by omega) (by omega) h0 h1
      refine TGo.al0 dX0_talk_34 rfl ?_
      refine TGo.getS (t := 8) 12 12 (B + 48) (hB 0 (by decide)) rfl fgX0_61_0 dX0_talk_35 rfl rfl rfl ?_
      refine TGo.al0 dX0_talk_38 rfl ?_
      refine TGo.il1 dX0_talk_39 rfl ?_
      refine TGo.callG (csV1 (y2 := mX0_scriptOf) (t := 8) 4 rfl (hB 0 (by decide)) rfl rfl dX0_talk_40 q1548 q1550 qs23 okX0_scriptOf npX0_scriptOf rfl rfl) (kX0_scriptOf hR W (v := a) (by omega)) (fun o40 sh40 nn40 V40 e40 h40 => ?_)
      obtain ⟨⟨S, rfl, ⟨vSS, vVS⟩, oSS⟩, rfl, rfl, rfl⟩ := h40
      show TGo _ _ _ _ _ _ _ _ _ _
      refine TGo.al0 dX0_talk_43 rfl ?_
      refine TGo.il2 dX0_talk_44 rfl ?_
      refine TGo.callG (csV1 (y2 := mX0_scriptOf) (t := 8) 4 rfl (hB 0 (by decide)) rfl rfl dX0_talk_45 q1548 q1550 qs23 okX0_scriptOf npX0_scriptOf rfl rfl) (kX0_scriptOf hR W (v := b) (by omega)) (fun o45 sh45 nn45 V45 e45 h45 => ?_)
      obtain ⟨⟨S2, rfl, ⟨vSS2, vVS2⟩, oSS2⟩, rfl, rfl, rfl⟩ := h45
      show TGo _ _ _ _ _ _ _ _ _ _
      refine TGo.il3 dX0_talk_48 rfl ?_
      refine TGo.cS (csV3 (y2 := mX6_goesOn) (t := 14) 2 rfl (hB 48 (by decide)) rfl rfl dX0_talk_49 q1603 q1604 q1605 okX6_goesOn npX6_goesOn rfl rfl) (kX6_goesOn hB.tk vSS vSS2 (nT hR.2.1 oSS.2.1) (nT hR.2.1 oSS.2.2) (nT hR.2.1 oSS2.2.1) (nT hR.2.1 oSS2.2.2) hcf hcg (show 0 ≤ c ∧ c < 6 by omega) vVS vVS2) (fun v49 V49 h49 => ?_)
      obtain ⟨rfl, hf49, ht49⟩ := h49
      obtain ⟨hd1, hd2, hn3⟩ := tkN_ok hcf hcg (show 0 ≤ c ∧ c < 6 by omega)
      obtain ⟨⟨ht2, ht6⟩, hE⟩ := xtalk_eq ht49 hn3
      have hE := hE w (by omega) (by omega)
      clear ht49 hn3 hd1 hd2
      refine TGo.is dX0_talk_52 rfl rfl ?_
      refine TGo.il dX0_talk_54 rfl ?_
      refine TGo.bip 10 dX0_talk_56 (by decide) ?_
      refine TGo.icmp_lt 76 dX0_talk_58 (by decide) (by omega) (fun h58 => ?_) (fun h58 => ?_)
      · refine TGo.il dX0_talk_76 rfl ?_
        refine TGo.if_ne 100 dX0_talk_78 (by decide) (by omega) (fun h78 => ?_) (fun h78 => ?_)
        · refine TGo.il dX0_talk_100 rfl ?_
          refine TGo.ifb_ne 109 dX0_talk_102 (by decide) (fun h102 => ?_) (fun h102 => ?_)
          · refine TGo.il dX0_talk_109 rfl ?_
            refine TGo.ic1 dX0_talk_111 ?_
            refine TGo.icmp_ne 125 dX0_talk_112 (by decide) (by omega) (fun h112 => ?_) (fun h112 => ?_)
            · refine TGo.al0 dX0_talk_125 rfl ?_
              refine TGo.getS (t := 8) 12 12 (B + 48) (hB 0 (by decide)) rfl fgX0_61_0 dX0_talk_126 rfl rfl rfl ?_
              refine TGo.getI (t := 14) 7 7 (hB 48 (by decide)) rfl fgX0_412_6 dX0_talk_129 rfl rfl rfl ?_
              refine TGo.iret dX0_talk_132 rfl ?_
              first
              | (exfalso; omega)
              | (refine hR.same ?_
                 unfold zp_talk
                 rw [if_pos (by omega)])
              | (refine (hR.sc (FrTk hf49)).same ?_
                 unfold zp_talk
                 rw [if_neg (by omega), hE]
                 all_goals refine congrArg (fun q => (q, z)) ?_
                 all_goals first
                 | (rw [if_pos (show w = 0 by omega)]; first | (rw [if_pos (by assumption)]) | (rw [if_neg (by assumption)]))
                 | (rw [if_neg (show ¬ w = 0 by omega), if_pos (show w = 1 by omega)]; first | (rw [if_pos (by assumption)]) | (rw [if_neg (by assumption)]))
                 | (rw [if_neg (show ¬ w = 0 by omega), if_neg (show ¬ w = 1 by omega), if_pos (show w = 2 by omega)]; first | (rw [if_pos (by assumption)]) | (rw [if_neg (by assumption)]))
                 | (rw [if_neg (show ¬ w = 0 by omega)]
                    by_cases e1 : w = 1
                    · rw [if_pos e1, if_neg (by assumption)]
                    · rw [if_neg e1, if_pos (show w = 2 by omega), if_neg (by assumption)])
                 | rfl)
            · refine TGo.al0 dX0_talk_115 rfl ?_
              refine TGo.getS (t := 8) 12 12 (B + 48) (hB 0 (by decide)) rfl fgX0_61_0 dX0_talk_116 rfl rfl rfl ?_
              refine TGo.getI (t := 14) 6 6 (hB 48 (by decide)) rfl fgX0_409_6 dX0_talk_119 rfl rfl rfl ?_
              refine TGo.goto 132 dX0_talk_122 (by decide) ?_
              refine TGo.iret dX0_talk_132 rfl ?_
              first
              | (exfalso; omega)
              | (refine hR.same ?_
                 unfold zp_talk
                 rw [if_pos (by omega)])
              | (refine (hR.sc (FrTk hf49)).same ?_
                 unfold zp_talk
                 rw [if_neg (by omega), hE]
                 all_goals refine congrArg (fun q => (q, z)) ?_
                 all_goals first
                 | (rw [if_pos (show w = 0 by omega)]; first | (rw [if_pos (by assumption)]) | (rw [if_neg (by assumption)]))
                 | (rw [if_neg (show ¬ w = 0 by omega), if_pos (show w = 1 by omega)]; first | (rw [if_pos (by assumption)]) | (rw [if_neg (by assumption)]))
                 | (rw [if_neg (show ¬ w = 0 by omega), if_neg (show ¬ w = 1 by omega), if_pos (show w = 2 by omega)]; first | (rw [if_pos (by assumption)]) | (rw [if_neg (by assumption)]))
                 | (rw [if_neg (show ¬ w = 0 by omega)]
                    by_cases e1 : w = 1
                    · rw [if_pos e1, if_neg (by assumption)]
                    · rw [if_neg e1, if_pos (show w = 2 by omega), if_neg (by assumption)])
                 | rfl)
          · refine TGo.icm1 dX0_talk_105 ?_
            refine TGo.goto 132 dX0_talk_106 (by decide) ?_
            refine TGo.iret dX0_talk_132 rfl ?_
            first
            | (exfalso; omega)
            | (refine hR.same ?_
               unfold zp_talk
               rw [if_pos (by omega)])
            | (refine (hR.sc (FrTk hf49)).same ?_
               unfold zp_talk
               rw [if_neg (by omega), hE]
               all_goals refine congrArg (fun q => (q, z)) ?_
               all_goals first
               | (rw [if_pos (show w = 0 by omega)]; first | (rw [if_pos (by assumption)]) | (rw [if_neg (by assumption)]))
               | (rw [if_neg (show ¬ w = 0 by omega), if_pos (show w = 1 by omega)]; first | (rw [if_pos (by assumption)]) | (rw [if_neg (by assumption)]))
               | (rw [if_neg (show ¬ w = 0 by omega), if_neg (show ¬ w = 1 by omega), if_pos (show w = 2 by omega)]; first | (rw [if_pos (by assumption)]) | (rw [if_neg (by assumption)]))
               | (rw [if_neg (show ¬ w = 0 by omega)]
                  by_cases e1 : w = 1
                  · rw [if_pos e1, if_neg (by assumption)]
                  · rw [if_neg e1, if_pos (show w = 2 by omega), if_neg (by assumption)])
               | rfl)
        · refine TGo.il dX0_talk_81 rfl ?_
          refine TGo.ifb_eq 90 dX0_talk_83 (by decide) (fun h83 => ?_) (fun h83 => ?_)
          · refine TGo.al0 dX0_talk_90 rfl ?_
            refine TGo.getS (t := 8) 12 12 (B + 48) (hB 0 (by decide)) rfl fgX0_61_0 dX0_talk_91 rfl rfl rfl ?_
            refine TGo.getI (t := 14) 2 2 (hB 48 (by decide)) rfl fgX0_407_6 dX0_talk_94 rfl rfl rfl ?_
            refine TGo.goto 132 dX0_talk_97 (by decide) ?_
            refine TGo.iret dX0_talk_132 rfl ?_
            first
            | (exfalso; omega)
            | (refine hR.same ?_
               unfold zp_talk
               rw [if_pos (by omega)])
            | (refine (hR.sc (FrTk hf49)).same ?_
               unfold zp_talk
               rw [if_neg (by omega), hE]
               all_goals refine congrArg (fun q => (q, z)) ?_
               all_goals first
               | (rw [if_pos (show w = 0 by omega)]; first | (rw [if_pos (by assumption)]) | (rw [if_neg (by assumption)]))
               | (rw [if_neg (show ¬ w = 0 by omega), if_pos (show w = 1 by omega)]; first | (rw [if_pos (by assumption)]) | (rw [if_neg (by assumption)]))
               | (rw [if_neg (show ¬ w = 0 by omega), if_neg (show ¬ w = 1 by omega), if_pos (show w = 2 by omega)]; first | (rw [if_pos (by assumption)]) | (rw [if_neg (by assumption)]))
               | (rw [if_neg (show ¬ w = 0 by omega)]
                  by_cases e1 : w = 1
                  · rw [if_pos e1, if_neg (by assumption)]
                  · rw [if_neg e1, if_pos (show w = 2 by omega), if_neg (by assumption)])
               | rfl)
          · refine TGo.icm1 dX0_talk_86 ?_
            refine TGo.goto 132 dX0_talk_87 (by decide) ?_
            refine TGo.iret dX0_talk_132 rfl ?_
            first
            | (exfalso; omega)
            | (refine hR.same ?_
               unfold zp_talk
               rw [if_pos (by omega)])
            | (refine (hR.sc (FrTk hf49)).same ?_
               unfold zp_talk
               rw [if_neg (by omega), hE]
               all_goals refine congrArg (fun q => (q, z)) ?_
               all_goals first
               | (rw [if_pos (show w = 0 by omega)]; first | (rw [if_pos (by assumption)]) | (rw [if_neg (by assumption)]))
               | (rw [if_neg (show ¬ w = 0 by omega), if_pos (show w = 1 by omega)]; first | (rw [if_pos (by assumption)]) | (rw [if_neg (by assumption)]))
               | (rw [if_neg (show ¬ w = 0 by omega), if_neg (show ¬ w = 1 by omega), if_pos (show w = 2 by omega)]; first | (rw [if_pos (by assumption)]) | (rw [if_neg (by assumption)]))
               | (rw [if_neg (show ¬ w = 0 by omega)]
                  by_cases e1 : w = 1
                  · rw [if_pos e1, if_neg (by assumption)]
                  · rw [if_neg e1, if_pos (show w = 2 by omega), if_neg (by assumption)])
               | rfl)
      · have hw3 : ¬ w = 0 ∧ ¬ w = 1 ∧ ¬ w = 2 := by omega
        rw [if_neg hw3.1, if_neg hw3.2.1, if_neg hw3.2.2] at hE
        refine TGo.al0 dX0_talk_61 rfl ?_
        refine TGo.getS (t := 8) 12 12 (B + 48) (hB 0 (by decide)) rfl fgX0_61_0 dX0_talk_62 rfl rfl rfl ?_
        refine TGo.il dX0_talk_65 rfl ?_
        refine TGo.il dX0_talk_67 rfl ?_
        refine TGo.bip 10 dX0_talk_69 (by decide) ?_
        refine TGo.isub dX0_talk_71 ?_
        refine TGo.cF (csV2 (y2 := mX6_word) (t := 14) 1 rfl (hB 48 (by decide)) rfl rfl dX0_talk_72 q1608 q1609 q1610 okX6_word npX6_word rfl rfl) (kX6_word hB.tk (W := tkW (fun r => z.2 3 (298 + 36 * a + r)) (fun r => z.2 3 (298 + 36 * b + r)) c) ht2 ht6 (by omega) (by omega)) ?_
        refine TGo.iret dX0_talk_75 rfl ?_
        first
        | (exfalso; omega)
        | (refine hR.same ?_
           unfold zp_talk
           rw [if_pos (by omega)])
        | (refine (hR.sc (FrTk hf49)).same ?_
           unfold zp_talk
           rw [if_neg (by omega), hE]
           all_goals refine congrArg (fun q => (q, z)) ?_
           all_goals first
           | (rw [if_pos (show w = 0 by omega)]; first | (rw [if_pos (by assumption)]) | (rw [if_neg (by assumption)]))
           | (rw [if_neg (show ¬ w = 0 by omega), if_pos (show w = 1 by omega)]; first | (rw [if_pos (by assumption)]) | (rw [if_neg (by assumption)]))
           | (rw [if_neg (show ¬ w = 0 by omega), if_neg (show ¬ w = 1 by omega), if_pos (show w = 2 by omega)]; first | (rw [if_pos (by assumption)]) | (rw [if_neg (by assumption)]))
           | (rw [if_neg (show ¬ w = 0 by omega)]
              by_cases e1 : w = 1
              · rw [if_pos e1, if_neg (by assumption)]
              · rw [if_neg e1, if_pos (show w = 2 by omega), if_neg (by assumption)])
           | rfl)
    · refine TGo.il dX0_talk_20 rfl ?_
      refine TGo.bip 10 dX0_talk_22 (by decide) ?_
      refine TGo.bip 99 dX0_talk_24 (by decide) ?_
      refine TGo.cF (csS3 (y2 := mX0_in) 1 rfl dX0_talk_26 q598 q599 okX0_in npX0_in rfl rfl) (kX0_in (by omega) (by omega) (by omega)) ?_
      refine TGo.ifb_ne 34 dX0_talk_29 (by decide) (fun h29 => ?_) (fun h29 => ?_)
      · have hcf : ∀ r, 0 ≤ r → r < 36 → cOK ((fun r => z.2 3 (298 + 36 * a + r)) r) := fun r h0 h1 => W.2.2.2.2.2.1 a r (by omega) (by omega) h0 h1
        have hcg : ∀ r, 0 ≤ r → r < 36 → cOK ((fun r => z.2 3 (298 + 36 * b + r)) r) := fun r h0 h1 => W.2.2.2.2.2.1 b r (by omega) (by omega) h0 h1
        refine TGo.al0 dX0_talk_34 rfl ?_
        refine TGo.getS (t := 8) 12 12 (B + 48) (hB 0 (by decide)) rfl fgX0_61_0 dX0_talk_35 rfl rfl rfl ?_
        refine TGo.al0 dX0_talk_38 rfl ?_
        refine TGo.il1 dX0_talk_39 rfl ?_
        refine TGo.callG (csV1 (y2 := mX0_scriptOf) (t := 8) 4 rfl (hB 0 (by decide)) rfl rfl dX0_talk_40 q1548 q1550 qs23 okX0_scriptOf npX0_scriptOf rfl rfl) (kX0_scriptOf hR W (v := a) (by omega)) (fun o40 sh40 nn40 V40 e40 h40 => ?_)
        obtain ⟨⟨S, rfl, ⟨vSS, vVS⟩, oSS⟩, rfl, rfl, rfl⟩ := h40
        show TGo _ _ _ _ _ _ _ _ _ _
        refine TGo.al0 dX0_talk_43 rfl ?_
        refine TGo.il2 dX0_talk_44 rfl ?_
        refine TGo.callG (csV1 (y2 := mX0_scriptOf) (t := 8) 4 rfl (hB 0 (by decide)) rfl rfl dX0_talk_45 q1548 q1550 qs23 okX0_scriptOf npX0_scriptOf rfl rfl) (kX0_scriptOf hR W (v := b) (by omega)) (fun o45 sh45 nn45 V45 e45 h45 => ?_)
        obtain ⟨⟨S2, rfl, ⟨vSS2, vVS2⟩, oSS2⟩, rfl, rfl, rfl⟩ := h45
        show TGo _ _ _ _ _ _ _ _ _ _
        refine TGo.il3 dX0_talk_48 rfl ?_
        refine TGo.cS (csV3 (y2 := mX6_goesOn) (t := 14) 2 rfl (hB 48 (by decide)) rfl rfl dX0_talk_49 q1603 q1604 q1605 okX6_goesOn npX6_goesOn rfl rfl) (kX6_goesOn hB.tk vSS vSS2 (nT hR.2.1 oSS.2.1) (nT hR.2.1 oSS.2.2) (nT hR.2.1 oSS2.2.1) (nT hR.2.1 oSS2.2.2) hcf hcg (show 0 ≤ c ∧ c < 6 by omega) vVS vVS2) (fun v49 V49 h49 => ?_)
        obtain ⟨rfl, hf49, ht49⟩ := h49
        obtain ⟨hd1, hd2, hn3⟩ := tkN_ok hcf hcg (show 0 ≤ c ∧ c < 6 by omega)
        obtain ⟨⟨ht2, ht6⟩, hE⟩ := xtalk_eq ht49 hn3
        have hE := hE w (by omega) (by omega)
        clear ht49 hn3 hd1 hd2
        refine TGo.is dX0_talk_52 rfl rfl ?_
        refine TGo.il dX0_talk_54 rfl ?_
        refine TGo.bip 10 dX0_talk_56 (by decide) ?_
        refine TGo.icmp_lt 76 dX0_talk_58 (by decide) (by omega) (fun h58 => ?_) (fun h58 => ?_)
        · refine TGo.il dX0_talk_76 rfl ?_
          refine TGo.if_ne 100 dX0_talk_78 (by decide) (by omega) (fun h78 => ?_) (fun h78 => ?_)
          · refine TGo.il dX0_talk_100 rfl ?_
            refine TGo.ifb_ne 109 dX0_talk_102 (by decide) (fun h102 => ?_) (fun h102 => ?_)
            · refine TGo.il dX0_talk_109 rfl ?_
              refine TGo.ic1 dX0_talk_111 ?_
              refine TGo.icmp_ne 125 dX0_talk_112 (by decide) (by omega) (fun h112 => ?_) (fun h112 => ?_)
              · refine TGo.al0 dX0_talk_125 rfl ?_
                refine TGo.getS (t := 8) 12 12 (B + 48) (hB 0 (by decide)) rfl fgX0_61_0 dX0_talk_126 rfl rfl rfl ?_
                refine TGo.getI (t := 14) 7 7 (hB 48 (by decide)) rfl fgX0_412_6 dX0_talk_129 rfl rfl rfl ?_
                refine TGo.iret dX0_talk_132 rfl ?_
                first
                | (exfalso; omega)
                | (refine hR.same ?_
                   unfold zp_talk
                   rw [if_pos (by omega)])
                | (refine (hR.sc (FrTk hf49)).same ?_
                   unfold zp_talk
                   rw [if_neg (by omega), hE]
                   all_goals refine congrArg (fun q => (q, z)) ?_
                   all_goals first
                   | (rw [if_pos (show w = 0 by omega)]; first | (rw [if_pos (by assumption)]) | (rw [if_neg (by assumption)]))
                   | (rw [if_neg (show ¬ w = 0 by omega), if_pos (show w = 1 by omega)]; first | (rw [if_pos (by assumption)]) | (rw [if_neg (by assumption)]))
                   | (rw [if_neg (show ¬ w = 0 by omega), if_neg (show ¬ w = 1 by omega), if_pos (show w = 2 by omega)]; first | (rw [if_pos (by assumption)]) | (rw [if_neg (by assumption)]))
                   | (rw [if_neg (show ¬ w = 0 by omega)]
                      by_cases e1 : w = 1
                      · rw [if_pos e1, if_neg (by assumption)]
                      · rw [if_neg e1, if_pos (show w = 2 by omega), if_neg (by assumption)])
                   | rfl)
              · refine TGo.al0 dX0_talk_115 rfl ?_
                refine TGo.getS (t := 8) 12 12 (B + 48) (hB 0 (by decide)) rfl fgX0_61_0 dX0_talk_116 rfl rfl rfl ?_
                refine TGo.getI (t := 14) 6 6 (hB 48 (by decide)) rfl fgX0_409_6 dX0_talk_119 rfl rfl rfl ?_
                refine TGo.goto 132 dX0_talk_122 (by decide) ?_
                refine TGo.iret dX0_talk_132 rfl ?_
                first
                | (exfalso; omega)
                | (refine hR.same ?_
                   unfold zp_talk
                   rw [if_pos (by omega)])
                | (refine (hR.sc (FrTk hf49)).same ?_
                   unfold zp_talk
                   rw [if_neg (by omega), hE]
                   all_goals refine congrArg (fun q => (q, z)) ?_
                   all_goals first
                   | (rw [if_pos (show w = 0 by omega)]; first | (rw [if_pos (by assumption)]) | (rw [if_neg (by assumption)]))
                   | (rw [if_neg (show ¬ w = 0 by omega), if_pos (show w = 1 by omega)]; first | (rw [if_pos (by assumption)]) | (rw [if_neg (by assumption)]))
                   | (rw [if_neg (show ¬ w = 0 by omega), if_neg (show ¬ w = 1 by omega), if_pos (show w = 2 by omega)]; first | (rw [if_pos (by assumption)]) | (rw [if_neg (by assumption)]))
                   | (rw [if_neg (show ¬ w = 0 by omega)]
                      by_cases e1 : w = 1
                      · rw [if_pos e1, if_neg (by assumption)]
                      · rw [if_neg e1, if_pos (show w = 2 by omega), if_neg (by assumption)])
                   | rfl)
            · refine TGo.icm1 dX0_talk_105 ?_
              refine TGo.goto 132 dX0_talk_106 (by decide) ?_
              refine TGo.iret dX0_talk_132 rfl ?_
              first
              | (exfalso; omega)
              | (refine hR.same ?_
                 unfold zp_talk
                 rw [if_pos (by omega)])
              | (refine (hR.sc (FrTk hf49)).same ?_
                 unfold zp_talk
                 rw [if_neg (by omega), hE]
                 all_goals refine congrArg (fun q => (q, z)) ?_
                 all_goals first
                 | (rw [if_pos (show w = 0 by omega)]; first | (rw [if_pos (by assumption)]) | (rw [if_neg (by assumption)]))
                 | (rw [if_neg (show ¬ w = 0 by omega), if_pos (show w = 1 by omega)]; first | (rw [if_pos (by assumption)]) | (rw [if_neg (by assumption)]))
                 | (rw [if_neg (show ¬ w = 0 by omega), if_neg (show ¬ w = 1 by omega), if_pos (show w = 2 by omega)]; first | (rw [if_pos (by assumption)]) | (rw [if_neg (by assumption)]))
                 | (rw [if_neg (show ¬ w = 0 by omega)]
                    by_cases e1 : w = 1
                    · rw [if_pos e1, if_neg (by assumption)]
                    · rw [if_neg e1, if_pos (show w = 2 by omega), if_neg (by assumption)])
                 | rfl)
          · refine TGo.il dX0_talk_81 rfl ?_
            refine TGo.ifb_eq 90 dX0_talk_83 (by decide) (fun h83 => ?_) (fun h83 => ?_)
            · refine TGo.al0 dX0_talk_90 rfl ?_
              refine TGo.getS (t := 8) 12 12 (B + 48) (hB 0 (by decide)) rfl fgX0_61_0 dX0_talk_91 rfl rfl rfl ?_
              refine TGo.getI (t := 14) 2 2 (hB 48 (by decide)) rfl fgX0_407_6 dX0_talk_94 rfl rfl rfl ?_
              refine TGo.goto 132 dX0_talk_97 (by decide) ?_
              refine TGo.iret dX0_talk_132 rfl ?_
              first
              | (exfalso; omega)
              | (refine hR.same ?_
                 unfold zp_talk
                 rw [if_pos (by omega)])
              | (refine (hR.sc (FrTk hf49)).same ?_
                 unfold zp_talk
                 rw [if_neg (by omega), hE]
                 all_goals refine congrArg (fun q => (q, z)) ?_
                 all_goals first
                 | (rw [if_pos (show w = 0 by omega)]; first | (rw [if_pos (by assumption)]) | (rw [if_neg (by assumption)]))
                 | (rw [if_neg (show ¬ w = 0 by omega), if_pos (show w = 1 by omega)]; first | (rw [if_pos (by assumption)]) | (rw [if_neg (by assumption)]))
                 | (rw [if_neg (show ¬ w = 0 by omega), if_neg (show ¬ w = 1 by omega), if_pos (show w = 2 by omega)]; first | (rw [if_pos (by assumption)]) | (rw [if_neg (by assumption)]))
                 | (rw [if_neg (show ¬ w = 0 by omega)]
                    by_cases e1 : w = 1
                    · rw [if_pos e1, if_neg (by assumption)]
                    · rw [if_neg e1, if_pos (show w = 2 by omega), if_neg (by assumption)])
                 | rfl)
            · refine TGo.icm1 dX0_talk_86 ?_
              refine TGo.goto 132 dX0_talk_87 (by decide) ?_
              refine TGo.iret dX0_talk_132 rfl ?_
              first
              | (exfalso; omega)
              | (refine hR.same ?_
                 unfold zp_talk
                 rw [if_pos (by omega)])
              | (refine (hR.sc (FrTk hf49)).same ?_
                 unfold zp_talk
                 rw [if_neg (by omega), hE]
                 all_goals refine congrArg (fun q => (q, z)) ?_
                 all_goals first
                 | (rw [if_pos (show w = 0 by omega)]; first | (rw [if_pos (by assumption)]) | (rw [if_neg (by assumption)]))
                 | (rw [if_neg (show ¬ w = 0 by omega), if_pos (show w = 1 by omega)]; first | (rw [if_pos (by assumption)]) | (rw [if_neg (by assumption)]))
                 | (rw [if_neg (show ¬ w = 0 by omega), if_neg (show ¬ w = 1 by omega), if_pos (show w = 2 by omega)]; first | (rw [if_pos (by assumption)]) | (rw [if_neg (by assumption)]))
                 | (rw [if_neg (show ¬ w = 0 by omega)]
                    by_cases e1 : w = 1
                    · rw [if_pos e1, if_neg (by assumption)]
                    · rw [if_neg e1, if_pos (show w = 2 by omega), if_neg (by assumption)])
                 | rfl)
        · have hw3 : ¬ w = 0 ∧ ¬ w = 1 ∧ ¬ w = 2 := by omega
          rw [if_neg hw3.1, if_neg hw3.2.1, if_neg hw3.2.2] at hE
          refine TGo.al0 dX0_talk_61 rfl ?_
          refine TGo.getS (t := 8) 12 12 (B + 48) (hB 0 (by decide)) rfl fgX0_61_0 dX0_talk_62 rfl rfl rfl ?_
          refine TGo.il dX0_talk_65 rfl ?_
          refine TGo.il dX0_talk_67 rfl ?_
          refine TGo.bip 10 dX0_talk_69 (by decide) ?_
          refine TGo.isub dX0_talk_71 ?_
          refine TGo.cF (csV2 (y2 := mX6_word) (t := 14) 1 rfl (hB 48 (by decide)) rfl rfl dX0_talk_72 q1608 q1609 q1610 okX6_word npX6_word rfl rfl) (kX6_word hB.tk (W := tkW (fun r => z.2 3 (298 + 36 * a + r)) (fun r => z.2 3 (298 + 36 * b + r)) c) ht2 ht6 (by omega) (by omega)) ?_
          refine TGo.iret dX0_talk_75 rfl ?_
          first
          | (exfalso; omega)
          | (refine hR.same ?_
             unfold zp_talk
             rw [if_pos (by omega)])
          | (refine (hR.sc (FrTk hf49)).same ?_
             unfold zp_talk
             rw [if_neg (by omega), hE]
             all_goals refine congrArg (fun q => (q, z)) ?_
             all_goals first
             | (rw [if_pos (show w = 0 by omega)]; first | (rw [if_pos (by assumption)]) | (rw [if_neg (by assumption)]))
             | (rw [if_neg (show ¬ w = 0 by omega), if_pos (show w = 1 by omega)]; first | (rw [if_pos (by assumption)]) | (rw [if_neg (by assumption)]))
             | (rw [if_neg (show ¬ w = 0 by omega), if_neg (show ¬ w = 1 by omega), if_pos (show w = 2 by omega)]; first | (rw [if_pos (by assumption)]) | (rw [if_neg (by assumption)]))
             | (rw [if_neg (show ¬ w = 0 by omega)]
                by_cases e1 : w = 1
                · rw [if_pos e1, if_neg (by assumption)]
                · rw [if_neg e1, if_pos (show w = 2 by omega), if_neg (by assumption)])
             | rfl)
      · refine TGo.icm1 dX0_talk_32 ?_
        refine TGo.iret dX0_talk_33 rfl ?_
        first
        | (exfalso; omega)
        | (refine hR.same ?_
           unfold zp_talk
           rw [if_pos (by omega)])
        | (refine (hR.sc (FrTk hf49)).same ?_
           unfold zp_talk
           rw [if_neg (by omega), hE]
           all_goals refine congrArg (fun q => (q, z)) ?_
           all_goals first
           | (rw [if_pos (show w = 0 by omega)]; first | (rw [if_pos (by assumption)]) | (rw [if_neg (by assumption)]))
           | (rw [if_neg (show ¬ w = 0 by omega), if_pos (show w = 1 by omega)]; first | (rw [if_pos (by assumption)]) | (rw [if_neg (by assumption)]))
           | (rw [if_neg (show ¬ w = 0 by omega), if_neg (show ¬ w = 1 by omega), if_pos (show w = 2 by omega)]; first | (rw [if_pos (by assumption)]) | (rw [if_neg (by assumption)]))
           | (rw [if_neg (show ¬ w = 0 by omega)]
              by_cases e1 : w = 1
              · rw [if_pos e1, if_neg (by assumption)]
              · rw [if_neg e1, if_pos (show w = 2 by omega), if_neg (by assumption)])
           | rfl)
theorem ScV.set {V : VT} {S : Nat} {g : Int → Int} {p k : Int} (h : ScV V S g) (hk : 0 ≤ k) : ScV (vI (vI V (S + 1) p (k / 6)) (S + 2) p (k % 6)) S (fun r => if r = p then k else g r) := fun r r0 r1 => by
  show u2 (u2 V.1 (S + 1) p (k / 6)) (S + 2) p (k % 6) (S + 1) r = wZ (if r = p then k else g r) ∧ ((if r = p then k else g r) ≠ -1 → u2 (u2 V.1 (S + 1) p (k / 6)) (S + 2) p (k % 6) (S + 2) r = nZ (if r = p then k else g r))
  by_cases e : r = p
  · rw [if_pos e, e, u2_s, u2_n (Or.inl (by omega)), u2_s]
    unfold wZ nZ
    rw [if_neg (by omega), if_neg (by omega)]
    exact ⟨rfl, fun _ => rfl⟩
  · rw [if_neg e, u2_n (Or.inr e), u2_n (Or.inr e), u2_n (Or.inr e), u2_n (Or.inr e)]
    exact h r r0 r1
theorem ScV.i1 {V : VT} {S a : Nat} {g : Int → Int} {k v : Int} (h : ScV V S g) (h1 : S + 1 ≠ a) (h2 : S + 2 ≠ a) : ScV (vI V a k v) S g := fun r r0 r1 => by
  show u2 V.1 a k v (S + 1) r = wZ (g r) ∧ (g r ≠ -1 → u2 V.1 a k v (S + 2) r = nZ (g r))
  rw [u2_n (Or.inl h1), u2_n (Or.inl h2)]; exact h r r0 r1
theorem zaF {z : ZT} {M k a r : Int} : (za z 3 M k).2 3 (298 + 36 * a + r) = if 298 + 36 * a + r = M then k else z.2 3 (298 + 36 * a + r) := by
  show u2 z.2 3 M k 3 (298 + 36 * a + r) = _
  by_cases e : 298 + 36 * a + r = M
  · rw [if_pos e, e, u2_s]
  · rw [if_neg e, u2_n (Or.inr e)]
theorem mdZ_0 (z : ZT) (a b c p : Int) : ∀ k : Nat, (mdZ z a b c p k).1 = 0 ↔ (mdZ z a b c p k).2 = -1 := by
  intro k
  induction k with
  | zero => exact ⟨fun _ => rfl, fun _ => rfl⟩
  | succ k ih =>
    have h0 : 0 ≤ (mdZ z a b c p k).1 := by
      clear ih
      induction k with
      | zero => exact Int.le_refl _
      | succ k ih => rw [mdZ]; split <;> (try simp only) <;> omega
    rw [mdZ]
    split
    · simp only
      split <;> omega
    · exact ih
set_option maxHeartbeats 4000000 in
theorem kX0_isMended {E : ET} {sh : SHT} {nn : Nat × Nat} {V : VT} {B : Nat} {ow : Nat → Nat} {z : ZT} {a b c p t k : Int} (hR : XR ow sh nn V B z) (W : RWZ (z.2 3)) (ha : 0 ≤ a ∧ a < z.2 3 2) (hb : 0 ≤ b ∧ b < z.2 3 2) (hc0 : 0 ≤ c ∧ c < 6) (hp : 0 ≤ p ∧ p < 36) (ht : t = 0 ∨ t = 1) (rk : 0 ≤ k ∧ k < 60) {M : Int} (hM0 : t = 0 → M = 298 + 36 * a + p) (hM1 : t = 1 → M = 298 + 36 * b + p) : TS E mX0_isMended 5 [.ref B, .int (iI a), .int (iI b), .int (iI c), .int (iI p), .int (iI t), .int (iI k)] sh nn V (fun v V' => v = .int (iI (bZ (tkW (fun r => (za z 3 M k).2 3 (298 + 36 * a + r)) (fun r => (za z 3 M k).2 3 (298 + 36 * b + r)) c ≠ -1))) ∧ XR ow sh nn V' B z) := by
  obtain ⟨hB, how, hc, -⟩ := id hR
  have w2 := W.1.2.2.1
  have hF : ScS sh (B + 42) := ⟨hB 42 (by decide), hB 43 (by decide), hB 44 (by decide)⟩
  have hO : ScS sh (B + 45) := ⟨hB 45 (by decide), hB 46 (by decide), hB 47 (by decide)⟩
  refine TC.intro [some (.ref B), some (.int (iI a)), some (.int (iI b)), some (.int (iI c)), some (.int (iI p)), some (.int (iI t)), some (.int (iI k))] rfl ?_
  refine TGo.al0 dX0_isMended_0 rfl ?_
  refine TGo.getS (t := 8) 10 10 (B + 42) (hB 0 (by decide)) rfl fgX0_51_0 dX0_isMended_1 rfl rfl rfl ?_
  refine TGo.al0 dX0_isMended_4 rfl ?_
  refine TGo.il1 dX0_isMended_5 rfl ?_
  refine TGo.callG (csV1 (y2 := mX0_scriptOf) (t := 8) 4 rfl (hB 0 (by decide)) rfl rfl dX0_isMended_6 q1548 q1550 qs23 okX0_scriptOf npX0_scriptOf rfl rfl) (kX0_scriptOf hR W (v := a) (by omega)) (fun o6 sh6 nn6 V6 e6 h6 => ?_)
  obtain ⟨⟨S, rfl, ⟨vSS, vVS⟩, oSS⟩, rfl, rfl, rfl⟩ := h6
  show TGo _ _ _ _ _ _ _ _ _ _
  refine TGo.cN (csV1 (y2 := mX2_takes) (t := 10) 1 rfl (hB 42 (by decide)) rfl rfl dX0_isMended_9 q1594 q610 q611 okX2_takes npX2_takes rfl rfl) (kX2_takes hF vSS (by have q := hR.2.1 43 (by decide); have q2 := hR.2.1 44 (by decide); refine ⟨fun e => ?_, fun e => ?_, fun e => ?_⟩ <;> (first | (rw [show B + 43 = S + 1 from e] at q; omega) | (rw [show B + 43 = S + 2 from e] at q; omega) | (rw [show B + 43 = S + 2 from e.symm] at q; omega)))) (fun V9 h9 => ?_)
  have hS9 : FrS B _ V9 := fun b hb => h9.1 b (hb 43 (by omega)) (hb 44 (by omega))
  have hF9 := h9.2 _ vVS
  have hR9 := hR.sc hS9
  refine TGo.al0 dX0_isMended_12 rfl ?_
  refine TGo.getS (t := 8) 11 11 (B + 45) (hB 0 (by decide)) rfl fgX0_55_0 dX0_isMended_13 rfl rfl rfl ?_
  refine TGo.al0 dX0_isMended_16 rfl ?_
  refine TGo.il2 dX0_isMended_17 rfl ?_
  refine TGo.callG (csV1 (y2 := mX0_scriptOf) (t := 8) 4 rfl (hB 0 (by decide)) rfl rfl dX0_isMended_18 q1548 q1550 qs23 okX0_scriptOf npX0_scriptOf rfl rfl) (kX0_scriptOf hR9 W (v := b) (by omega)) (fun o18 sh18 nn18 V18 e18 h18 => ?_)
  obtain ⟨⟨S2, rfl, ⟨vSS2, vVS2⟩, oSS2⟩, rfl, rfl, rfl⟩ := h18
  show TGo _ _ _ _ _ _ _ _ _ _
  refine TGo.cN (csV1 (y2 := mX2_takes) (t := 10) 1 rfl (hB 45 (by decide)) rfl rfl dX0_isMended_21 q1594 q610 q611 okX2_takes npX2_takes rfl rfl) (kX2_takes hO vSS2 (by have q := hR.2.1 46 (by decide); have q2 := hR.2.1 47 (by decide); refine ⟨fun e => ?_, fun e => ?_, fun e => ?_⟩ <;> (first | (rw [show B + 46 = S2 + 1 from e] at q; omega) | (rw [show B + 46 = S2 + 2 from e] at q; omega) | (rw [show B + 46 = S2 + 2 from e.symm] at q; omega)))) (fun V21 h21 => ?_)
  have hS21 : FrS B _ V21 := hS9.tr (fun b hb => h21.1 b (hb 46 (by omega)) (hb 47 (by omega)))
  have hO21 := h21.2 _ vVS2
  have hF21 : ScV V21 (B + 42) (fun r => z.2 3 (298 + 36 * a + r)) := fun r r0 r1 => by
    rw [(h21.1 (B + 42 + 1) (by omega) (by omega)).1, (h21.1 (B + 42 + 2) (by omega) (by omega)).1]; exact hF9 r r0 r1
  refine TGo.il dX0_isMended_24 rfl ?_
  refine TGo.if_eq 34 dX0_isMended_26 (by decide) (by omega) (fun h26 => ?_) (fun h26 => ?_)
  · refine TGo.al0 dX0_isMended_34 rfl ?_
    refine TGo.getS (t := 8) 10 10 (B + 42) (hB 0 (by decide)) rfl fgX0_51_0 dX0_isMended_35 rfl rfl rfl ?_
    refine TGo.il dX0_isMended_38 rfl ?_
    refine TGo.il dX0_isMended_40 rfl ?_
    refine TGo.bip 6 dX0_isMended_42 (by decide) ?_
    refine TGo.idiv dX0_isMended_44 (by omega) ?_
    refine TGo.il dX0_isMended_45 rfl ?_
    refine TGo.bip 6 dX0_isMended_47 (by decide) ?_
    refine TGo.irem dX0_isMended_49 (by omega) ?_
    refine TGo.cWn (csV3 (y2 := mX2_says) (t := 10) 1 rfl (hB 42 (by decide)) rfl rfl dX0_isMended_50 q725 q726 q727 okX2_says npX2_says rfl rfl) (kX2_says hF (by omega)) ?_
    
    refine TGo.il dX0_isMended_53 rfl ?_
    refine TGo.ic1 dX0_isMended_55 ?_
    refine TGo.icmp_eq 64 dX0_isMended_56 (by decide) (by omega) (fun h56 => ?_) (fun h56 => ?_)
    · refine TGo.al0 dX0_isMended_64 rfl ?_
      refine TGo.getS (t := 8) 11 11 (B + 45) (hB 0 (by decide)) rfl fgX0_55_0 dX0_isMended_65 rfl rfl rfl ?_
      refine TGo.il dX0_isMended_68 rfl ?_
      refine TGo.il dX0_isMended_70 rfl ?_
      refine TGo.bip 6 dX0_isMended_72 (by decide) ?_
      refine TGo.idiv dX0_isMended_74 (by omega) ?_
      refine TGo.il dX0_isMended_75 rfl ?_
      refine TGo.bip 6 dX0_isMended_77 (by decide) ?_
      refine TGo.irem dX0_isMended_79 (by omega) ?_
      refine TGo.cWn (csV3 (y2 := mX2_says) (t := 10) 1 rfl (hB 45 (by decide)) rfl rfl dX0_isMended_80 q725 q726 q727 okX2_says npX2_says rfl rfl) (kX2_says hO (by omega)) ?_
      
      refine TGo.al0 dX0_isMended_83 rfl ?_
      refine TGo.getS (t := 8) 12 12 (B + 48) (hB 0 (by decide)) rfl fgX0_61_0 dX0_isMended_84 rfl rfl rfl ?_
      refine TGo.al0 dX0_isMended_87 rfl ?_
      refine TGo.getS (t := 8) 10 10 (B + 42) (hB 0 (by decide)) rfl fgX0_51_0 dX0_isMended_88 rfl rfl rfl ?_
      refine TGo.al0 dX0_isMended_91 rfl ?_
      refine TGo.getS (t := 8) 11 11 (B + 45) (hB 0 (by decide)) rfl fgX0_55_0 dX0_isMended_92 rfl rfl rfl ?_
      refine TGo.il3 dX0_isMended_95 rfl ?_
      refine TGo.cS (csV3 (y2 := mX6_goesOn) (t := 14) 2 rfl (hB 48 (by decide)) rfl rfl dX0_isMended_96 q1603 q1604 q1605 okX6_goesOn npX6_goesOn rfl rfl) (kX6_goesOn (f := (fun r => (za z 3 M k).2 3 (298 + 36 * a + r))) (g := (fun r => (za z 3 M k).2 3 (298 + 36 * b + r))) hB.tk hF hO (by simp) (by simp) (by simp) (by simp) (za_cOK W (p := M) ha (show cOK k by omega)) (za_cOK W (p := M) hb (show cOK k by omega)) hc0 (((((hF21.set (p := p) rk.1)).i1 (by omega) (by omega)).i1 (by omega) (by omega)).cg (fun r r0 r1 => by
        show (za z 3 M k).2 3 (298 + 36 * a + r) = _
        rw [zaF]
        try simp only
        first
        | (exfalso; omega)
        | (by_cases e : r = p
           · first
             | (rw [if_pos e, if_pos (by omega)])
             | (rw [if_neg (by omega)])
           · first
             | (rw [if_neg e, if_neg (by omega)])
             | (rw [if_neg (by omega)])))) ((((hO21.i1 (by omega) (by omega)).i1 (by omega) (by omega)).set (p := p) rk.1).cg (fun r r0 r1 => by
        show (za z 3 M k).2 3 (298 + 36 * b + r) = _
        rw [zaF]
        try simp only
        first
        | (exfalso; omega)
        | (by_cases e : r = p
           · first
             | (rw [if_pos e, if_pos (by omega)])
             | (rw [if_neg (by omega)])
           · first
             | (rw [if_neg e, if_neg (by omega)])
             | (rw [if_neg (by omega)]))))) (fun v96 V96 h96 => ?_)
      obtain ⟨rfl, hf96, ht96⟩ := h96
      refine TGo.zret dX0_isMended_99 rfl (by first | exact Or.inl rfl | exact Or.inr rfl | exact bZ_or _ | assumption) ?_
      exact ⟨_, rfl, rfl, rfl, rfl, hR.sc (((((hS21.i 43 (by omega)).i 44 (by omega)).i 46 (by omega)).i 47 (by omega)).tr (FrTk hf96))⟩
    · refine TGo.il1 dX0_isMended_59 rfl ?_
      refine TGo.il2 dX0_isMended_60 rfl ?_
      refine TGo.icmp_ne 83 dX0_isMended_61 (by decide) (by omega) (fun h61 => ?_) (fun h61 => ?_)
      · refine TGo.al0 dX0_isMended_83 rfl ?_
        refine TGo.getS (t := 8) 12 12 (B + 48) (hB 0 (by decide)) rfl fgX0_61_0 dX0_isMended_84 rfl rfl rfl ?_
        refine TGo.al0 dX0_isMended_87 rfl ?_
        refine TGo.getS (t := 8) 10 10 (B + 42) (hB 0 (by decide)) rfl fgX0_51_0 dX0_isMended_88 rfl rfl rfl ?_
        refine TGo.al0 dX0_isMended_91 rfl ?_
        refine TGo.getS (t := 8) 11 11 (B + 45) (hB 0 (by decide)) rfl fgX0_55_0 dX0_isMended_92 rfl rfl rfl ?_
        refine TGo.il3 dX0_isMended_95 rfl ?_
        refine TGo.cS (csV3 (y2 := mX6_goesOn) (t := 14) 2 rfl (hB 48 (by decide)) rfl rfl dX0_isMended_96 q1603 q1604 q1605 okX6_goesOn npX6_goesOn rfl rfl) (kX6_goesOn (f := (fun r => (za z 3 M k).2 3 (298 + 36 * a + r))) (g := (fun r => (za z 3 M k).2 3 (298 + 36 * b + r))) hB.tk hF hO (by simp) (by simp) (by simp) (by simp) (za_cOK W (p := M) ha (show cOK k by omega)) (za_cOK W (p := M) hb (show cOK k by omega)) hc0 (((hF21.set (p := p) rk.1)).cg (fun r r0 r1 => by
          show (za z 3 M k).2 3 (298 + 36 * a + r) = _
          rw [zaF]
          try simp only
          first
          | (exfalso; omega)
          | (by_cases e : r = p
             · first
               | (rw [if_pos e, if_pos (by omega)])
               | (rw [if_neg (by omega)])
             · first
               | (rw [if_neg e, if_neg (by omega)])
               | (rw [if_neg (by omega)])))) (((hO21.i1 (by omega) (by omega)).i1 (by omega) (by omega)).cg (fun r r0 r1 => by
          show (za z 3 M k).2 3 (298 + 36 * b + r) = _
          rw [zaF]
          try simp only
          first
          | (exfalso; omega)
          | (by_cases e : r = p
             · first
               | (rw [if_pos e, if_pos (by omega)])
               | (rw [if_neg (by omega)])
             · first
               | (rw [if_neg e, if_neg (by omega)])
               | (rw [if_neg (by omega)]))))) (fun v96 V96 h96 => ?_)
        obtain ⟨rfl, hf96, ht96⟩ := h96
        refine TGo.zret dX0_isMended_99 rfl (by first | exact Or.inl rfl | exact Or.inr rfl | exact bZ_or _ | assumption) ?_
        exact ⟨_, rfl, rfl, rfl, rfl, hR.sc (((hS21.i 43 (by omega)).i 44 (by omega)).tr (FrTk hf96))⟩
      · refine TGo.al0 dX0_isMended_64 rfl ?_
        refine TGo.getS (t := 8) 11 11 (B + 45) (hB 0 (by decide)) rfl fgX0_55_0 dX0_isMended_65 rfl rfl rfl ?_
        refine TGo.il dX0_isMended_68 rfl ?_
        refine TGo.il dX0_isMended_70 rfl ?_
        refine TGo.bip 6 dX0_isMended_72 (by decide) ?_
        refine TGo.idiv dX0_isMended_74 (by omega) ?_
        refine TGo.il dX0_isMended_75 rfl ?_
        refine TGo.bip 6 dX0_isMended_77 (by decide) ?_
        refine TGo.irem dX0_isMended_79 (by omega) ?_
        refine TGo.cWn (csV3 (y2 := mX2_says) (t := 10) 1 rfl (hB 45 (by decide)) rfl rfl dX0_isMended_80 q725 q726 q727 okX2_says npX2_says rfl rfl) (kX2_says hO (by omega)) ?_
        
        refine TGo.al0 dX0_isMended_83 rfl ?_
        refine TGo.getS (t := 8) 12 12 (B + 48) (hB 0 (by decide)) rfl fgX0_61_0 dX0_isMended_84 rfl rfl rfl ?_
        refine TGo.al0 dX0_isMended_87 rfl ?_
        refine TGo.getS (t := 8) 10 10 (B + 42) (hB 0 (by decide)) rfl fgX0_51_0 dX0_isMended_88 rfl rfl rfl ?_
        refine TGo.al0 dX0_isMended_91 rfl ?_
        refine TGo.getS (t := 8) 11 11 (B + 45) (hB 0 (by decide)) rfl fgX0_55_0 dX0_isMended_92 rfl rfl rfl ?_
        refine TGo.il3 dX0_isMended_95 rfl ?_
        refine TGo.cS (csV3 (y2 := mX6_goesOn) (t := 14) 2 rfl (hB 48 (by decide)) rfl rfl dX0_isMended_96 q1603 q1604 q1605 okX6_goesOn npX6_goesOn rfl rfl) (kX6_goesOn (f := (fun r => (za z 3 M k).2 3 (298 + 36 * a + r))) (g := (fun r => (za z 3 M k).2 3 (298 + 36 * b + r))) hB.tk hF hO (by simp) (by simp) (by simp) (by simp) (za_cOK W (p := M) ha (show cOK k by omega)) (za_cOK W (p := M) hb (show cOK k by omega)) hc0 (((((hF21.set (p := p) rk.1)).i1 (by omega) (by omega)).i1 (by omega) (by omega)).cg (fun r r0 r1 => by
          show (za z 3 M k).2 3 (298 + 36 * a + r) = _
          rw [zaF]
          try simp only
          first
          | (exfalso; omega)
          | (by_cases e : r = p
             · first
               | (rw [if_pos e, if_pos (by omega)])
               | (rw [if_neg (by omega)])
             · first
               | (rw [if_neg e, if_neg (by omega)])
               | (rw [if_neg (by omega)])))) ((((hO21.i1 (by omega) (by omega)).i1 (by omega) (by omega)).set (p := p) rk.1).cg (fun r r0 r1 => by
          show (za z 3 M k).2 3 (298 + 36 * b + r) = _
          rw [zaF]
          try simp only
          first
          | (exfalso; omega)
          | (by_cases e : r = p
             · first
               | (rw [if_pos e, if_pos (by omega)])
               | (rw [if_neg (by omega)])
             · first
               | (rw [if_neg e, if_neg (by omega)])
               | (rw [if_neg (by omega)]))))) (fun v96 V96 h96 => ?_)
        obtain ⟨rfl, hf96, ht96⟩ := h96
        refine TGo.zret dX0_isMended_99 rfl (by first | exact Or.inl rfl | exact Or.inr rfl | exact bZ_or _ | assumption) ?_
        exact ⟨_, rfl, rfl, rfl, rfl, hR.sc (((((hS21.i 43 (by omega)).i 44 (by omega)).i 46 (by omega)).i 47 (by omega)).tr (FrTk hf96))⟩
  · refine TGo.il1 dX0_isMended_29 rfl ?_
    refine TGo.il2 dX0_isMended_30 rfl ?_
    refine TGo.icmp_ne 53 dX0_isMended_31 (by decide) (by omega) (fun h31 => ?_) (fun h31 => ?_)
    · refine TGo.il dX0_isMended_53 rfl ?_
      refine TGo.ic1 dX0_isMended_55 ?_
      refine TGo.icmp_eq 64 dX0_isMended_56 (by decide) (by omega) (fun h56 => ?_) (fun h56 => ?_)
      · refine TGo.al0 dX0_isMended_64 rfl ?_
        refine TGo.getS (t := 8) 11 11 (B + 45) (hB 0 (by decide)) rfl fgX0_55_0 dX0_isMended_65 rfl rfl rfl ?_
        refine TGo.il dX0_isMended_68 rfl ?_
        refine TGo.il dX0_isMended_70 rfl ?_
        refine TGo.bip 6 dX0_isMended_72 (by decide) ?_
        refine TGo.idiv dX0_isMended_74 (by omega) ?_
        refine TGo.il dX0_isMended_75 rfl ?_
        refine TGo.bip 6 dX0_isMended_77 (by decide) ?_
        refine TGo.irem dX0_isMended_79 (by omega) ?_
        refine TGo.cWn (csV3 (y2 := mX2_says) (t := 10) 1 rfl (hB 45 (by decide)) rfl rfl dX0_isMended_80 q725 q726 q727 okX2_says npX2_says rfl rfl) (kX2_says hO (by omega)) ?_
        
        refine TGo.al0 dX0_isMended_83 rfl ?_
        refine TGo.getS (t := 8) 12 12 (B + 48) (hB 0 (by decide)) rfl fgX0_61_0 dX0_isMended_84 rfl rfl rfl ?_
        refine TGo.al0 dX0_isMended_87 rfl ?_
        refine TGo.getS (t := 8) 10 10 (B + 42) (hB 0 (by decide)) rfl fgX0_51_0 dX0_isMended_88 rfl rfl rfl ?_
        refine TGo.al0 dX0_isMended_91 rfl ?_
        refine TGo.getS (t := 8) 11 11 (B + 45) (hB 0 (by decide)) rfl fgX0_55_0 dX0_isMended_92 rfl rfl rfl ?_
        refine TGo.il3 dX0_isMended_95 rfl ?_
        refine TGo.cS (csV3 (y2 := mX6_goesOn) (t := 14) 2 rfl (hB 48 (by decide)) rfl rfl dX0_isMended_96 q1603 q1604 q1605 okX6_goesOn npX6_goesOn rfl rfl) (kX6_goesOn (f := (fun r => (za z 3 M k).2 3 (298 + 36 * a + r))) (g := (fun r => (za z 3 M k).2 3 (298 + 36 * b + r))) hB.tk hF hO (by simp) (by simp) (by simp) (by simp) (za_cOK W (p := M) ha (show cOK k by omega)) (za_cOK W (p := M) hb (show cOK k by omega)) hc0 (((hF21.i1 (by omega) (by omega)).i1 (by omega) (by omega)).cg (fun r r0 r1 => by
          show (za z 3 M k).2 3 (298 + 36 * a + r) = _
          rw [zaF]
          try simp only
          first
          | (exfalso; omega)
          | (by_cases e : r = p
             · first
               | (rw [if_pos e, if_pos (by omega)])
               | (rw [if_neg (by omega)])
             · first
               | (rw [if_neg e, if_neg (by omega)])
               | (rw [if_neg (by omega)])))) ((hO21.set (p := p) rk.1).cg (fun r r0 r1 => by
          show (za z 3 M k).2 3 (298 + 36 * b + r) = _
          rw [zaF]
          try simp only
          first
          | (exfalso; omega)
          | (by_cases e : r = p
             · first
               | (rw [if_pos e, if_pos (by omega)])
               | (rw [if_neg (by omega)])
             · first
               | (rw [if_neg e, if_neg (by omega)])
               | (rw [if_neg (by omega)]))))) (fun v96 V96 h96 => ?_)
        obtain ⟨rfl, hf96, ht96⟩ := h96
        refine TGo.zret dX0_isMended_99 rfl (by first | exact Or.inl rfl | exact Or.inr rfl | exact bZ_or _ | assumption) ?_
        exact ⟨_, rfl, rfl, rfl, rfl, hR.sc (((hS21.i 46 (by omega)).i 47 (by omega)).tr (FrTk hf96))⟩
      · refine TGo.il1 dX0_isMended_59 rfl ?_
        refine TGo.il2 dX0_isMended_60 rfl ?_
        refine TGo.icmp_ne 83 dX0_isMended_61 (by decide) (by omega) (fun h61 => ?_) (fun h61 => ?_)
        · refine TGo.al0 dX0_isMended_83 rfl ?_
          refine TGo.getS (t := 8) 12 12 (B + 48) (hB 0 (by decide)) rfl fgX0_61_0 dX0_isMended_84 rfl rfl rfl ?_
          refine TGo.al0 dX0_isMended_87 rfl ?_
          refine TGo.getS (t := 8) 10 10 (B + 42) (hB 0 (by decide)) rfl fgX0_51_0 dX0_isMended_88 rfl rfl rfl ?_
          refine TGo.al0 dX0_isMended_91 rfl ?_
          refine TGo.getS (t := 8) 11 11 (B + 45) (hB 0 (by decide)) rfl fgX0_55_0 dX0_isMended_92 rfl rfl rfl ?_
          refine TGo.il3 dX0_isMended_95 rfl ?_
          refine TGo.cS (csV3 (y2 := mX6_goesOn) (t := 14) 2 rfl (hB 48 (by decide)) rfl rfl dX0_isMended_96 q1603 q1604 q1605 okX6_goesOn npX6_goesOn rfl rfl) (kX6_goesOn (f := (fun r => (za z 3 M k).2 3 (298 + 36 * a + r))) (g := (fun r => (za z 3 M k).2 3 (298 + 36 * b + r))) hB.tk hF hO (by simp) (by simp) (by simp) (by simp) (za_cOK W (p := M) ha (show cOK k by omega)) (za_cOK W (p := M) hb (show cOK k by omega)) hc0 (hF21.cg (fun r r0 r1 => by
            show (za z 3 M k).2 3 (298 + 36 * a + r) = _
            rw [zaF]
            try simp only
            first
            | (exfalso; omega)
            | (by_cases e : r = p
               · first
                 | (rw [if_pos e, if_pos (by omega)])
                 | (rw [if_neg (by omega)])
               · first
                 | (rw [if_neg e, if_neg (by omega)])
                 | (rw [if_neg (by omega)])))) (hO21.cg (fun r r0 r1 => by
            show (za z 3 M k).2 3 (298 + 36 * b + r) = _
            rw [zaF]
            try simp only
            first
            | (exfalso; omega)
            | (by_cases e : r = p
               · first
                 | (rw [if_pos e, if_pos (by omega)])
                 | (rw [if_neg (by omega)])
               · first
                 | (rw [if_neg e, if_neg (by omega)])
                 | (rw [if_neg (by omega)]))))) (fun v96 V96 h96 => ?_)
          obtain ⟨rfl, hf96, ht96⟩ := h96
          refine TGo.zret dX0_isMended_99 rfl (by first | exact Or.inl rfl | exact Or.inr rfl | exact bZ_or _ | assumption) ?_
          exact ⟨_, rfl, rfl, rfl, rfl, hR.sc (hS21.tr (FrTk hf96))⟩
        · refine TGo.al0 dX0_isMended_64 rfl ?_
          refine TGo.getS (t := 8) 11 11 (B + 45) (hB 0 (by decide)) rfl fgX0_55_0 dX0_isMended_65 rfl rfl rfl ?_
          refine TGo.il dX0_isMended_68 rfl ?_
          refine TGo.il dX0_isMended_70 rfl ?_
          refine TGo.bip 6 dX0_isMended_72 (by decide) ?_
          refine TGo.idiv dX0_isMended_74 (by omega) ?_
          refine TGo.il dX0_isMended_75 rfl ?_
          refine TGo.bip 6 dX0_isMended_77 (by decide) ?_
          refine TGo.irem dX0_isMended_79 (by omega) ?_
          refine TGo.cWn (csV3 (y2 := mX2_says) (t := 10) 1 rfl (hB 45 (by decide)) rfl rfl dX0_isMended_80 q725 q726 q727 okX2_says npX2_says rfl rfl) (kX2_says hO (by omega)) ?_
          
          refine TGo.al0 dX0_isMended_83 rfl ?_
          refine TGo.getS (t := 8) 12 12 (B + 48) (hB 0 (by decide)) rfl fgX0_61_0 dX0_isMended_84 rfl rfl rfl ?_
          refine TGo.al0 dX0_isMended_87 rfl ?_
          refine TGo.getS (t := 8) 10 10 (B + 42) (hB 0 (by decide)) rfl fgX0_51_0 dX0_isMended_88 rfl rfl rfl ?_
          refine TGo.al0 dX0_isMended_91 rfl ?_
          refine TGo.getS (t := 8) 11 11 (B + 45) (hB 0 (by decide)) rfl fgX0_55_0 dX0_isMended_92 rfl rfl rfl ?_
          refine TGo.il3 dX0_isMended_95 rfl ?_
          refine TGo.cS (csV3 (y2 := mX6_goesOn) (t := 14) 2 rfl (hB 48 (by decide)) rfl rfl dX0_isMended_96 q1603 q1604 q1605 okX6_goesOn npX6_goesOn rfl rfl) (kX6_goesOn (f := (fun r => (za z 3 M k).2 3 (298 + 36 * a + r))) (g := (fun r => (za z 3 M k).2 3 (298 + 36 * b + r))) hB.tk hF hO (by simp) (by simp) (by simp) (by simp) (za_cOK W (p := M) ha (show cOK k by omega)) (za_cOK W (p := M) hb (show cOK k by omega)) hc0 (((hF21.i1 (by omega) (by omega)).i1 (by omega) (by omega)).cg (fun r r0 r1 => by
            show (za z 3 M k).2 3 (298 + 36 * a + r) = _
            rw [zaF]
            try simp only
            first
            | (exfalso; omega)
            | (by_cases e : r = p
               · first
                 | (rw [if_pos e, if_pos (by omega)])
                 | (rw [if_neg (by omega)])
               · first
                 | (rw [if_neg e, if_neg (by omega)])
                 | (rw [if_neg (by omega)])))) ((hO21.set (p := p) rk.1).cg (fun r r0 r1 => by
            show (za z 3 M k).2 3 (298 + 36 * b + r) = _
            rw [zaF]
            try simp only
            first
            | (exfalso; omega)
            | (by_cases e : r = p
               · first
                 | (rw [if_pos e, if_pos (by omega)])
                 | (rw [if_neg (by omega)])
               · first
                 | (rw [if_neg e, if_neg (by omega)])
                 | (rw [if_neg (by omega)]))))) (fun v96 V96 h96 => ?_)
          obtain ⟨rfl, hf96, ht96⟩ := h96
          refine TGo.zret dX0_isMended_99 rfl (by first | exact Or.inl rfl | exact Or.inr rfl | exact bZ_or _ | assumption) ?_
          exact ⟨_, rfl, rfl, rfl, rfl, hR.sc (((hS21.i 46 (by omega)).i 47 (by omega)).tr (FrTk hf96))⟩
    · refine TGo.al0 dX0_isMended_34 rfl ?_
      refine TGo.getS (t := 8) 10 10 (B + 42) (hB 0 (by decide)) rfl fgX0_51_0 dX0_isMended_35 rfl rfl rfl ?_
      refine TGo.il dX0_isMended_38 rfl ?_
      refine TGo.il dX0_isMended_40 rfl ?_
      refine TGo.bip 6 dX0_isMended_42 (by decide) ?_
      refine TGo.idiv dX0_isMended_44 (by omega) ?_
      refine TGo.il dX0_isMended_45 rfl ?_
      refine TGo.bip 6 dX0_isMended_47 (by decide) ?_
      refine TGo.irem dX0_isMended_49 (by omega) ?_
      refine TGo.cWn (csV3 (y2 := mX2_says) (t := 10) 1 rfl (hB 42 (by decide)) rfl rfl dX0_isMended_50 q725 q726 q727 okX2_says npX2_says rfl rfl) (kX2_says hF (by omega)) ?_
      
      refine TGo.il dX0_isMended_53 rfl ?_
      refine TGo.ic1 dX0_isMended_55 ?_
      refine TGo.icmp_eq 64 dX0_isMended_56 (by decide) (by omega) (fun h56 => ?_) (fun h56 => ?_)
      · refine TGo.al0 dX0_isMended_64 rfl ?_
        refine TGo.getS (t := 8) 11 11 (B + 45) (hB 0 (by decide)) rfl fgX0_55_0 dX0_isMended_65 rfl rfl rfl ?_
        refine TGo.il dX0_isMended_68 rfl ?_
        refine TGo.il dX0_isMended_70 rfl ?_
        refine TGo.bip 6 dX0_isMended_72 (by decide) ?_
        refine TGo.idiv dX0_isMended_74 (by omega) ?_
        refine TGo.il dX0_isMended_75 rfl ?_
        refine TGo.bip 6 dX0_isMended_77 (by decide) ?_
        refine TGo.irem dX0_isMended_79 (by omega) ?_
        refine TGo.cWn (csV3 (y2 := mX2_says) (t := 10) 1 rfl (hB 45 (by decide)) rfl rfl dX0_isMended_80 q725 q726 q727 okX2_says npX2_says rfl rfl) (kX2_says hO (by omega)) ?_
        
        refine TGo.al0 dX0_isMended_83 rfl ?_
        refine TGo.getS (t := 8) 12 12 (B + 48) (hB 0 (by decide)) rfl fgX0_61_0 dX0_isMended_84 rfl rfl rfl ?_
        refine TGo.al0 dX0_isMended_87 rfl ?_
        refine TGo.getS (t := 8) 10 10 (B + 42) (hB 0 (by decide)) rfl fgX0_51_0 dX0_isMended_88 rfl rfl rfl ?_
        refine TGo.al0 dX0_isMended_91 rfl ?_
        refine TGo.getS (t := 8) 11 11 (B + 45) (hB 0 (by decide)) rfl fgX0_55_0 dX0_isMended_92 rfl rfl rfl ?_
        refine TGo.il3 dX0_isMended_95 rfl ?_
        refine TGo.cS (csV3 (y2 := mX6_goesOn) (t := 14) 2 rfl (hB 48 (by decide)) rfl rfl dX0_isMended_96 q1603 q1604 q1605 okX6_goesOn npX6_goesOn rfl rfl) (kX6_goesOn (f := (fun r => (za z 3 M k).2 3 (298 + 36 * a + r))) (g := (fun r => (za z 3 M k).2 3 (298 + 36 * b + r))) hB.tk hF hO (by simp) (by simp) (by simp) (by simp) (za_cOK W (p := M) ha (show cOK k by omega)) (za_cOK W (p := M) hb (show cOK k by omega)) hc0 (((((hF21.set (p := p) rk.1)).i1 (by omega) (by omega)).i1 (by omega) (by omega)).cg (fun r r0 r1 => by
          show (za z 3 M k).2 3 (298 + 36 * a + r) = _
          rw [zaF]
          try simp only
          first
          | (exfalso; omega)
          | (by_cases e : r = p
             · first
               | (rw [if_pos e, if_pos (by omega)])
               | (rw [if_neg (by omega)])
             · first
               | (rw [if_neg e, if_neg (by omega)])
               | (rw [if_neg (by omega)])))) ((((hO21.i1 (by omega) (by omega)).i1 (by omega) (by omega)).set (p := p) rk.1).cg (fun r r0 r1 => by
          show (za z 3 M k).2 3 (298 + 36 * b + r) = _
          rw [zaF]
          try simp only
          first
          | (exfalso; omega)
          | (by_cases e : r = p
             · first
               | (rw [if_pos e, if_pos (by omega)])
               | (rw [if_neg (by omega)])
             · first
               | (rw [if_neg e, if_neg (by omega)])
               | (rw [if_neg (by omega)]))))) (fun v96 V96 h96 => ?_)
        obtain ⟨rfl, hf96, ht96⟩ := h96
        refine TGo.zret dX0_isMended_99 rfl (by first | exact Or.inl rfl | exact Or.inr rfl | exact bZ_or _ | assumption) ?_
        exact ⟨_, rfl, rfl, rfl, rfl, hR.sc (((((hS21.i 43 (by omega)).i 44 (by omega)).i 46 (by omega)).i 47 (by omega)).tr (FrTk hf96))⟩
      · refine TGo.il1 dX0_isMended_59 rfl ?_
        refine TGo.il2 dX0_isMended_60 rfl ?_
        refine TGo.icmp_ne 83 dX0_isMended_61 (by decide) (by omega) (fun h61 => ?_) (fun h61 => ?_)
        · refine TGo.al0 dX0_isMended_83 rfl ?_
          refine TGo.getS (t := 8) 12 12 (B + 48) (hB 0 (by decide)) rfl fgX0_61_0 dX0_isMended_84 rfl rfl rfl ?_
          refine TGo.al0 dX0_isMended_87 rfl ?_
          refine TGo.getS (t := 8) 10 10 (B + 42) (hB 0 (by decide)) rfl fgX0_51_0 dX0_isMended_88 rfl rfl rfl ?_
          refine TGo.al0 dX0_isMended_91 rfl ?_
          refine TGo.getS (t := 8) 11 11 (B + 45) (hB 0 (by decide)) rfl fgX0_55_0 dX0_isMended_92 rfl rfl rfl ?_
          refine TGo.il3 dX0_isMended_95 rfl ?_
          refine TGo.cS (csV3 (y2 := mX6_goesOn) (t := 14) 2 rfl (hB 48 (by decide)) rfl rfl dX0_isMended_96 q1603 q1604 q1605 okX6_goesOn npX6_goesOn rfl rfl) (kX6_goesOn (f := (fun r => (za z 3 M k).2 3 (298 + 36 * a + r))) (g := (fun r => (za z 3 M k).2 3 (298 + 36 * b + r))) hB.tk hF hO (by simp) (by simp) (by simp) (by simp) (za_cOK W (p := M) ha (show cOK k by omega)) (za_cOK W (p := M) hb (show cOK k by omega)) hc0 (((hF21.set (p := p) rk.1)).cg (fun r r0 r1 => by
            show (za z 3 M k).2 3 (298 + 36 * a + r) = _
            rw [zaF]
            try simp only
            first
            | (exfalso; omega)
            | (by_cases e : r = p
               · first
                 | (rw [if_pos e, if_pos (by omega)])
                 | (rw [if_neg (by omega)])
               · first
                 | (rw [if_neg e, if_neg (by omega)])
                 | (rw [if_neg (by omega)])))) (((hO21.i1 (by omega) (by omega)).i1 (by omega) (by omega)).cg (fun r r0 r1 => by
            show (za z 3 M k).2 3 (298 + 36 * b + r) = _
            rw [zaF]
            try simp only
            first
            | (exfalso; omega)
            | (by_cases e : r = p
               · first
                 | (rw [if_pos e, if_pos (by omega)])
                 | (rw [if_neg (by omega)])
               · first
                 | (rw [if_neg e, if_neg (by omega)])
                 | (rw [if_neg (by omega)]))))) (fun v96 V96 h96 => ?_)
          obtain ⟨rfl, hf96, ht96⟩ := h96
          refine TGo.zret dX0_isMended_99 rfl (by first | exact Or.inl rfl | exact Or.inr rfl | exact bZ_or _ | assumption) ?_
          exact ⟨_, rfl, rfl, rfl, rfl, hR.sc (((hS21.i 43 (by omega)).i 44 (by omega)).tr (FrTk hf96))⟩
        · refine TGo.al0 dX0_isMended_64 rfl ?_
          refine TGo.getS (t := 8) 11 11 (B + 45) (hB 0 (by decide)) rfl fgX0_55_0 dX0_isMended_65 rfl rfl rfl ?_
          refine TGo.il dX0_isMended_68 rfl ?_
          refine TGo.il dX0_isMended_70 rfl ?_
          refine TGo.bip 6 dX0_isMended_72 (by decide) ?_
          refine TGo.idiv dX0_isMended_74 (by omega) ?_
          refine TGo.il dX0_isMended_75 rfl ?_
          refine TGo.bip 6 dX0_isMended_77 (by decide) ?_
          refine TGo.irem dX0_isMended_79 (by omega) ?_
          refine TGo.cWn (csV3 (y2 := mX2_says) (t := 10) 1 rfl (hB 45 (by decide)) rfl rfl dX0_isMended_80 q725 q726 q727 okX2_says npX2_says rfl rfl) (kX2_says hO (by omega)) ?_
          
          refine TGo.al0 dX0_isMended_83 rfl ?_
          refine TGo.getS (t := 8) 12 12 (B + 48) (hB 0 (by decide)) rfl fgX0_61_0 dX0_isMended_84 rfl rfl rfl ?_
          refine TGo.al0 dX0_isMended_87 rfl ?_
          refine TGo.getS (t := 8) 10 10 (B + 42) (hB 0 (by decide)) rfl fgX0_51_0 dX0_isMended_88 rfl rfl rfl ?_
          refine TGo.al0 dX0_isMended_91 rfl ?_
          refine TGo.getS (t := 8) 11 11 (B + 45) (hB 0 (by decide)) rfl fgX0_55_0 dX0_isMended_92 rfl rfl rfl ?_
          refine TGo.il3 dX0_isMended_95 rfl ?_
          refine TGo.cS (csV3 (y2 := mX6_goesOn) (t := 14) 2 rfl (hB 48 (by decide)) rfl rfl dX0_isMended_96 q1603 q1604 q1605 okX6_goesOn npX6_goesOn rfl rfl) (kX6_goesOn (f := (fun r => (za z 3 M k).2 3 (298 + 36 * a + r))) (g := (fun r => (za z 3 M k).2 3 (298 + 36 * b + r))) hB.tk hF hO (by simp) (by simp) (by simp) (by simp) (za_cOK W (p := M) ha (show cOK k by omega)) (za_cOK W (p := M) hb (show cOK k by omega)) hc0 (((((hF21.set (p := p) rk.1)).i1 (by omega) (by omega)).i1 (by omega) (by omega)).cg (fun r r0 r1 => by
            show (za z 3 M k).2 3 (298 + 36 * a + r) = _
            rw [zaF]
            try simp only
            first
            | (exfalso; omega)
            | (by_cases e : r = p
               · first
                 | (rw [if_pos e, if_pos (by omega)])
                 | (rw [if_neg (by omega)])
               · first
                 | (rw [if_neg e, if_neg (by omega)])
                 | (rw [if_neg (by omega)])))) ((((hO21.i1 (by omega) (by omega)).i1 (by omega) (by omega)).set (p := p) rk.1).cg (fun r r0 r1 => by
            show (za z 3 M k).2 3 (298 + 36 * b + r) = _
            rw [zaF]
            try simp only
            first
            | (exfalso; omega)
            | (by_cases e : r = p
               · first
                 | (rw [if_pos e, if_pos (by omega)])
                 | (rw [if_neg (by omega)])
               · first
                 | (rw [if_neg e, if_neg (by omega)])
                 | (rw [if_neg (by omega)]))))) (fun v96 V96 h96 => ?_)
          obtain ⟨rfl, hf96, ht96⟩ := h96
          refine TGo.zret dX0_isMended_99 rfl (by first | exact Or.inl rfl | exact Or.inr rfl | exact bZ_or _ | assumption) ?_
          exact ⟨_, rfl, rfl, rfl, rfl, hR.sc (((((hS21.i 43 (by omega)).i 44 (by omega)).i 46 (by omega)).i 47 (by omega)).tr (FrTk hf96))⟩
set_option maxHeartbeats 4000000 in
theorem lX0_mends {E : ET} {sh : SHT} {nn : Nat × Nat} {B : Nat} {ow : Nat → Nat} {z : ZT} {a b c p t w M : Int} (W : RWZ (z.2 3)) (ha : 0 ≤ a ∧ a < z.2 3 2) (hb : 0 ≤ b ∧ b < z.2 3 2) (hc0 : 0 ≤ c ∧ c < 6) (hp : 0 ≤ p ∧ p < 36) (ht : t = 0 ∨ t = 1) (hM0 : t = 0 → M = 298 + 36 * a + p) (hM1 : t = 1 → M = 298 + 36 * b + p) (hw : 0 ≤ w ∧ w ≤ 2) : ∀ (n j : Nat) (V : VT), 60 - j < n → j ≤ 60 → XR ow sh nn V B z → TGo E mX0_mends 6 81 [some (.ref B), some (.int (iI a)), some (.int (iI b)), some (.int (iI c)), some (.int (iI w)), some (.int (iI (mdZ z a b c M (j)).1)), some (.int (iI (mdZ z a b c M (j)).2)), some (.int (iI p)), some (.int (iI t)), some (.int (iI (((j) : Nat) : Int)))] [] sh nn V (XP B nn (if w = 0 then (mdZ z a b c M 60).1 else ofZ (mdZ z a b c M 60).2 (w - 1), z)) := by
  intro n
  induction n with
  | zero => intro j V h; omega
  | succ n ih =>
    intro j V hn hj hz
    obtain ⟨hB, how, hc, -⟩ := id hz
    have hm := mdZ_r z a b c M j hj
    have hm0 := mdZ_0 z a b c M j
    refine TGo.il dX0_mends_81 rfl ?_
    refine TGo.bip 60 dX0_mends_83 (by decide) ?_
    refine TGo.icmp_ge 130 dX0_mends_85 (by decide) (by omega) (fun h85 => ?_) (fun h85 => ?_)
    · refine TGo.il dX0_mends_130 rfl ?_
      refine TGo.if_ne 140 dX0_mends_132 (by decide) (by omega) (fun h132 => ?_) (fun h132 => ?_)
      · refine TGo.il dX0_mends_140 rfl ?_
        refine TGo.if_ne 149 dX0_mends_142 (by decide) (by omega) (fun h142 => ?_) (fun h142 => ?_)
        · refine TGo.il dX0_mends_149 rfl ?_
          refine TGo.ic1 dX0_mends_151 ?_
          refine TGo.icmp_ne 163 dX0_mends_152 (by decide) (by omega) (fun h152 => ?_) (fun h152 => ?_)
          · refine TGo.il dX0_mends_163 rfl ?_
            refine TGo.bip 6 dX0_mends_165 (by decide) ?_
            refine TGo.irem dX0_mends_167 (by omega) ?_
            refine TGo.iret dX0_mends_168 rfl ?_
            obtain rfl : j = 60 := by omega
            refine hz.same ?_
            refine congrArg (fun q => (q, z)) ?_
            unfold ofZ wZ nZ
            first
            | (exfalso; omega)
            | (rw [if_pos (show w = 0 by omega)])
            | (rw [if_neg (show ¬ w = 0 by omega), if_pos (show (mdZ z a b c M 60).2 = -1 by omega), if_pos (show (mdZ z a b c M 60).2 = -1 by omega)]; split <;> rfl)
            | (rw [if_neg (show ¬ w = 0 by omega), if_pos (show w - 1 = 0 by omega)]
               first
               | (rw [if_pos (by omega)])
               | (rw [if_neg (by omega)]))
            | (rw [if_neg (show ¬ w = 0 by omega), if_neg (show ¬ w - 1 = 0 by omega)]
               first
               | (rw [if_pos (by omega)])
               | (rw [if_neg (by omega)]))
          · refine TGo.il dX0_mends_155 rfl ?_
            refine TGo.bip 6 dX0_mends_157 (by decide) ?_
            refine TGo.idiv dX0_mends_159 (by omega) ?_
            refine TGo.goto 168 dX0_mends_160 (by decide) ?_
            refine TGo.iret dX0_mends_168 rfl ?_
            obtain rfl : j = 60 := by omega
            refine hz.same ?_
            refine congrArg (fun q => (q, z)) ?_
            unfold ofZ wZ nZ
            first
            | (exfalso; omega)
            | (rw [if_pos (show w = 0 by omega)])
            | (rw [if_neg (show ¬ w = 0 by omega), if_pos (show (mdZ z a b c M 60).2 = -1 by omega), if_pos (show (mdZ z a b c M 60).2 = -1 by omega)]; split <;> rfl)
            | (rw [if_neg (show ¬ w = 0 by omega), if_pos (show w - 1 = 0 by omega)]
               first
               | (rw [if_pos (by omega)])
               | (rw [if_neg (by omega)]))
            | (rw [if_neg (show ¬ w = 0 by omega), if_neg (show ¬ w - 1 = 0 by omega)]
               first
               | (rw [if_pos (by omega)])
               | (rw [if_neg (by omega)]))
        · refine TGo.icm1 dX0_mends_145 ?_
          refine TGo.goto 168 dX0_mends_146 (by decide) ?_
          refine TGo.iret dX0_mends_168 rfl ?_
          obtain rfl : j = 60 := by omega
          refine hz.same ?_
          refine congrArg (fun q => (q, z)) ?_
          unfold ofZ wZ nZ
          first
          | (exfalso; omega)
          | (rw [if_pos (show w = 0 by omega)])
          | (rw [if_neg (show ¬ w = 0 by omega), if_pos (show (mdZ z a b c M 60).2 = -1 by omega), if_pos (show (mdZ z a b c M 60).2 = -1 by omega)]; split <;> rfl)
          | (rw [if_neg (show ¬ w = 0 by omega), if_pos (show w - 1 = 0 by omega)]
             first
             | (rw [if_pos (by omega)])
             | (rw [if_neg (by omega)]))
          | (rw [if_neg (show ¬ w = 0 by omega), if_neg (show ¬ w - 1 = 0 by omega)]
             first
             | (rw [if_pos (by omega)])
             | (rw [if_neg (by omega)]))
      · refine TGo.il dX0_mends_135 rfl ?_
        refine TGo.goto 168 dX0_mends_137 (by decide) ?_
        refine TGo.iret dX0_mends_168 rfl ?_
        obtain rfl : j = 60 := by omega
        refine hz.same ?_
        refine congrArg (fun q => (q, z)) ?_
        unfold ofZ wZ nZ
        first
        | (exfalso; omega)
        | (rw [if_pos (show w = 0 by omega)])
        | (rw [if_neg (show ¬ w = 0 by omega), if_pos (show (mdZ z a b c M 60).2 = -1 by omega), if_pos (show (mdZ z a b c M 60).2 = -1 by omega)]; split <;> rfl)
        | (rw [if_neg (show ¬ w = 0 by omega), if_pos (show w - 1 = 0 by omega)]
           first
           | (rw [if_pos (by omega)])
           | (rw [if_neg (by omega)]))
        | (rw [if_neg (show ¬ w = 0 by omega), if_neg (show ¬ w - 1 = 0 by omega)]
           first
           | (rw [if_pos (by omega)])
           | (rw [if_neg (by omega)]))
    · refine TGo.al0 dX0_mends_88 rfl ?_
      refine TGo.il1 dX0_mends_89 rfl ?_
      refine TGo.il2 dX0_mends_90 rfl ?_
      refine TGo.il3 dX0_mends_91 rfl ?_
      refine TGo.il dX0_mends_92 rfl ?_
      refine TGo.il dX0_mends_94 rfl ?_
      refine TGo.il dX0_mends_96 rfl ?_
      refine TGo.cS (csV6 (y2 := mX0_isMended) (t := 8) 5 rfl (hB 0 (by decide)) rfl rfl dX0_mends_98 q1616 q1618 qs27 okX0_isMended npX0_isMended rfl rfl) (kX0_isMended hz W ha hb hc0 hp ht (show 0 ≤ (j : Int) ∧ (j : Int) < 60 by omega) hM0 hM1) (fun v98 V98 h98 => ?_)
      obtain ⟨rfl, hR98⟩ := h98
      refine TGo.ifb_ne 107 dX0_mends_101 (by decide) (fun h101 => ?_) (fun h101 => ?_)
      · refine TGo.il dX0_mends_107 rfl ?_
        refine TGo.if_ne 117 dX0_mends_109 (by decide) (by omega) (fun h109 => ?_) (fun h109 => ?_)
        · refine TGo.il dX0_mends_117 rfl ?_
          refine TGo.is dX0_mends_119 rfl rfl ?_
          refine TGo.iinc dX0_mends_121 rfl rfl rfl ?_
          refine TGo.iinc dX0_mends_124 rfl rfl rfl ?_
          refine TGo.goto 81 dX0_mends_127 (by decide) ?_
          exact TGo.seq [some (.ref B), some (.int (iI a)), some (.int (iI b)), some (.int (iI c)), some (.int (iI w)), some (.int (iI (mdZ z a b c M ((j + 1))).1)), some (.int (iI (mdZ z a b c M ((j + 1))).2)), some (.int (iI p)), some (.int (iI t)), some (.int (iI ((((j + 1)) : Nat) : Int)))] [] _ (by rw [mdZ]; first | (rw [if_pos (by assumption)]; first | (rw [if_pos (by omega)]; rfl) | (rw [if_neg (by omega)]; rfl)) | (rw [if_neg (by assumption)]; rfl)) rfl rfl (ih (j + 1) _ (by omega) (by omega) hR98)
        · refine TGo.il dX0_mends_112 rfl ?_
          refine TGo.goto 119 dX0_mends_114 (by decide) ?_
          refine TGo.is dX0_mends_119 rfl rfl ?_
          refine TGo.iinc dX0_mends_121 rfl rfl rfl ?_
          refine TGo.iinc dX0_mends_124 rfl rfl rfl ?_
          refine TGo.goto 81 dX0_mends_127 (by decide) ?_
          exact TGo.seq [some (.ref B), some (.int (iI a)), some (.int (iI b)), some (.int (iI c)), some (.int (iI w)), some (.int (iI (mdZ z a b c M ((j + 1))).1)), some (.int (iI (mdZ z a b c M ((j + 1))).2)), some (.int (iI p)), some (.int (iI t)), some (.int (iI ((((j + 1)) : Nat) : Int)))] [] _ (by rw [mdZ]; first | (rw [if_pos (by assumption)]; first | (rw [if_pos (by omega)]; rfl) | (rw [if_neg (by omega)]; rfl)) | (rw [if_neg (by assumption)]; rfl)) rfl rfl (ih (j + 1) _ (by omega) (by omega) hR98)
      · refine TGo.goto 124 dX0_mends_104 (by decide) ?_
        refine TGo.iinc dX0_mends_124 rfl rfl rfl ?_
        refine TGo.goto 81 dX0_mends_127 (by decide) ?_
        exact TGo.seq [some (.ref B), some (.int (iI a)), some (.int (iI b)), some (.int (iI c)), some (.int (iI w)), some (.int (iI (mdZ z a b c M ((j + 1))).1)), some (.int (iI (mdZ z a b c M ((j + 1))).2)), some (.int (iI p)), some (.int (iI t)), some (.int (iI ((((j + 1)) : Nat) : Int)))] [] _ (by rw [mdZ]; first | (rw [if_pos (by assumption)]; first | (rw [if_pos (by omega)]; rfl) | (rw [if_neg (by omega)]; rfl)) | (rw [if_neg (by assumption)]; rfl)) rfl rfl (ih (j + 1) _ (by omega) (by omega) hR98)
set_option maxHeartbeats 4000000 in
theorem kX0_mends {E : ET} {sh : SHT} {nn : Nat × Nat} {V : VT} {B : Nat} {ow : Nat → Nat} {z : ZT} {a b c w : Int} (hR : XR ow sh nn V B z) (W : RWZ (z.2 3)) (ra : R32 a) (rb : R32 b) (rc : R32 c) (rw : R32 w) : TC E mX0_mends 6 [.ref B, .int (iI a), .int (iI b), .int (iI c), .int (iI w)] sh nn V (XP B nn (zp_mends z a b c w)) := by
  obtain ⟨hB, -, hc, -⟩ := id hR
  have w2 := W.1.2.2.1
  obtain ⟨ap, av, al, cp, cv, cl, gp, gv, gl, hne, ⟨hp1, hp2⟩, ⟨hv1, hv2⟩, hl1, hl2⟩ := id hR.2.2.2.1
  refine TC.intro [some (.ref B), some (.int (iI a)), some (.int (iI b)), some (.int (iI c)), some (.int (iI w)), none, none, none, none, none] rfl ?_
  refine TGo.al0 dX0_mends_0 rfl ?_
  refine TGo.il1 dX0_mends_1 rfl ?_
  refine TGo.il2 dX0_mends_2 rfl ?_
  refine TGo.il3 dX0_mends_3 rfl ?_
  refine TGo.cF (csV3 (y2 := mX0_areTalking) (t := 8) 3 rfl (hB 0 (by decide)) rfl rfl dX0_mends_4 q1599 q1601 qs26 okX0_areTalking npX0_areTalking rfl rfl) (kX0_areTalking hR W (by omega) (by omega) (by omega)) ?_
  refine TGo.ifb_eq 20 dX0_mends_7 (by decide) (fun h7 => ?_) (fun h7 => ?_)
  · refine TGo.icm1 dX0_mends_20 ?_
    refine TGo.iret dX0_mends_21 rfl ?_
    first
    | (exfalso; omega)
    | (refine hR.same ?_
       unfold zp_mends
       rw [if_pos (by omega)])
    | (refine (hR.sc (FrTk hf43)).same ?_
       unfold zp_mends mendZ
       rw [if_neg (by omega), if_pos (by assumption)]
       refine congrArg (fun q => (q, z)) ?_
       unfold ofZ wZ nZ
       first
       | (rw [if_pos (show w = 0 by omega)])
       | (rw [if_neg (show ¬ w = 0 by omega)]; split <;> rfl))
  · refine TGo.il dX0_mends_10 rfl ?_
    refine TGo.ic0 dX0_mends_12 ?_
    refine TGo.ic2 dX0_mends_13 ?_
    refine TGo.cF (csS3 (y2 := mX0_in) 1 rfl dX0_mends_14 q598 q599 okX0_in npX0_in rfl rfl) (kX0_in (by omega) (by omega) (by omega)) ?_
    refine TGo.ifb_ne 22 dX0_mends_17 (by decide) (fun h17 => ?_) (fun h17 => ?_)
    · have hcf : ∀ r, 0 ≤ r → r < 36 → cOK ((fun r => z.2 3 (298 + 36 * a + r)) r) := fun r h0 h1 => W.2.2.2.2.2.1 a r (by omega) (by omega) h0 h1
      have hcg : ∀ r, 0 ≤ r → r < 36 → cOK ((fun r => z.2 3 (298 + 36 * b + r)) r) := fun r h0 h1 => W.2.2.2.2.2.1 b r (by omega) (by omega) h0 h1
      refine TGo.ic0 dX0_mends_22 ?_
      refine TGo.is dX0_mends_23 rfl rfl ?_
      refine TGo.icm1 dX0_mends_25 ?_
      refine TGo.is dX0_mends_26 rfl rfl ?_
      refine TGo.al0 dX0_mends_28 rfl ?_
      refine TGo.getS (t := 8) 12 12 (B + 48) (hB 0 (by decide)) rfl fgX0_61_0 dX0_mends_29 rfl rfl rfl ?_
      refine TGo.al0 dX0_mends_32 rfl ?_
      refine TGo.il1 dX0_mends_33 rfl ?_
      refine TGo.callG (csV1 (y2 := mX0_scriptOf) (t := 8) 4 rfl (hB 0 (by decide)) rfl rfl dX0_mends_34 q1548 q1550 qs23 okX0_scriptOf npX0_scriptOf rfl rfl) (kX0_scriptOf hR W (v := a) (by omega)) (fun o34 sh34 nn34 V34 e34 h34 => ?_)
      obtain ⟨⟨S, rfl, ⟨vSS, vVS⟩, oSS⟩, rfl, rfl, rfl⟩ := h34
      show TGo _ _ _ _ _ _ _ _ _ _
      refine TGo.al0 dX0_mends_37 rfl ?_
      refine TGo.il2 dX0_mends_38 rfl ?_
      refine TGo.callG (csV1 (y2 := mX0_scriptOf) (t := 8) 4 rfl (hB 0 (by decide)) rfl rfl dX0_mends_39 q1548 q1550 qs23 okX0_scriptOf npX0_scriptOf rfl rfl) (kX0_scriptOf hR W (v := b) (by omega)) (fun o39 sh39 nn39 V39 e39 h39 => ?_)
      obtain ⟨⟨S2, rfl, ⟨vSS2, vVS2⟩, oSS2⟩, rfl, rfl, rfl⟩ := h39
      show TGo _ _ _ _ _ _ _ _ _ _
      refine TGo.il3 dX0_mends_42 rfl ?_
      refine TGo.cS (csV3 (y2 := mX6_goesOn) (t := 14) 2 rfl (hB 48 (by decide)) rfl rfl dX0_mends_43 q1603 q1604 q1605 okX6_goesOn npX6_goesOn rfl rfl) (kX6_goesOn hB.tk vSS vSS2 (nT hR.2.1 oSS.2.1) (nT hR.2.1 oSS.2.2) (nT hR.2.1 oSS2.2.1) (nT hR.2.1 oSS2.2.2) hcf hcg (show 0 ≤ c ∧ c < 6 by omega) vVS vVS2) (fun v43 V43 h43 => ?_)
      obtain ⟨rfl, hf43, ht43⟩ := h43
      obtain ⟨hd1, hd2, hn3⟩ := tkN_ok hcf hcg (show 0 ≤ c ∧ c < 6 by omega)
      have hhole : ¬ tkW (fun r => z.2 3 (298 + 36 * a + r)) (fun r => z.2 3 (298 + 36 * b + r)) c ≠ -1 → 6 * V43.1 (B + 48) 3 + V43.1 (B + 48) 4 = tkP (fun r => z.2 3 (298 + 36 * a + r)) (fun r => z.2 3 (298 + 36 * b + r)) c (tkN (fun r => z.2 3 (298 + 36 * a + r)) (fun r => z.2 3 (298 + 36 * b + r)) c) ∧ V43.1 (B + 48) 5 = ((tkN (fun r => z.2 3 (298 + 36 * a + r)) (fun r => z.2 3 (298 + 36 * b + r)) c : Nat) : Int) % 2 := fun q => by
        rcases ht43.2.2 with q2 | q2
        · exact absurd q2.1 q
        · exact q2.2.2
      have hA := tkA_r hcf hcg (show 0 ≤ c ∧ c < 6 by omega) (tkN (fun r => z.2 3 (298 + 36 * a + r)) (fun r => z.2 3 (298 + 36 * b + r)) c) hd1
      have hPp : 0 ≤ tkP (fun r => z.2 3 (298 + 36 * a + r)) (fun r => z.2 3 (298 + 36 * b + r)) c (tkN (fun r => z.2 3 (298 + 36 * a + r)) (fun r => z.2 3 (298 + 36 * b + r)) c) ∧ tkP (fun r => z.2 3 (298 + 36 * a + r)) (fun r => z.2 3 (298 + 36 * b + r)) c (tkN (fun r => z.2 3 (298 + 36 * a + r)) (fun r => z.2 3 (298 + 36 * b + r)) c) < 36 := by unfold tkP; split <;> omega
      obtain ⟨N, hN⟩ : ∃ N, N = tkN (fun r => z.2 3 (298 + 36 * a + r)) (fun r => z.2 3 (298 + 36 * b + r)) c := ⟨_, rfl⟩
      rw [← hN] at hPp hhole
      clear ht43 hn3 hd1 hd2 hA
      refine TGo.ifb_ne 130 dX0_mends_46 (by decide) (fun h46 => ?_) (fun h46 => ?_)
      · refine TGo.il dX0_mends_130 rfl ?_
        refine TGo.if_ne 140 dX0_mends_132 (by decide) (by omega) (fun h132 => ?_) (fun h132 => ?_)
        · refine TGo.il dX0_mends_140 rfl ?_
          refine TGo.if_ne 149 dX0_mends_142 (by decide) (by decide) (fun h => absurd h (by decide)) (fun _ => ?_)
          refine TGo.icm1 dX0_mends_145 ?_
          refine TGo.goto 168 dX0_mends_146 (by decide) ?_
          refine TGo.iret dX0_mends_168 rfl ?_
          first
          | (exfalso; omega)
          | (refine hR.same ?_
             unfold zp_mends
             rw [if_pos (by omega)])
          | (refine (hR.sc (FrTk hf43)).same ?_
             unfold zp_mends mendZ
             rw [if_neg (by omega), if_pos (by assumption)]
             refine congrArg (fun q => (q, z)) ?_
             unfold ofZ wZ nZ
             first
             | (rw [if_pos (show w = 0 by omega)])
             | (rw [if_neg (show ¬ w = 0 by omega)]; split <;> rfl))
        · refine TGo.il dX0_mends_135 rfl ?_
          refine TGo.goto 168 dX0_mends_137 (by decide) ?_
          refine TGo.iret dX0_mends_168 rfl ?_
          first
          | (exfalso; omega)
          | (refine hR.same ?_
             unfold zp_mends
             rw [if_pos (by omega)])
          | (refine (hR.sc (FrTk hf43)).same ?_
             unfold zp_mends mendZ
             rw [if_neg (by omega), if_pos (by assumption)]
             refine congrArg (fun q => (q, z)) ?_
             unfold ofZ wZ nZ
             first
             | (rw [if_pos (show w = 0 by omega)])
             | (rw [if_neg (show ¬ w = 0 by omega)]; split <;> rfl))
      · obtain ⟨h3, h5⟩ := hhole (by assumption)
        refine TGo.bip 6 dX0_mends_49 (by decide) ?_
        refine TGo.al0 dX0_mends_51 rfl ?_
        refine TGo.getS (t := 8) 12 12 (B + 48) (hB 0 (by decide)) rfl fgX0_61_0 dX0_mends_52 rfl rfl rfl ?_
        refine TGo.getI (t := 14) 3 3 (hB 48 (by decide)) rfl fgX0_415_6 dX0_mends_55 rfl rfl rfl ?_
        refine TGo.imul dX0_mends_58 ?_
        refine TGo.al0 dX0_mends_59 rfl ?_
        refine TGo.getS (t := 8) 12 12 (B + 48) (hB 0 (by decide)) rfl fgX0_61_0 dX0_mends_60 rfl rfl rfl ?_
        refine TGo.getI (t := 14) 4 4 (hB 48 (by decide)) rfl fgX0_418_6 dX0_mends_63 rfl rfl rfl ?_
        refine TGo.iadd dX0_mends_66 ?_
        refine TGo.toz (tkP (fun r => z.2 3 (298 + 36 * a + r)) (fun r => z.2 3 (298 + 36 * b + r)) c N) h3 ?_
        refine TGo.is dX0_mends_67 rfl rfl ?_
        refine TGo.al0 dX0_mends_69 rfl ?_
        refine TGo.getS (t := 8) 12 12 (B + 48) (hB 0 (by decide)) rfl fgX0_61_0 dX0_mends_70 rfl rfl rfl ?_
        refine TGo.getI (t := 14) 5 5 (hB 48 (by decide)) rfl fgX0_421_6 dX0_mends_73 rfl rfl rfl ?_
        refine TGo.toz ((N : Int) % 2) h5 ?_
        refine TGo.is dX0_mends_76 rfl rfl ?_
        refine TGo.ic0 dX0_mends_78 ?_
        refine TGo.is dX0_mends_79 rfl rfl ?_
        first
        | (exfalso; omega)
        | (refine (lX0_mends (M := mpZ z a b c) W (by omega) (by omega) (by omega) hPp (by omega) (fun q => by unfold mpZ; rw [← hN, if_pos (by omega)]) (fun q => by unfold mpZ; rw [← hN, if_neg (by omega)]) (by omega) 61 0 _ (by omega) (by omega) (hR.sc (FrTk hf43))).mono ?_
           intro o sh' nn' V' hq
           unfold zp_mends mendZ
           rw [if_neg (by omega), if_neg (by assumption)]
           split at hq
           · rename_i e; rw [if_pos e]; exact hq
           · rename_i e; rw [if_neg e]; exact hq)
    · refine TGo.icm1 dX0_mends_20 ?_
      refine TGo.iret dX0_mends_21 rfl ?_
      first
      | (exfalso; omega)
      | (refine hR.same ?_
         unfold zp_mends
         rw [if_pos (by omega)])
      | (refine (hR.sc (FrTk hf43)).same ?_
         unfold zp_mends mendZ
         rw [if_neg (by omega), if_pos (by assumption)]
         refine congrArg (fun q => (q, z)) ?_
         unfold ofZ wZ nZ
         first
         | (rw [if_pos (show w = 0 by omega)])
         | (rw [if_neg (show ¬ w = 0 by omega)]; split <;> rfl))
