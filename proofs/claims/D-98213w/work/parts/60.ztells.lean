/-! THE MODEL: what laws tell -/
set_option maxRecDepth 100000
/-- numbers unchanged but 'law' and 'broken', longs but 'value', 'sum', what is set and the pile -/
def FrK (T : Nat) (V V' : VT) : Prop := (∀ c i, (c ≠ T ∨ i ≠ 32) → V'.1 c i = V.1 c i) ∧ (∀ c, c ≠ T → c ≠ T + 15 → V'.2.1 c = V.2.1 c) ∧ (∀ i, i ≠ 33 → V'.2.1 T i = V.2.1 T i) ∧ V'.2.2 = V.2.2
def FrT (T : Nat) (V V' : VT) : Prop := (∀ c i, (c ≠ T ∨ (i ≠ 28 ∧ i ≠ 32)) → V'.1 c i = V.1 c i) ∧ (∀ c, c ≠ T → c ≠ T + 15 → c ≠ T + 13 → V'.2.1 c = V.2.1 c) ∧ (∀ i, i ≠ 33 → i ≠ 34 → V'.2.1 T i = V.2.1 T i) ∧ V'.2.2 = V.2.2
theorem FrT.rf {T : Nat} {V : VT} : FrT T V V := ⟨fun _ _ _ => rfl, fun _ _ _ _ => rfl, fun _ _ _ => rfl, rfl⟩
theorem FrT.tr {T : Nat} {A B C : VT} (h : FrT T A B) (h2 : FrT T B C) : FrT T A C := ⟨fun c i q => (h2.1 c i q).trans (h.1 c i q), fun c q1 q2 q3 => (h2.2.1 c q1 q2 q3).trans (h.2.1 c q1 q2 q3), fun i q1 q2 => (h2.2.2.1 i q1 q2).trans (h.2.2.1 i q1 q2), h2.2.2.2.trans h.2.2.2⟩
theorem FrK.t {T : Nat} {A B : VT} (h : FrK T A B) : FrT T A B := ⟨fun c i q => h.1 c i (by omega), fun c q1 q2 _ => h.2.1 c q1 q2, fun i q1 _ => h.2.2.1 i q1, h.2.2.2⟩
theorem FrT.i {T : Nat} {A B : VT} {v : Int} (h : FrT T A B) : FrT T A (vI B T 28 v) := ⟨fun c i q => (u2_n (by omega)).trans (h.1 c i q), h.2⟩
theorem FrT.s {T : Nat} {A B : VT} {i v : Int} (h : FrT T A B) : FrT T A (vL B (T + 13) i v) := ⟨h.1, fun c q1 q2 q3 => (u2_a q3).trans (h.2.1 c q1 q2 q3), fun j q1 q2 => (u2_n (Or.inl (by omega))).trans (h.2.2.1 j q1 q2), h.2.2.2⟩
theorem FrT.m {T : Nat} {A B : VT} {v : Int} (h : FrT T A B) : FrT T A (vL B T 34 v) := ⟨h.1, fun c q1 q2 q3 => (u2_a q1).trans (h.2.1 c q1 q2 q3), fun j q1 q2 => (u2_n (Or.inr q2)).trans (h.2.2.1 j q1 q2), h.2.2.2⟩
set_option maxHeartbeats 4000000 in
theorem kX10_reckonAll0 {E : ET} {sh : SHT} {nn : Nat × Nat} {V : VT} {T : Nat} {z : ZT} {op ag val : Int → Int} {L : Int} {R : Option (List Int)} {i l : Int} (hT : MSh T sh) (hz : PE T V z) (hcode : CodeZ T V z op ag val false L) (hl : 0 ≤ l ∧ l ≤ 400) (hi : 0 ≤ i ∧ i ≤ 400) (hv9 : ∀ i, 1 ≤ i → i ≤ 8 → (-1000000000 ≤ val i ∧ val i ≤ 1000000000)) (hev : evZ op ag val l (l - i).toNat i [] = some R) : TN E mX10_reckonAll 2 [.ref T, .int (iI i), .int (iI l)] sh nn V (fun V' => PE T V' z ∧ FrK T V V' ∧ RkP T V' R) := by
  refine TC.intro [some (.ref T), some (.int (iI i)), some (.int (iI l)), none, none, none, none] rfl ?_
  refine TGo.al0 dX10_reckonAll_0 rfl ?_
  refine TGo.ic0 dX10_reckonAll_1 ?_
  refine TGo.putZ (t := 18) 32 32 (hT 0 (by decide)) rfl fpX10_397_10 dX10_reckonAll_2 rfl ⟨rfl, (by first | exact Or.inl rfl | exact Or.inr rfl | exact bZ_or _ | assumption)⟩ rfl ?_
  refine TGo.ic0 dX10_reckonAll_5 ?_
  refine TGo.is3 dX10_reckonAll_6 rfl rfl ?_
  refine TGo.il1 dX10_reckonAll_7 rfl ?_
  refine TGo.is dX10_reckonAll_8 rfl rfl ?_
  have hc2 : CodeZ T (vI V T 32 0) z op ag val false L := by
    first
    | exact ⟨hcode.1, (u2_n (Or.inr (by decide))).trans hcode.2.1, hcode.2.2.1, hcode.2.2.2.1, hcode.2.2.2.2.1, hcode.2.2.2.2.2⟩
    | exact ⟨hcode.1, fun k => (u2_n (Or.inl (by omega))).trans (hcode.2.1 k), fun k => (u2_n (Or.inl (by omega))).trans (hcode.2.2.1 k), hcode.2.2.2⟩
  refine (lX10_reckonAll0 (V0 := vI V T 32 0) hT hc2 hl hv9 (l - i).toNat i [] 0 _ _ _ (by omega) hi (by simp) rfl (hz.s rfl) trivial FrE.rf u2_s hev).mono ?_
  rintro o sh' nn' V' ⟨ho, hs, hn, hp, f1, f2, f3, f4, hr⟩
  exact ⟨ho, hs, hn, hp, ⟨fun c i q => (f1 c i q).trans (u2_n q), f2, f3, f4⟩, hr⟩
set_option maxHeartbeats 4000000 in
theorem kX10_reckonAll1 {E : ET} {sh : SHT} {nn : Nat × Nat} {V : VT} {T : Nat} {z : ZT} {op ag val : Int → Int} {L : Int} {R : Option (List Int)} {i l : Int} (hT : MSh T sh) (hz : PE T V z) (hcode : CodeZ T V z op ag val true L) (hl : 0 ≤ l ∧ l ≤ 400) (hi : 0 ≤ i ∧ i ≤ 400) (hv9 : ∀ i, 1 ≤ i → i ≤ 8 → (-1000000000 ≤ val i ∧ val i ≤ 1000000000)) (hev : evZ op ag val l (l - i).toNat i [] = some R) : TN E mX10_reckonAll 2 [.ref T, .int (iI i), .int (iI l)] sh nn V (fun V' => PE T V' z ∧ FrK T V V' ∧ RkP T V' R) := by
  refine TC.intro [some (.ref T), some (.int (iI i)), some (.int (iI l)), none, none, none, none] rfl ?_
  refine TGo.al0 dX10_reckonAll_0 rfl ?_
  refine TGo.ic0 dX10_reckonAll_1 ?_
  refine TGo.putZ (t := 18) 32 32 (hT 0 (by decide)) rfl fpX10_397_10 dX10_reckonAll_2 rfl ⟨rfl, (by first | exact Or.inl rfl | exact Or.inr rfl | exact bZ_or _ | assumption)⟩ rfl ?_
  refine TGo.ic0 dX10_reckonAll_5 ?_
  refine TGo.is3 dX10_reckonAll_6 rfl rfl ?_
  refine TGo.il1 dX10_reckonAll_7 rfl ?_
  refine TGo.is dX10_reckonAll_8 rfl rfl ?_
  have hc2 : CodeZ T (vI V T 32 0) z op ag val true L := by
    first
    | exact ⟨hcode.1, (u2_n (Or.inr (by decide))).trans hcode.2.1, hcode.2.2.1, hcode.2.2.2.1, hcode.2.2.2.2.1, hcode.2.2.2.2.2⟩
    | exact ⟨hcode.1, fun k => (u2_n (Or.inl (by omega))).trans (hcode.2.1 k), fun k => (u2_n (Or.inl (by omega))).trans (hcode.2.2.1 k), hcode.2.2.2⟩
  refine (lX10_reckonAll1 (V0 := vI V T 32 0) hT hc2 hl hv9 (l - i).toNat i [] 0 _ _ _ (by omega) hi (by simp) rfl (hz.s rfl) trivial FrE.rf u2_s hev).mono ?_
  rintro o sh' nn' V' ⟨ho, hs, hn, hp, f1, f2, f3, f4, hr⟩
  exact ⟨ho, hs, hn, hp, ⟨fun c i q => (f1 c i q).trans (u2_n q), f2, f3, f4⟩, hr⟩
/-- a law's clause at k: what it tells; none: nothing -/
def opL (f : Int → Int) (L k : Int) : Int := f (L + 98 + 2 * k)
def agL (f : Int → Int) (L k : Int) : Int := f (L + 98 + 2 * k + 1)
def csZ (f : Int → Int) (L : Int) (val : Int → Int) (k : Int) : Option Int :=
  if f (k + 5) < f (k + 6) ∧ (vaZ (opL f L) (agL f L) val (f (k + 5)) (f (k + 6)) = none ∨ vaZ (opL f L) (agL f L) val (f (k + 5)) (f (k + 6)) = some 0) then none
  else if f k = 2 then some 1 else vaZ (opL f L) (agL f L) val (f (k + 3)) (f (k + 4))
def B9Z (val : Int → Int) : Prop := ∀ i, 1 ≤ i → i ≤ 8 → -1000000000 ≤ val i ∧ val i ≤ 1000000000
/-- a clause is in order -/
def ClZ (f : Int → Int) (L k : Int) : Prop := (0 ≤ f k ∧ f k ≤ 2) ∧ (0 ≤ f (k + 5) ∧ f (k + 5) ≤ f (k + 6) ∧ f (k + 6) ≤ 400) ∧ (0 ≤ f (k + 3) ∧ f (k + 3) ≤ f (k + 4) ∧ f (k + 4) ≤ 400) ∧
  ∀ val, B9Z val → (f (k + 5) < f (k + 6) → ∃ R, evZ (opL f L) (agL f L) val (f (k + 6)) (f (k + 6) - f (k + 5)).toNat (f (k + 5)) [] = some R ∧ ∀ st, R = some st → -1000000000 ≤ lstZ st ∧ lstZ st ≤ 1000000000) ∧ (f k ≠ 2 → ∃ R, evZ (opL f L) (agL f L) val (f (k + 4)) (f (k + 4) - f (k + 3)).toNat (f (k + 3)) [] = some R ∧ ∀ st, R = some st → -1000000000 ≤ lstZ st ∧ lstZ st ≤ 1000000000)
def LwZ (f : Int → Int) (L : Int) : Prop := (0 ≤ f (L + 1) ∧ f (L + 1) ≤ 12) ∧ ∀ c, 0 ≤ c → c < f (L + 1) → ClZ f L (L + 2 + 8 * c)
/-- what the first clauses tell -/
def tlZ (f : Int → Int) (L h : Int) (val : Int → Int) (w : Int) : Nat → Int
  | 0 => w
  | c + 1 => if f (L + 2 + 8 * (c : Int)) = h then (match csZ f L val (L + 2 + 8 * (c : Int)) with
    | some v => v
    | none => tlZ f L h val w c) else tlZ f L h val w c
def valZ (f : Int → Int) (p a t y : Int) : Int → Int := fun i => if i = 1 then p else if i = 2 then f (238 + 3 * p + 2) else if i = 3 then f (238 + 3 * p) else if i = 4 then f (238 + 3 * p + 1) else if i = 5 then a else if i = 6 then t else if i = 7 then y else f 8
def tellZ (f : Int → Int) (h p a t y w : Int) : Int := if f 4 = -1 then w else tlZ f (780 + 900 * f 4) h (valZ f p a t y) w (f (780 + 900 * f 4 + 1)).toNat
def slipZ (f : Int → Int) (p a t y : Int) : Int := wiZ (tellZ f 0 p a t y (f 9)) 0 100
def hourZ (f : Int → Int) (p a t y : Int) : Int := wiZ (tellZ f 1 p a t y 1) 0 99
def barZ (f : Int → Int) (p a t y : Int) : Prop := tellZ f 2 p a t y 0 = 1
theorem vaZ_of {op ag val : Int → Int} {i l : Int} {R} (h : evZ op ag val l (l - i).toNat i [] = some R) : vaZ op ag val i l = R.map lstZ := by
  unfold vaZ
  rw [h]
  cases R <;> rfl
set_option maxHeartbeats 4000000 in
theorem kX10_isSo {E : ET} {sh : SHT} {nn : Nat × Nat} {V : VT} {T : Nat} {z : ZT} {L : Int} {val : Int → Int} {k : Int} (hT : MSh T sh) (hz : PE T V z) (hk : 0 ≤ k ∧ k ≤ 6100) (hc : ClZ (z.2 3) L k) (h15 : z.1 15 = 0) (h28 : V.1 T 28 = L) (hL : 0 ≤ L ∧ L ≤ 5280) (hset : ∀ i, 1 ≤ i → i ≤ 8 → V.2.1 (T + 13) i = val i) (hv9 : B9Z val) : TS E mX10_isSo 3 [.ref T, .int (iI k)] sh nn V (fun v V' => v = .int (iI (bZ (csZ (z.2 3) L val k ≠ none))) ∧ PE T V' z ∧ FrT T V V' ∧ V'.1 T 28 = L ∧ (∀ i, 1 ≤ i → i ≤ 8 → V'.2.1 (T + 13) i = val i) ∧ (z.2 3 k ≠ 2 → ∀ v, csZ (z.2 3) L val k = some v → V'.2.1 T 34 = v)) := by
  obtain ⟨c1, c2, c3, c4⟩ := hc
  obtain ⟨c5, c6⟩ := c4 val hv9
  refine TC.intro [some (.ref T), some (.int (iI k))] rfl ?_
  refine TGo.al0 dX10_isSo_0 rfl ?_
  refine TGo.getS (t := 18) 3 3 (T + 2) (hT 0 (by decide)) rfl fgX10_13_10 dX10_isSo_1 rfl rfl rfl ?_
  refine TGo.il1 dX10_isSo_4 rfl ?_
  refine TGo.ic5 dX10_isSo_5 ?_
  refine TGo.iadd dX10_isSo_6 ?_
  refine TGo.iald dX10_isSo_7 (hT 2 (by decide)) (by omega) rfl ?_
  refine TGo.toz _ (hz.2.1 3 (by decide) _) ?_
  refine TGo.al0 dX10_isSo_8 rfl ?_
  refine TGo.getS (t := 18) 3 3 (T + 2) (hT 0 (by decide)) rfl fgX10_13_10 dX10_isSo_9 rfl rfl rfl ?_
  refine TGo.il1 dX10_isSo_12 rfl ?_
  refine TGo.bip 6 dX10_isSo_13 (by decide) ?_
  refine TGo.iadd dX10_isSo_15 ?_
  refine TGo.iald dX10_isSo_16 (hT 2 (by decide)) (by omega) rfl ?_
  refine TGo.toz _ (hz.2.1 3 (by decide) _) ?_
  refine TGo.icmp_ge 59 dX10_isSo_17 (by decide) (by omega) (fun h17 => ?_) (fun h17 => ?_)
  · refine TGo.al0 dX10_isSo_59 rfl ?_
    refine TGo.getS (t := 18) 3 3 (T + 2) (hT 0 (by decide)) rfl fgX10_13_10 dX10_isSo_60 rfl rfl rfl ?_
    refine TGo.il1 dX10_isSo_63 rfl ?_
    refine TGo.iald dX10_isSo_64 (hT 2 (by decide)) (by omega) rfl ?_
    refine TGo.toz _ (hz.2.1 3 (by decide) _) ?_
    refine TGo.ic2 dX10_isSo_65 ?_
    refine TGo.icmp_eq 110 dX10_isSo_66 (by decide) (by omega) (fun h66 => ?_) (fun h66 => ?_)
    · refine TGo.ic1 dX10_isSo_110 ?_
      refine TGo.zret dX10_isSo_111 rfl (by first | exact Or.inl rfl | exact Or.inr rfl | exact bZ_or _ | assumption) ?_
      first
      | (exfalso; omega)
      | (have ec : csZ (z.2 3) L val k = some 1 := by
           unfold csZ
           first
           | (rw [if_pos (by rw [g1]; first | exact ⟨by omega, Or.inl rfl⟩ | exact ⟨by omega, Or.inr (congrArg some (by omega))⟩)])
           | (rw [if_neg (by first | omega | (rw [g1]; rintro ⟨-, q | q⟩ <;> first | (cases q; done) | (have q := Option.some.inj q; omega)))]
              first | rw [if_pos (by omega)] | (rw [if_neg (by omega), g2]))
         refine ⟨_, rfl, rfl, rfl, ?_, hz, ?_, ?_, ?_, ?_⟩
         · rw [ec, bZ_t (fun q => nomatch q)]
         · first | exact FrT.rf | exact hf38.t | exact hf86.t.m | exact (hf38.t.tr hf86.t).m
         · first | exact h28 | exact (hf38.1 _ _ (by omega)).trans h28 | exact (hf86.1 _ _ (by omega)).trans h28 | exact (hf86.1 _ _ (by omega)).trans ((hf38.1 _ _ (by omega)).trans h28)
         · intro i h0 h1
           first | exact hset i h0 h1 | exact (congrFun (hf38.2.1 _ (by simp) (by simp)) i).trans (hset i h0 h1) | exact (u2_n (Or.inl (by omega))).trans ((congrFun (hf86.2.1 _ (by simp) (by simp)) i).trans (hset i h0 h1)) | exact (u2_n (Or.inl (by omega))).trans ((congrFun (hf86.2.1 _ (by simp) (by simp)) i).trans ((congrFun (hf38.2.1 _ (by simp) (by simp)) i).trans (hset i h0 h1)))
         · intro q v hv
           rw [ec] at hv
           first | (cases hv; done) | (exfalso; omega) | (obtain rfl := Option.some.inj hv; exact u2_s.trans r2v))
    · obtain ⟨R2, e2, b2⟩ := c6 (by omega)
      have g2 := vaZ_of e2
      refine TGo.al0 dX10_isSo_69 rfl ?_
      refine TGo.al0 dX10_isSo_70 rfl ?_
      refine TGo.getS (t := 18) 3 3 (T + 2) (hT 0 (by decide)) rfl fgX10_13_10 dX10_isSo_71 rfl rfl rfl ?_
      refine TGo.il1 dX10_isSo_74 rfl ?_
      refine TGo.ic3 dX10_isSo_75 ?_
      refine TGo.iadd dX10_isSo_76 ?_
      refine TGo.iald dX10_isSo_77 (hT 2 (by decide)) (by omega) rfl ?_
      refine TGo.toz _ (hz.2.1 3 (by decide) _) ?_
      refine TGo.al0 dX10_isSo_78 rfl ?_
      refine TGo.getS (t := 18) 3 3 (T + 2) (hT 0 (by decide)) rfl fgX10_13_10 dX10_isSo_79 rfl rfl rfl ?_
      refine TGo.il1 dX10_isSo_82 rfl ?_
      refine TGo.ic4 dX10_isSo_83 ?_
      refine TGo.iadd dX10_isSo_84 ?_
      refine TGo.iald dX10_isSo_85 (hT 2 (by decide)) (by omega) rfl ?_
      refine TGo.toz _ (hz.2.1 3 (by decide) _) ?_
      refine TGo.cN (csV2 (y2 := mX10_reckonAll) (t := 18) 2 rfl (hT 0 (by decide)) rfl rfl dX10_isSo_86 q2297 q2299 qs74 okX10_reckonAll npX10_reckonAll rfl rfl) (kX10_reckonAll0 (op := opL (z.2 3) L) (ag := agL (z.2 3) L) (val := val) (L := L) hT hz (by first | exact ⟨h15, (hf38.1 _ _ (by omega)).trans h28, hL, fun _ => rfl, fun _ => rfl, fun i h0 h1 => (congrFun (hf38.2.1 _ (by simp) (by simp)) i).trans (hset i h0 h1)⟩ | exact ⟨h15, h28, hL, fun _ => rfl, fun _ => rfl, hset⟩) (by omega) (by omega) hv9 e2) (fun V86 h86 => ?_)
      obtain ⟨hz86, hf86, hr86⟩ := h86
      cases R2
      · have r2 : V86.1 T 32 = 1 := hr86
        have g2 : _ = none := g2
        refine TGo.al0 dX10_isSo_89 rfl ?_
        refine TGo.al0 dX10_isSo_90 rfl ?_
        refine TGo.getJ (t := 18) 33 33 (hT 0 (by decide)) rfl fgX10_411_10 dX10_isSo_91 rfl rfl rfl ?_
        refine TGo.putJ (t := 18) 34 34 (hT 0 (by decide)) rfl fpX10_417_10 dX10_isSo_94 rfl rfl rfl ?_
        refine TGo.al0 dX10_isSo_97 rfl ?_
        refine TGo.getI (t := 18) 32 32 (hT 0 (by decide)) rfl fgX10_397_10 dX10_isSo_98 rfl rfl rfl ?_
        refine TGo.toz 1 r2 ?_
        refine TGo.if_ne 108 dX10_isSo_101 (by decide) (by decide) (fun _ => ?_) (fun h => absurd h (by decide))
        refine TGo.ic0 dX10_isSo_108 ?_
        refine TGo.zret dX10_isSo_109 rfl (by first | exact Or.inl rfl | exact Or.inr rfl | exact bZ_or _ | assumption) ?_
        first
        | (exfalso; omega)
        | (have ec : csZ (z.2 3) L val k = none := by
             unfold csZ
             first
             | (rw [if_pos (by rw [g1]; first | exact ⟨by omega, Or.inl rfl⟩ | exact ⟨by omega, Or.inr (congrArg some (by omega))⟩)])
             | (rw [if_neg (by first | omega | (rw [g1]; rintro ⟨-, q | q⟩ <;> first | (cases q; done) | (have q := Option.some.inj q; omega)))]
                first | rw [if_pos (by omega)] | (rw [if_neg (by omega), g2]))
           refine ⟨_, rfl, rfl, rfl, ?_, (hz86.lf trivial), ?_, ?_, ?_, ?_⟩
           · rw [ec, bZ_f (show ¬ (none : Option Int) ≠ none from fun q => q rfl)]
           · first | exact FrT.rf | exact hf38.t | exact hf86.t.m | exact (hf38.t.tr hf86.t).m
           · first | exact h28 | exact (hf38.1 _ _ (by omega)).trans h28 | exact (hf86.1 _ _ (by omega)).trans h28 | exact (hf86.1 _ _ (by omega)).trans ((hf38.1 _ _ (by omega)).trans h28)
           · intro i h0 h1
             first | exact hset i h0 h1 | exact (congrFun (hf38.2.1 _ (by simp) (by simp)) i).trans (hset i h0 h1) | exact (u2_n (Or.inl (by omega))).trans ((congrFun (hf86.2.1 _ (by simp) (by simp)) i).trans (hset i h0 h1)) | exact (u2_n (Or.inl (by omega))).trans ((congrFun (hf86.2.1 _ (by simp) (by simp)) i).trans ((congrFun (hf38.2.1 _ (by simp) (by simp)) i).trans (hset i h0 h1)))
           · intro q v hv
             rw [ec] at hv
             first | (cases hv; done) | (exfalso; omega) | (obtain rfl := Option.some.inj hv; exact u2_s.trans r2v))
      · rename_i st2
        obtain ⟨r2, r2v⟩ : V86.1 T 32 = 0 ∧ V86.2.1 T 33 = lstZ st2 := hr86
        have g2 : _ = some (lstZ st2) := g2
        refine TGo.al0 dX10_isSo_89 rfl ?_
        refine TGo.al0 dX10_isSo_90 rfl ?_
        refine TGo.getJ (t := 18) 33 33 (hT 0 (by decide)) rfl fgX10_411_10 dX10_isSo_91 rfl rfl rfl ?_
        refine TGo.putJ (t := 18) 34 34 (hT 0 (by decide)) rfl fpX10_417_10 dX10_isSo_94 rfl rfl rfl ?_
        refine TGo.al0 dX10_isSo_97 rfl ?_
        refine TGo.getI (t := 18) 32 32 (hT 0 (by decide)) rfl fgX10_397_10 dX10_isSo_98 rfl rfl rfl ?_
        refine TGo.toz 0 r2 ?_
        refine TGo.if_ne 108 dX10_isSo_101 (by decide) (by decide) (fun h => absurd h (by decide)) (fun _ => ?_)
        refine TGo.ic1 dX10_isSo_104 ?_
        refine TGo.goto 109 dX10_isSo_105 (by decide) ?_
        refine TGo.zret dX10_isSo_109 rfl (by first | exact Or.inl rfl | exact Or.inr rfl | exact bZ_or _ | assumption) ?_
        first
        | (exfalso; omega)
        | (have ec : csZ (z.2 3) L val k = some (lstZ st2) := by
             unfold csZ
             first
             | (rw [if_pos (by rw [g1]; first | exact ⟨by omega, Or.inl rfl⟩ | exact ⟨by omega, Or.inr (congrArg some (by omega))⟩)])
             | (rw [if_neg (by first | omega | (rw [g1]; rintro ⟨-, q | q⟩ <;> first | (cases q; done) | (have q := Option.some.inj q; omega)))]
                first | rw [if_pos (by omega)] | (rw [if_neg (by omega), g2]))
           refine ⟨_, rfl, rfl, rfl, ?_, (hz86.lf trivial), ?_, ?_, ?_, ?_⟩
           · rw [ec, bZ_t (fun q => nomatch q)]
           · first | exact FrT.rf | exact hf38.t | exact hf86.t.m | exact (hf38.t.tr hf86.t).m
           · first | exact h28 | exact (hf38.1 _ _ (by omega)).trans h28 | exact (hf86.1 _ _ (by omega)).trans h28 | exact (hf86.1 _ _ (by omega)).trans ((hf38.1 _ _ (by omega)).trans h28)
           · intro i h0 h1
             first | exact hset i h0 h1 | exact (congrFun (hf38.2.1 _ (by simp) (by simp)) i).trans (hset i h0 h1) | exact (u2_n (Or.inl (by omega))).trans ((congrFun (hf86.2.1 _ (by simp) (by simp)) i).trans (hset i h0 h1)) | exact (u2_n (Or.inl (by omega))).trans ((congrFun (hf86.2.1 _ (by simp) (by simp)) i).trans ((congrFun (hf38.2.1 _ (by simp) (by simp)) i).trans (hset i h0 h1)))
           · intro q v hv
             rw [ec] at hv
             first | (cases hv; done) | (exfalso; omega) | (obtain rfl := Option.some.inj hv; exact u2_s.trans r2v))
  · obtain ⟨R1, e1, b1⟩ := c5 (by omega)
    have g1 := vaZ_of e1
    refine TGo.al0 dX10_isSo_20 rfl ?_
    refine TGo.al0 dX10_isSo_21 rfl ?_
    refine TGo.getS (t := 18) 3 3 (T + 2) (hT 0 (by decide)) rfl fgX10_13_10 dX10_isSo_22 rfl rfl rfl ?_
    refine TGo.il1 dX10_isSo_25 rfl ?_
    refine TGo.ic5 dX10_isSo_26 ?_
    refine TGo.iadd dX10_isSo_27 ?_
    refine TGo.iald dX10_isSo_28 (hT 2 (by decide)) (by omega) rfl ?_
    refine TGo.toz _ (hz.2.1 3 (by decide) _) ?_
    refine TGo.al0 dX10_isSo_29 rfl ?_
    refine TGo.getS (t := 18) 3 3 (T + 2) (hT 0 (by decide)) rfl fgX10_13_10 dX10_isSo_30 rfl rfl rfl ?_
    refine TGo.il1 dX10_isSo_33 rfl ?_
    refine TGo.bip 6 dX10_isSo_34 (by decide) ?_
    refine TGo.iadd dX10_isSo_36 ?_
    refine TGo.iald dX10_isSo_37 (hT 2 (by decide)) (by omega) rfl ?_
    refine TGo.toz _ (hz.2.1 3 (by decide) _) ?_
    refine TGo.cN (csV2 (y2 := mX10_reckonAll) (t := 18) 2 rfl (hT 0 (by decide)) rfl rfl dX10_isSo_38 q2297 q2299 qs74 okX10_reckonAll npX10_reckonAll rfl rfl) (kX10_reckonAll0 (op := opL (z.2 3) L) (ag := agL (z.2 3) L) (val := val) (L := L) hT hz ⟨h15, h28, hL, fun _ => rfl, fun _ => rfl, hset⟩ (by omega) (by omega) hv9 e1) (fun V38 h38 => ?_)
    obtain ⟨hz38, hf38, hr38⟩ := h38
    cases R1
    · have r1 : V38.1 T 32 = 1 := hr38
      have g1 : _ = none := g1
      refine TGo.al0 dX10_isSo_41 rfl ?_
      refine TGo.getI (t := 18) 32 32 (hT 0 (by decide)) rfl fgX10_397_10 dX10_isSo_42 rfl rfl rfl ?_
      refine TGo.toz 1 r1 ?_
      refine TGo.if_ne 57 dX10_isSo_45 (by decide) (by decide) (fun _ => ?_) (fun h => absurd h (by decide))
      refine TGo.ic0 dX10_isSo_57 ?_
      refine TGo.zret dX10_isSo_58 rfl (by first | exact Or.inl rfl | exact Or.inr rfl | exact bZ_or _ | assumption) ?_
      first
      | (exfalso; omega)
      | (have ec : csZ (z.2 3) L val k = none := by
           unfold csZ
           first
           | (rw [if_pos (by rw [g1]; first | exact ⟨by omega, Or.inl rfl⟩ | exact ⟨by omega, Or.inr (congrArg some (by omega))⟩)])
           | (rw [if_neg (by first | omega | (rw [g1]; rintro ⟨-, q | q⟩ <;> first | (cases q; done) | (have q := Option.some.inj q; omega)))]
              first | rw [if_pos (by omega)] | (rw [if_neg (by omega), g2]))
         refine ⟨_, rfl, rfl, rfl, ?_, hz38, ?_, ?_, ?_, ?_⟩
         · rw [ec, bZ_f (show ¬ (none : Option Int) ≠ none from fun q => q rfl)]
         · first | exact FrT.rf | exact hf38.t | exact hf86.t.m | exact (hf38.t.tr hf86.t).m
         · first | exact h28 | exact (hf38.1 _ _ (by omega)).trans h28 | exact (hf86.1 _ _ (by omega)).trans h28 | exact (hf86.1 _ _ (by omega)).trans ((hf38.1 _ _ (by omega)).trans h28)
         · intro i h0 h1
           first | exact hset i h0 h1 | exact (congrFun (hf38.2.1 _ (by simp) (by simp)) i).trans (hset i h0 h1) | exact (u2_n (Or.inl (by omega))).trans ((congrFun (hf86.2.1 _ (by simp) (by simp)) i).trans (hset i h0 h1)) | exact (u2_n (Or.inl (by omega))).trans ((congrFun (hf86.2.1 _ (by simp) (by simp)) i).trans ((congrFun (hf38.2.1 _ (by simp) (by simp)) i).trans (hset i h0 h1)))
         · intro q v hv
           rw [ec] at hv
           first | (cases hv; done) | (exfalso; omega) | (obtain rfl := Option.some.inj hv; exact u2_s.trans r2v))
    · rename_i st1
      obtain ⟨r1, r1v⟩ : V38.1 T 32 = 0 ∧ V38.2.1 T 33 = lstZ st1 := hr38
      have b1 := b1 st1 rfl
      have g1 : _ = some (lstZ st1) := g1
      refine TGo.al0 dX10_isSo_41 rfl ?_
      refine TGo.getI (t := 18) 32 32 (hT 0 (by decide)) rfl fgX10_397_10 dX10_isSo_42 rfl rfl rfl ?_
      refine TGo.toz 0 r1 ?_
      refine TGo.if_ne 57 dX10_isSo_45 (by decide) (by decide) (fun h => absurd h (by decide)) (fun _ => ?_)
      refine TGo.al0 dX10_isSo_48 rfl ?_
      refine TGo.getJ (t := 18) 33 33 (hT 0 (by decide)) rfl fgX10_411_10 dX10_isSo_49 rfl rfl rfl ?_
      refine TGo.tol _ r1v ?_
      refine TGo.lc0 dX10_isSo_52 ?_
      refine TGo.lc_ne 59 dX10_isSo_53 dX10_isSo_54 (by decide) (by omega) (fun h53 => ?_) (fun h53 => ?_)
      · refine TGo.al0 dX10_isSo_59 rfl ?_
        refine TGo.getS (t := 18) 3 3 (T + 2) (hT 0 (by decide)) rfl fgX10_13_10 dX10_isSo_60 rfl rfl rfl ?_
        refine TGo.il1 dX10_isSo_63 rfl ?_
        refine TGo.iald dX10_isSo_64 (hT 2 (by decide)) (by omega) rfl ?_
        refine TGo.toz _ (hz38.2.1 3 (by decide) _) ?_
        refine TGo.ic2 dX10_isSo_65 ?_
        refine TGo.icmp_eq 110 dX10_isSo_66 (by decide) (by omega) (fun h66 => ?_) (fun h66 => ?_)
        · refine TGo.ic1 dX10_isSo_110 ?_
          refine TGo.zret dX10_isSo_111 rfl (by first | exact Or.inl rfl | exact Or.inr rfl | exact bZ_or _ | assumption) ?_
          first
          | (exfalso; omega)
          | (have ec : csZ (z.2 3) L val k = some 1 := by
               unfold csZ
               first
               | (rw [if_pos (by rw [g1]; first | exact ⟨by omega, Or.inl rfl⟩ | exact ⟨by omega, Or.inr (congrArg some (by omega))⟩)])
               | (rw [if_neg (by first | omega | (rw [g1]; rintro ⟨-, q | q⟩ <;> first | (cases q; done) | (have q := Option.some.inj q; omega)))]
                  first | rw [if_pos (by omega)] | (rw [if_neg (by omega), g2]))
             refine ⟨_, rfl, rfl, rfl, ?_, hz38, ?_, ?_, ?_, ?_⟩
             · rw [ec, bZ_t (fun q => nomatch q)]
             · first | exact FrT.rf | exact hf38.t | exact hf86.t.m | exact (hf38.t.tr hf86.t).m
             · first | exact h28 | exact (hf38.1 _ _ (by omega)).trans h28 | exact (hf86.1 _ _ (by omega)).trans h28 | exact (hf86.1 _ _ (by omega)).trans ((hf38.1 _ _ (by omega)).trans h28)
             · intro i h0 h1
               first | exact hset i h0 h1 | exact (congrFun (hf38.2.1 _ (by simp) (by simp)) i).trans (hset i h0 h1) | exact (u2_n (Or.inl (by omega))).trans ((congrFun (hf86.2.1 _ (by simp) (by simp)) i).trans (hset i h0 h1)) | exact (u2_n (Or.inl (by omega))).trans ((congrFun (hf86.2.1 _ (by simp) (by simp)) i).trans ((congrFun (hf38.2.1 _ (by simp) (by simp)) i).trans (hset i h0 h1)))
             · intro q v hv
               rw [ec] at hv
               first | (cases hv; done) | (exfalso; omega) | (obtain rfl := Option.some.inj hv; exact u2_s.trans r2v))
        · obtain ⟨R2, e2, b2⟩ := c6 (by omega)
          have g2 := vaZ_of e2
          refine TGo.al0 dX10_isSo_69 rfl ?_
          refine TGo.al0 dX10_isSo_70 rfl ?_
          refine TGo.getS (t := 18) 3 3 (T + 2) (hT 0 (by decide)) rfl fgX10_13_10 dX10_isSo_71 rfl rfl rfl ?_
          refine TGo.il1 dX10_isSo_74 rfl ?_
          refine TGo.ic3 dX10_isSo_75 ?_
          refine TGo.iadd dX10_isSo_76 ?_
          refine TGo.iald dX10_isSo_77 (hT 2 (by decide)) (by omega) rfl ?_
          refine TGo.toz _ (hz38.2.1 3 (by decide) _) ?_
          refine TGo.al0 dX10_isSo_78 rfl ?_
          refine TGo.getS (t := 18) 3 3 (T + 2) (hT 0 (by decide)) rfl fgX10_13_10 dX10_isSo_79 rfl rfl rfl ?_
          refine TGo.il1 dX10_isSo_82 rfl ?_
          refine TGo.ic4 dX10_isSo_83 ?_
          refine TGo.iadd dX10_isSo_84 ?_
          refine TGo.iald dX10_isSo_85 (hT 2 (by decide)) (by omega) rfl ?_
          refine TGo.toz _ (hz38.2.1 3 (by decide) _) ?_
          refine TGo.cN (csV2 (y2 := mX10_reckonAll) (t := 18) 2 rfl (hT 0 (by decide)) rfl rfl dX10_isSo_86 q2297 q2299 qs74 okX10_reckonAll npX10_reckonAll rfl rfl) (kX10_reckonAll0 (op := opL (z.2 3) L) (ag := agL (z.2 3) L) (val := val) (L := L) hT hz38 (by first | exact ⟨h15, (hf38.1 _ _ (by omega)).trans h28, hL, fun _ => rfl, fun _ => rfl, fun i h0 h1 => (congrFun (hf38.2.1 _ (by simp) (by simp)) i).trans (hset i h0 h1)⟩ | exact ⟨h15, h28, hL, fun _ => rfl, fun _ => rfl, hset⟩) (by omega) (by omega) hv9 e2) (fun V86 h86 => ?_)
          obtain ⟨hz86, hf86, hr86⟩ := h86
          cases R2
          · have r2 : V86.1 T 32 = 1 := hr86
            have g2 : _ = none := g2
            refine TGo.al0 dX10_isSo_89 rfl ?_
            refine TGo.al0 dX10_isSo_90 rfl ?_
            refine TGo.getJ (t := 18) 33 33 (hT 0 (by decide)) rfl fgX10_411_10 dX10_isSo_91 rfl rfl rfl ?_
            refine TGo.putJ (t := 18) 34 34 (hT 0 (by decide)) rfl fpX10_417_10 dX10_isSo_94 rfl rfl rfl ?_
            refine TGo.al0 dX10_isSo_97 rfl ?_
            refine TGo.getI (t := 18) 32 32 (hT 0 (by decide)) rfl fgX10_397_10 dX10_isSo_98 rfl rfl rfl ?_
            refine TGo.toz 1 r2 ?_
            refine TGo.if_ne 108 dX10_isSo_101 (by decide) (by decide) (fun _ => ?_) (fun h => absurd h (by decide))
            refine TGo.ic0 dX10_isSo_108 ?_
            refine TGo.zret dX10_isSo_109 rfl (by first | exact Or.inl rfl | exact Or.inr rfl | exact bZ_or _ | assumption) ?_
            first
            | (exfalso; omega)
            | (have ec : csZ (z.2 3) L val k = none := by
                 unfold csZ
                 first
                 | (rw [if_pos (by rw [g1]; first | exact ⟨by omega, Or.inl rfl⟩ | exact ⟨by omega, Or.inr (congrArg some (by omega))⟩)])
                 | (rw [if_neg (by first | omega | (rw [g1]; rintro ⟨-, q | q⟩ <;> first | (cases q; done) | (have q := Option.some.inj q; omega)))]
                    first | rw [if_pos (by omega)] | (rw [if_neg (by omega), g2]))
               refine ⟨_, rfl, rfl, rfl, ?_, (hz86.lf trivial), ?_, ?_, ?_, ?_⟩
               · rw [ec, bZ_f (show ¬ (none : Option Int) ≠ none from fun q => q rfl)]
               · first | exact FrT.rf | exact hf38.t | exact hf86.t.m | exact (hf38.t.tr hf86.t).m
               · first | exact h28 | exact (hf38.1 _ _ (by omega)).trans h28 | exact (hf86.1 _ _ (by omega)).trans h28 | exact (hf86.1 _ _ (by omega)).trans ((hf38.1 _ _ (by omega)).trans h28)
               · intro i h0 h1
                 first | exact hset i h0 h1 | exact (congrFun (hf38.2.1 _ (by simp) (by simp)) i).trans (hset i h0 h1) | exact (u2_n (Or.inl (by omega))).trans ((congrFun (hf86.2.1 _ (by simp) (by simp)) i).trans (hset i h0 h1)) | exact (u2_n (Or.inl (by omega))).trans ((congrFun (hf86.2.1 _ (by simp) (by simp)) i).trans ((congrFun (hf38.2.1 _ (by simp) (by simp)) i).trans (hset i h0 h1)))
               · intro q v hv
                 rw [ec] at hv
                 first | (cases hv; done) | (exfalso; omega) | (obtain rfl := Option.some.inj hv; exact u2_s.trans r2v))
          · rename_i st2
            obtain ⟨r2, r2v⟩ : V86.1 T 32 = 0 ∧ V86.2.1 T 33 = lstZ st2 := hr86
            have g2 : _ = some (lstZ st2) := g2
            refine TGo.al0 dX10_isSo_89 rfl ?_
            refine TGo.al0 dX10_isSo_90 rfl ?_
            refine TGo.getJ (t := 18) 33 33 (hT 0 (by decide)) rfl fgX10_411_10 dX10_isSo_91 rfl rfl rfl ?_
            refine TGo.putJ (t := 18) 34 34 (hT 0 (by decide)) rfl fpX10_417_10 dX10_isSo_94 rfl rfl rfl ?_
            refine TGo.al0 dX10_isSo_97 rfl ?_
            refine TGo.getI (t := 18) 32 32 (hT 0 (by decide)) rfl fgX10_397_10 dX10_isSo_98 rfl rfl rfl ?_
            refine TGo.toz 0 r2 ?_
            refine TGo.if_ne 108 dX10_isSo_101 (by decide) (by decide) (fun h => absurd h (by decide)) (fun _ => ?_)
            refine TGo.ic1 dX10_isSo_104 ?_
            refine TGo.goto 109 dX10_isSo_105 (by decide) ?_
            refine TGo.zret dX10_isSo_109 rfl (by first | exact Or.inl rfl | exact Or.inr rfl | exact bZ_or _ | assumption) ?_
            first
            | (exfalso; omega)
            | (have ec : csZ (z.2 3) L val k = some (lstZ st2) := by
                 unfold csZ
                 first
                 | (rw [if_pos (by rw [g1]; first | exact ⟨by omega, Or.inl rfl⟩ | exact ⟨by omega, Or.inr (congrArg some (by omega))⟩)])
                 | (rw [if_neg (by first | omega | (rw [g1]; rintro ⟨-, q | q⟩ <;> first | (cases q; done) | (have q := Option.some.inj q; omega)))]
                    first | rw [if_pos (by omega)] | (rw [if_neg (by omega), g2]))
               refine ⟨_, rfl, rfl, rfl, ?_, (hz86.lf trivial), ?_, ?_, ?_, ?_⟩
               · rw [ec, bZ_t (fun q => nomatch q)]
               · first | exact FrT.rf | exact hf38.t | exact hf86.t.m | exact (hf38.t.tr hf86.t).m
               · first | exact h28 | exact (hf38.1 _ _ (by omega)).trans h28 | exact (hf86.1 _ _ (by omega)).trans h28 | exact (hf86.1 _ _ (by omega)).trans ((hf38.1 _ _ (by omega)).trans h28)
               · intro i h0 h1
                 first | exact hset i h0 h1 | exact (congrFun (hf38.2.1 _ (by simp) (by simp)) i).trans (hset i h0 h1) | exact (u2_n (Or.inl (by omega))).trans ((congrFun (hf86.2.1 _ (by simp) (by simp)) i).trans (hset i h0 h1)) | exact (u2_n (Or.inl (by omega))).trans ((congrFun (hf86.2.1 _ (by simp) (by simp)) i).trans ((congrFun (hf38.2.1 _ (by simp) (by simp)) i).trans (hset i h0 h1)))
               · intro q v hv
                 rw [ec] at hv
                 first | (cases hv; done) | (exfalso; omega) | (obtain rfl := Option.some.inj hv; exact u2_s.trans r2v))
      · refine TGo.ic0 dX10_isSo_57 ?_
        refine TGo.zret dX10_isSo_58 rfl (by first | exact Or.inl rfl | exact Or.inr rfl | exact bZ_or _ | assumption) ?_
        first
        | (exfalso; omega)
        | (have ec : csZ (z.2 3) L val k = none := by
             unfold csZ
             first
             | (rw [if_pos (by rw [g1]; first | exact ⟨by omega, Or.inl rfl⟩ | exact ⟨by omega, Or.inr (congrArg some (by omega))⟩)])
             | (rw [if_neg (by first | omega | (rw [g1]; rintro ⟨-, q | q⟩ <;> first | (cases q; done) | (have q := Option.some.inj q; omega)))]
                first | rw [if_pos (by omega)] | (rw [if_neg (by omega), g2]))
           refine ⟨_, rfl, rfl, rfl, ?_, hz38, ?_, ?_, ?_, ?_⟩
           · rw [ec, bZ_f (show ¬ (none : Option Int) ≠ none from fun q => q rfl)]
           · first | exact FrT.rf | exact hf38.t | exact hf86.t.m | exact (hf38.t.tr hf86.t).m
           · first | exact h28 | exact (hf38.1 _ _ (by omega)).trans h28 | exact (hf86.1 _ _ (by omega)).trans h28 | exact (hf86.1 _ _ (by omega)).trans ((hf38.1 _ _ (by omega)).trans h28)
           · intro i h0 h1
             first | exact hset i h0 h1 | exact (congrFun (hf38.2.1 _ (by simp) (by simp)) i).trans (hset i h0 h1) | exact (u2_n (Or.inl (by omega))).trans ((congrFun (hf86.2.1 _ (by simp) (by simp)) i).trans (hset i h0 h1)) | exact (u2_n (Or.inl (by omega))).trans ((congrFun (hf86.2.1 _ (by simp) (by simp)) i).trans ((congrFun (hf38.2.1 _ (by simp) (by simp)) i).trans (hset i h0 h1)))
           · intro q v hv
             rw [ec] at hv
             first | (cases hv; done) | (exfalso; omega) | (obtain rfl := Option.some.inj hv; exact u2_s.trans r2v))
theorem csZ_r {f : Int → Int} {L k : Int} {val : Int → Int} (hc : ClZ f L k) (hv : B9Z val) {v : Int} (h : csZ f L val k = some v) : (-1000000000 ≤ v ∧ v ≤ 1000000000) ∧ (f k = 2 → v = 1) := by
  obtain ⟨c1, c2, c3, c4⟩ := hc
  obtain ⟨c5, c6⟩ := c4 val hv
  unfold csZ at h
  split at h
  · cases h
  · split at h
    · cases h; exact ⟨by omega, fun _ => rfl⟩
    · rename_i q
      obtain ⟨R, e, b⟩ := c6 q
      rw [vaZ_of e] at h
      cases R with
      | none => cases h
      | some st =>
        have h : some (lstZ st) = some v := h
        obtain rfl := Option.some.inj h
        exact ⟨b st rfl, fun q2 => absurd q2 q⟩
theorem tlZ_r {f : Int → Int} {L h : Int} {val : Int → Int} {w : Int} (hL : LwZ f L) (hv : B9Z val) (hw : -1000000000 ≤ w ∧ w ≤ 1000000000) : ∀ c : Nat, (c : Int) ≤ f (L + 1) → -1000000000 ≤ tlZ f L h val w c ∧ tlZ f L h val w c ≤ 1000000000 := by
  intro c
  induction c with
  | zero => exact fun _ => hw
  | succ c ih =>
    intro hc
    have h1 := ih (by omega)
    rw [tlZ]
    split
    · split
      · rename_i v hv2
        exact (csZ_r (hL.2 (c : Int) (by omega) (by omega)) hv hv2).1
      · exact h1
    · exact h1
theorem tlZ_y {f : Int → Int} {L h : Int} {val : Int → Int} {w v : Int} {c : Nat} (h1 : f (L + 2 + 8 * (c : Int)) = h) (h2 : csZ f L val (L + 2 + 8 * (c : Int)) = some v) : tlZ f L h val w (c + 1) = v := by rw [tlZ, if_pos h1, h2]
theorem tlZ_n {f : Int → Int} {L h : Int} {val : Int → Int} {w : Int} {c : Nat} (h2 : f (L + 2 + 8 * (c : Int)) ≠ h ∨ csZ f L val (L + 2 + 8 * (c : Int)) = none) : tlZ f L h val w (c + 1) = tlZ f L h val w c := by
  rw [tlZ]
  by_cases e : f (L + 2 + 8 * (c : Int)) = h
  · rw [if_pos e]
    rcases h2 with q | q
    · exact absurd e q
    · rw [q]
  · rw [if_neg e]
set_option maxHeartbeats 4000000 in
theorem lX10_tells {E : ET} {sh : SHT} {nn : Nat × Nat} {T : Nat} {z : ZT} {h p a t y w L : Int} {val : Int → Int} {V0 : VT} {m : Nat} (hT : MSh T sh) (h15 : z.1 15 = 0) (hL : 0 ≤ L ∧ L ≤ 5280) (hv9 : B9Z val) (hlw : LwZ (z.2 3) L) (hm : z.2 3 (L + 1) = (m : Int)) (hh : 0 ≤ h ∧ h ≤ 2) (hw : -1000000000 ≤ w ∧ w ≤ 1000000000) : ∀ (n j : Nat) (V : VT) (x : Option Value), m - j < n → j ≤ m → PE T V z → (FrT T V0 V ∧ V.1 T 28 = L ∧ ∀ i, 1 ≤ i → i ≤ 8 → V.2.1 (T + 13) i = val i) → TGo E mX10_tells 4 134 [some (.ref T), some (.int (iI h)), some (.int (iI p)), some (.int (iI a)), some (.int (iI t)), some (.int (iI y)), some (.long (lI w)), none, some (.long (lI (tlZ (z.2 3) L h val w (j)))), none, some (.int (iI (((j) : Nat) : Int))), x] [] sh nn V (fun o sh' nn' V' => ∃ v, o = .inl (some v) ∧ sh' = sh ∧ nn' = nn ∧ (fun v V' => v = .long (lI (tlZ (z.2 3) L h val w m)) ∧ PE T V' z ∧ FrT T V0 V' ∧ -1000000000 ≤ tlZ (z.2 3) L h val w m ∧ tlZ (z.2 3) L h val w m ≤ 1000000000) v V') := by
  intro n
  induction n with
  | zero => intro j V x h; omega
  | succ n ih =>
    intro j V x hn hj hz hx
    obtain ⟨hfr, h28, hset⟩ := hx
    have hml := hlw.1
    have htr := tlZ_r (h := h) hlw hv9 hw j (by omega)
    refine TGo.il dX10_tells_134 rfl ?_
    refine TGo.al0 dX10_tells_136 rfl ?_
    refine TGo.getS (t := 18) 3 3 (T + 2) (hT 0 (by decide)) rfl fgX10_13_10 dX10_tells_137 rfl rfl rfl ?_
    refine TGo.al0 dX10_tells_140 rfl ?_
    refine TGo.getI (t := 18) 28 28 (hT 0 (by decide)) rfl fgX10_400_10 dX10_tells_141 rfl rfl rfl ?_
    refine TGo.toz _ h28 ?_
    refine TGo.ic1 dX10_tells_144 ?_
    refine TGo.iadd dX10_tells_145 ?_
    refine TGo.iald dX10_tells_146 (hT 2 (by decide)) (by omega) rfl ?_
    refine TGo.toz _ (hz.2.1 3 (by decide) _) ?_
    refine TGo.icmp_ge 205 dX10_tells_147 (by decide) (by omega) (fun h147 => ?_) (fun h147 => ?_)
    · refine TGo.ll dX10_tells_205 rfl ?_
      refine TGo.lret dX10_tells_207 rfl ?_
      obtain rfl : j = m := by omega
      exact ⟨_, rfl, rfl, rfl, rfl, hz, hfr, htr⟩
    · have hcl := hlw.2 (j : Int) (by omega) (by omega)
      have hcl1 := hcl.1
      refine TGo.al0 dX10_tells_150 rfl ?_
      refine TGo.getI (t := 18) 28 28 (hT 0 (by decide)) rfl fgX10_400_10 dX10_tells_151 rfl rfl rfl ?_
      refine TGo.toz _ h28 ?_
      refine TGo.ic2 dX10_tells_154 ?_
      refine TGo.iadd dX10_tells_155 ?_
      refine TGo.bip 8 dX10_tells_156 (by decide) ?_
      refine TGo.il dX10_tells_158 rfl ?_
      refine TGo.imul dX10_tells_160 ?_
      refine TGo.iadd dX10_tells_161 ?_
      refine TGo.is dX10_tells_162 rfl rfl ?_
      refine TGo.al0 dX10_tells_164 rfl ?_
      refine TGo.getS (t := 18) 3 3 (T + 2) (hT 0 (by decide)) rfl fgX10_13_10 dX10_tells_165 rfl rfl rfl ?_
      refine TGo.il dX10_tells_168 rfl ?_
      refine TGo.iald dX10_tells_170 (hT 2 (by decide)) (by omega) rfl ?_
      refine TGo.toz _ (hz.2.1 3 (by decide) _) ?_
      refine TGo.il1 dX10_tells_171 rfl ?_
      refine TGo.icmp_ne 199 dX10_tells_172 (by decide) (by omega) (fun h172 => ?_) (fun h172 => ?_)
      · refine TGo.iinc dX10_tells_199 rfl rfl rfl ?_
        refine TGo.goto 134 dX10_tells_202 (by decide) ?_
        first | (exfalso; omega) | exact TGo.seq [some (.ref T), some (.int (iI h)), some (.int (iI p)), some (.int (iI a)), some (.int (iI t)), some (.int (iI y)), some (.long (lI w)), none, some (.long (lI (tlZ (z.2 3) L h val w ((j + 1))))), none, some (.int (iI ((((j + 1)) : Nat) : Int))), _] [] _ (by
          first
          | (rw [tlZ_n (Or.inl (by omega))]; rfl)
          | (rw [tlZ_n (Or.inr (Classical.not_not.mp h181))]; rfl)
          | (obtain ⟨v, hv⟩ := Option.ne_none_iff_exists'.mp h181
             have hr := csZ_r hcl hv9 hv
             rw [tlZ_y (by omega) hv]
             first
             | (rw [hr.2 (by omega)]; rfl)
             | (rw [← hsum (by omega) v hv]; rfl))) rfl rfl (ih (j + 1) _ _ (by omega) (by omega) hz (by first | exact ⟨hfr, h28, hset⟩ | exact ⟨hfr.tr hf178, g28, gset⟩))
      · refine TGo.al0 dX10_tells_175 rfl ?_
        refine TGo.il dX10_tells_176 rfl ?_
        refine TGo.cS (csV1 (y2 := mX10_isSo) (t := 18) 3 rfl (hT 0 (by decide)) rfl rfl dX10_tells_178 q2293 q2295 qs73 okX10_isSo npX10_isSo rfl rfl) (kX10_isSo (L := L) (val := val) hT hz (by omega) hcl h15 h28 hL hset hv9) (fun v178 V178 h178 => ?_)
        obtain ⟨rfl, hz178, hf178, g28, gset, hsum⟩ := h178
        refine TGo.ifb_eq 199 dX10_tells_181 (by decide) (fun h181 => ?_) (fun h181 => ?_)
        · refine TGo.iinc dX10_tells_199 rfl rfl rfl ?_
          refine TGo.goto 134 dX10_tells_202 (by decide) ?_
          first | (exfalso; omega) | exact TGo.seq [some (.ref T), some (.int (iI h)), some (.int (iI p)), some (.int (iI a)), some (.int (iI t)), some (.int (iI y)), some (.long (lI w)), none, some (.long (lI (tlZ (z.2 3) L h val w ((j + 1))))), none, some (.int (iI ((((j + 1)) : Nat) : Int))), _] [] _ (by
            first
            | (rw [tlZ_n (Or.inl (by omega))]; rfl)
            | (rw [tlZ_n (Or.inr (Classical.not_not.mp h181))]; rfl)
            | (obtain ⟨v, hv⟩ := Option.ne_none_iff_exists'.mp h181
               have hr := csZ_r hcl hv9 hv
               rw [tlZ_y (by omega) hv]
               first
               | (rw [hr.2 (by omega)]; rfl)
               | (rw [← hsum (by omega) v hv]; rfl))) rfl rfl (ih (j + 1) _ _ (by omega) (by omega) hz178 (by first | exact ⟨hfr, h28, hset⟩ | exact ⟨hfr.tr hf178, g28, gset⟩))
        · refine TGo.il1 dX10_tells_184 rfl ?_
          refine TGo.ic2 dX10_tells_185 ?_
          refine TGo.icmp_ne 193 dX10_tells_186 (by decide) (by omega) (fun h186 => ?_) (fun h186 => ?_)
          · refine TGo.al0 dX10_tells_193 rfl ?_
            refine TGo.getJ (t := 18) 34 34 (hT 0 (by decide)) rfl fgX10_417_10 dX10_tells_194 rfl rfl rfl ?_
            refine TGo.ls dX10_tells_197 rfl rfl ?_
            refine TGo.iinc dX10_tells_199 rfl rfl rfl ?_
            refine TGo.goto 134 dX10_tells_202 (by decide) ?_
            first | (exfalso; omega) | exact TGo.seq [some (.ref T), some (.int (iI h)), some (.int (iI p)), some (.int (iI a)), some (.int (iI t)), some (.int (iI y)), some (.long (lI w)), none, some (.long (lI (tlZ (z.2 3) L h val w ((j + 1))))), none, some (.int (iI ((((j + 1)) : Nat) : Int))), _] [] _ (by
              first
              | (rw [tlZ_n (Or.inl (by omega))]; rfl)
              | (rw [tlZ_n (Or.inr (Classical.not_not.mp h181))]; rfl)
              | (obtain ⟨v, hv⟩ := Option.ne_none_iff_exists'.mp h181
                 have hr := csZ_r hcl hv9 hv
                 rw [tlZ_y (by omega) hv]
                 first
                 | (rw [hr.2 (by omega)]; rfl)
                 | (rw [← hsum (by omega) v hv]; rfl))) rfl rfl (ih (j + 1) _ _ (by omega) (by omega) hz178 (by first | exact ⟨hfr, h28, hset⟩ | exact ⟨hfr.tr hf178, g28, gset⟩))
          · refine TGo.lc1 dX10_tells_189 ?_
            refine TGo.goto 197 dX10_tells_190 (by decide) ?_
            refine TGo.ls dX10_tells_197 rfl rfl ?_
            refine TGo.iinc dX10_tells_199 rfl rfl rfl ?_
            refine TGo.goto 134 dX10_tells_202 (by decide) ?_
            first | (exfalso; omega) | exact TGo.seq [some (.ref T), some (.int (iI h)), some (.int (iI p)), some (.int (iI a)), some (.int (iI t)), some (.int (iI y)), some (.long (lI w)), none, some (.long (lI (tlZ (z.2 3) L h val w ((j + 1))))), none, some (.int (iI ((((j + 1)) : Nat) : Int))), _] [] _ (by
              first
              | (rw [tlZ_n (Or.inl (by omega))]; rfl)
              | (rw [tlZ_n (Or.inr (Classical.not_not.mp h181))]; rfl)
              | (obtain ⟨v, hv⟩ := Option.ne_none_iff_exists'.mp h181
                 have hr := csZ_r hcl hv9 hv
                 rw [tlZ_y (by omega) hv]
                 first
                 | (rw [hr.2 (by omega)]; rfl)
                 | (rw [← hsum (by omega) v hv]; rfl))) rfl rfl (ih (j + 1) _ _ (by omega) (by omega) hz178 (by first | exact ⟨hfr, h28, hset⟩ | exact ⟨hfr.tr hf178, g28, gset⟩))
/-- all laws are in order -/
def LawsZ (f : Int → Int) : Prop := ∀ l, 0 ≤ l → l < f 3 → LwZ f (780 + 900 * l)
theorem valZ_9 {f : Int → Int} (W : RWZ f) {p a t y : Int} (hp : 0 ≤ p ∧ p < f 1) (ha : 0 ≤ a ∧ a ≤ 6) (ht : -1 ≤ t ∧ t ≤ 8) (hy : 0 ≤ y ∧ y ≤ 300) : B9Z (valZ f p a t y) := by
  intro i _ _
  have h := W.2.2.2.1 p hp.1 hp.2
  have h8 := W.1.2.2.2.2.2.2.2.2.1
  have h1 := W.1.2.1
  unfold valZ
  repeat' split
  all_goals omega
theorem tellZ_r {f : Int → Int} (W : RWZ f) (WL : LawsZ f) {h p a t y w : Int} (hp : 0 ≤ p ∧ p < f 1) (ha : 0 ≤ a ∧ a ≤ 6) (ht : -1 ≤ t ∧ t ≤ 8) (hy : 0 ≤ y ∧ y ≤ 300) (hw : -1000000000 ≤ w ∧ w ≤ 1000000000) : -1000000000 ≤ tellZ f h p a t y w ∧ tellZ f h p a t y w ≤ 1000000000 := by
  have h4 := W.1.2.2.2.2.1
  unfold tellZ
  split
  · exact hw
  · have q := WL (f 4) (by omega) (by omega)
    exact tlZ_r q (valZ_9 W hp ha ht hy) hw _ (by have := q.1; omega)
set_option maxHeartbeats 4000000 in
theorem kX10_tells {E : ET} {sh : SHT} {nn : Nat × Nat} {V : VT} {T : Nat} {z : ZT} {h p a t y w : Int} (hT : MSh T sh) (hz : PE T V z) (W : RWZ (z.2 3)) (WL : LawsZ (z.2 3)) (h15 : z.1 15 = 0) (hp : 0 ≤ p ∧ p < z.2 3 1) (ha : 0 ≤ a ∧ a ≤ 6) (ht : -1 ≤ t ∧ t ≤ 8) (hy : 0 ≤ y ∧ y ≤ 300) (hh : 0 ≤ h ∧ h ≤ 2) (hw : -1000000000 ≤ w ∧ w ≤ 1000000000) : TS E mX10_tells 4 [.ref T, .int (iI h), .int (iI p), .int (iI a), .int (iI t), .int (iI y), .long (lI w)] sh nn V (fun v V' => v = .long (lI (tellZ (z.2 3) h p a t y w)) ∧ PE T V' z ∧ FrT T V V' ∧ -1000000000 ≤ tellZ (z.2 3) h p a t y w ∧ tellZ (z.2 3) h p a t y w ≤ 1000000000) := by
  have w1 := W.1.2.1
  have w3 := W.1.2.2.2.1
  have w4 := W.1.2.2.2.2.1
  have w8 := W.1.2.2.2.2.2.2.2.2.1
  have wp := W.2.2.2.1 p hp.1 hp.2
  have hq := tellZ_r (h := h) W WL hp ha ht hy hw
  refine TC.intro [some (.ref T), some (.int (iI h)), some (.int (iI p)), some (.int (iI a)), some (.int (iI t)), some (.int (iI y)), some (.long (lI w)), none, none, none, none, none] rfl ?_
  refine TGo.al0 dX10_tells_0 rfl ?_
  refine TGo.getS (t := 18) 3 3 (T + 2) (hT 0 (by decide)) rfl fgX10_13_10 dX10_tells_1 rfl rfl rfl ?_
  refine TGo.ic4 dX10_tells_4 ?_
  refine TGo.iald dX10_tells_5 (hT 2 (by decide)) (by omega) rfl ?_
  refine TGo.toz _ (hz.2.1 3 (by decide) _) ?_
  refine TGo.icm1 dX10_tells_6 ?_
  refine TGo.icmp_ne 13 dX10_tells_7 (by decide) (by omega) (fun h7 => ?_) (fun h7 => ?_)
  · refine TGo.al0 dX10_tells_13 rfl ?_
    refine TGo.sip 780 dX10_tells_14 (by decide) ?_
    refine TGo.sip 900 dX10_tells_17 (by decide) ?_
    refine TGo.al0 dX10_tells_20 rfl ?_
    refine TGo.getS (t := 18) 3 3 (T + 2) (hT 0 (by decide)) rfl fgX10_13_10 dX10_tells_21 rfl rfl rfl ?_
    refine TGo.ic4 dX10_tells_24 ?_
    refine TGo.iald dX10_tells_25 (hT 2 (by decide)) (by omega) rfl ?_
    refine TGo.toz _ (hz.2.1 3 (by decide) _) ?_
    refine TGo.imul dX10_tells_26 ?_
    refine TGo.iadd dX10_tells_27 ?_
    refine TGo.putI (t := 18) 28 28 (hT 0 (by decide)) rfl fpX10_400_10 dX10_tells_28 rfl rfl rfl ?_
    refine TGo.al0 dX10_tells_31 rfl ?_
    refine TGo.getS (t := 18) 29 29 (T + 13) (hT 0 (by decide)) rfl fgX10_76_10 dX10_tells_32 rfl rfl rfl ?_
    refine TGo.ic1 dX10_tells_35 ?_
    refine TGo.il2 dX10_tells_36 rfl ?_
    refine TGo.i2l dX10_tells_37 (by omega) ?_
    refine TGo.last dX10_tells_38 (hT 13 (by decide)) (by omega) rfl ?_
    refine TGo.al0 dX10_tells_39 rfl ?_
    refine TGo.getS (t := 18) 29 29 (T + 13) (hT 0 (by decide)) rfl fgX10_76_10 dX10_tells_40 rfl rfl rfl ?_
    refine TGo.ic2 dX10_tells_43 ?_
    refine TGo.al0 dX10_tells_44 rfl ?_
    refine TGo.getS (t := 18) 3 3 (T + 2) (hT 0 (by decide)) rfl fgX10_13_10 dX10_tells_45 rfl rfl rfl ?_
    refine TGo.sip 238 dX10_tells_48 (by decide) ?_
    refine TGo.ic3 dX10_tells_51 ?_
    refine TGo.il2 dX10_tells_52 rfl ?_
    refine TGo.imul dX10_tells_53 ?_
    refine TGo.iadd dX10_tells_54 ?_
    refine TGo.ic2 dX10_tells_55 ?_
    refine TGo.iadd dX10_tells_56 ?_
    refine TGo.iald dX10_tells_57 (hT 2 (by decide)) (by omega) rfl ?_
    refine TGo.toz _ ((u2_n (Or.inl (by omega))).trans (hz.2.1 3 (by decide) _)) ?_
    refine TGo.i2l dX10_tells_58 (by omega) ?_
    refine TGo.last dX10_tells_59 (hT 13 (by decide)) (by omega) rfl ?_
    refine TGo.al0 dX10_tells_60 rfl ?_
    refine TGo.getS (t := 18) 29 29 (T + 13) (hT 0 (by decide)) rfl fgX10_76_10 dX10_tells_61 rfl rfl rfl ?_
    refine TGo.ic3 dX10_tells_64 ?_
    refine TGo.al0 dX10_tells_65 rfl ?_
    refine TGo.il2 dX10_tells_66 rfl ?_
    refine TGo.cF (csV1 (y2 := mX10_born) (t := 18) 1 rfl (hT 0 (by decide)) rfl rfl dX10_tells_67 q2113 q2115 qs45 okX10_born npX10_born rfl rfl) (kX10_born hT (((hz.s rfl).la 13 rfl).la 13 rfl) (by omega)) ?_
    refine TGo.i2l dX10_tells_70 (by omega) ?_
    refine TGo.last dX10_tells_71 (hT 13 (by decide)) (by omega) rfl ?_
    refine TGo.al0 dX10_tells_72 rfl ?_
    refine TGo.getS (t := 18) 29 29 (T + 13) (hT 0 (by decide)) rfl fgX10_76_10 dX10_tells_73 rfl rfl rfl ?_
    refine TGo.ic4 dX10_tells_76 ?_
    refine TGo.al0 dX10_tells_77 rfl ?_
    refine TGo.il2 dX10_tells_78 rfl ?_
    refine TGo.cF (csV1 (y2 := mX10_dead) (t := 18) 1 rfl (hT 0 (by decide)) rfl rfl dX10_tells_79 q2125 q2127 qs47 okX10_dead npX10_dead rfl rfl) (kX10_dead hT ((((hz.s rfl).la 13 rfl).la 13 rfl).la 13 rfl) (by omega)) ?_
    refine TGo.i2l dX10_tells_82 (by omega) ?_
    refine TGo.last dX10_tells_83 (hT 13 (by decide)) (by omega) rfl ?_
    refine TGo.al0 dX10_tells_84 rfl ?_
    refine TGo.getS (t := 18) 29 29 (T + 13) (hT 0 (by decide)) rfl fgX10_76_10 dX10_tells_85 rfl rfl rfl ?_
    refine TGo.ic5 dX10_tells_88 ?_
    refine TGo.il3 dX10_tells_89 rfl ?_
    refine TGo.i2l dX10_tells_90 (by omega) ?_
    refine TGo.last dX10_tells_91 (hT 13 (by decide)) (by omega) rfl ?_
    refine TGo.al0 dX10_tells_92 rfl ?_
    refine TGo.getS (t := 18) 29 29 (T + 13) (hT 0 (by decide)) rfl fgX10_76_10 dX10_tells_93 rfl rfl rfl ?_
    refine TGo.bip 6 dX10_tells_96 (by decide) ?_
    refine TGo.il dX10_tells_98 rfl ?_
    refine TGo.i2l dX10_tells_100 (by omega) ?_
    refine TGo.last dX10_tells_101 (hT 13 (by decide)) (by omega) rfl ?_
    refine TGo.al0 dX10_tells_102 rfl ?_
    refine TGo.getS (t := 18) 29 29 (T + 13) (hT 0 (by decide)) rfl fgX10_76_10 dX10_tells_103 rfl rfl rfl ?_
    refine TGo.bip 7 dX10_tells_106 (by decide) ?_
    refine TGo.il dX10_tells_108 rfl ?_
    refine TGo.i2l dX10_tells_110 (by omega) ?_
    refine TGo.last dX10_tells_111 (hT 13 (by decide)) (by omega) rfl ?_
    refine TGo.al0 dX10_tells_112 rfl ?_
    refine TGo.getS (t := 18) 29 29 (T + 13) (hT 0 (by decide)) rfl fgX10_76_10 dX10_tells_113 rfl rfl rfl ?_
    refine TGo.bip 8 dX10_tells_116 (by decide) ?_
    refine TGo.al0 dX10_tells_118 rfl ?_
    refine TGo.getS (t := 18) 3 3 (T + 2) (hT 0 (by decide)) rfl fgX10_13_10 dX10_tells_119 rfl rfl rfl ?_
    refine TGo.bip 8 dX10_tells_122 (by decide) ?_
    refine TGo.iald dX10_tells_124 (hT 2 (by decide)) (by omega) rfl ?_
    refine TGo.toz _ ((u2_n (Or.inl (by omega))).trans (hz.2.1 3 (by decide) _)) ?_
    refine TGo.i2l dX10_tells_125 (by omega) ?_
    refine TGo.last dX10_tells_126 (hT 13 (by decide)) (by omega) rfl ?_
    refine TGo.ll dX10_tells_127 rfl ?_
    refine TGo.ls dX10_tells_129 rfl rfl ?_
    refine TGo.ic0 dX10_tells_131 ?_
    refine TGo.is dX10_tells_132 rfl rfl ?_
    have hlw := WL (z.2 3 4) (by omega) (by omega)
    have hl1 := hlw.1
    have e0 : tellZ (z.2 3) h p a t y w = tlZ (z.2 3) (780 + 900 * z.2 3 4) h (valZ (z.2 3) p a t y) w (z.2 3 (780 + 900 * z.2 3 4 + 1)).toNat := by unfold tellZ; rw [if_neg (by omega)]
    rw [e0] at hq ⊢
    exact lX10_tells (V0 := V) (L := 780 + 900 * z.2 3 4) (val := (valZ (z.2 3) p a t y)) (m := (z.2 3 (780 + 900 * z.2 3 4 + 1)).toNat) hT h15 (by omega) (valZ_9 W hp ha ht hy) hlw (by omega) hh hw ((z.2 3 (780 + 900 * z.2 3 4 + 1)).toNat + 1) 0 _ _ (by omega) (by omega) (((((((((hz.s rfl).la 13 rfl).la 13 rfl).la 13 rfl).la 13 rfl).la 13 rfl).la 13 rfl).la 13 rfl).la 13 rfl) ⟨((((((((FrT.rf.i).s).s).s).s).s).s).s).s, u2_s, fun i h0 h1 => by
      rcases (show i = 8 ∨ i = 7 ∨ i = 6 ∨ i = 5 ∨ i = 4 ∨ i = 3 ∨ i = 2 ∨ i = 1 by omega) with rfl | rfl | rfl | rfl | rfl | rfl | rfl | rfl
      · exact u2_s
      · exact (u2_n (Or.inr (by decide))).trans u2_s
      · exact (u2_n (Or.inr (by decide))).trans ((u2_n (Or.inr (by decide))).trans u2_s)
      · exact (u2_n (Or.inr (by decide))).trans ((u2_n (Or.inr (by decide))).trans ((u2_n (Or.inr (by decide))).trans u2_s))
      · exact (u2_n (Or.inr (by decide))).trans ((u2_n (Or.inr (by decide))).trans ((u2_n (Or.inr (by decide))).trans ((u2_n (Or.inr (by decide))).trans u2_s)))
      · exact (u2_n (Or.inr (by decide))).trans ((u2_n (Or.inr (by decide))).trans ((u2_n (Or.inr (by decide))).trans ((u2_n (Or.inr (by decide))).trans ((u2_n (Or.inr (by decide))).trans u2_s))))
      · exact (u2_n (Or.inr (by decide))).trans ((u2_n (Or.inr (by decide))).trans ((u2_n (Or.inr (by decide))).trans ((u2_n (Or.inr (by decide))).trans ((u2_n (Or.inr (by decide))).trans ((u2_n (Or.inr (by decide))).trans u2_s)))))
      · exact (u2_n (Or.inr (by decide))).trans ((u2_n (Or.inr (by decide))).trans ((u2_n (Or.inr (by decide))).trans ((u2_n (Or.inr (by decide))).trans ((u2_n (Or.inr (by decide))).trans ((u2_n (Or.inr (by decide))).trans ((u2_n (Or.inr (by decide))).trans u2_s))))))⟩
  · refine TGo.ll dX10_tells_10 rfl ?_
    refine TGo.lret dX10_tells_12 rfl ?_
    have e0 : tellZ (z.2 3) h p a t y w = w := by unfold tellZ; rw [if_pos (by omega)]
    rw [e0] at hq ⊢
    exact ⟨_, rfl, rfl, rfl, rfl, hz, FrT.rf, hq⟩
set_option maxHeartbeats 4000000 in
theorem kX10_slipOf {E : ET} {sh : SHT} {nn : Nat × Nat} {V : VT} {T : Nat} {z : ZT} {p a t y : Int} (hT : MSh T sh) (hz : PE T V z) (W : RWZ (z.2 3)) (WL : LawsZ (z.2 3)) (h15 : z.1 15 = 0) (hp : 0 ≤ p ∧ p < z.2 3 1) (ha : 0 ≤ a ∧ a ≤ 6) (ht : -1 ≤ t ∧ t ≤ 8) (hy : 0 ≤ y ∧ y ≤ 300) : TS E mX10_slipOf 5 [.ref T, .int (iI p), .int (iI a), .int (iI t), .int (iI y)] sh nn V (fun v V' => v = .int (iI (slipZ (z.2 3) p a t y)) ∧ PE T V' z ∧ FrT T V V') := by
  have w9 := W.1.2.2.2.2.2.2.2.2.2
  refine TC.intro [some (.ref T), some (.int (iI p)), some (.int (iI a)), some (.int (iI t)), some (.int (iI y))] rfl ?_
  refine TGo.al0 dX10_slipOf_0 rfl ?_
  refine TGo.ic0 dX10_slipOf_1 ?_
  refine TGo.il1 dX10_slipOf_2 rfl ?_
  refine TGo.il2 dX10_slipOf_3 rfl ?_
  refine TGo.il3 dX10_slipOf_4 rfl ?_
  refine TGo.il dX10_slipOf_5 rfl ?_
  refine TGo.al0 dX10_slipOf_7 rfl ?_
  refine TGo.getS (t := 18) 3 3 (T + 2) (hT 0 (by decide)) rfl fgX10_13_10 dX10_slipOf_8 rfl rfl rfl ?_
  refine TGo.bip 9 dX10_slipOf_11 (by decide) ?_
  refine TGo.iald dX10_slipOf_13 (hT 2 (by decide)) (by omega) rfl ?_
  refine TGo.toz _ (hz.2.1 3 (by decide) _) ?_
  refine TGo.i2l dX10_slipOf_14 (by omega) ?_
  refine TGo.cS (csV6 (y2 := mX10_tells) (t := 18) 4 rfl (hT 0 (by decide)) rfl rfl dX10_slipOf_15 q2289 q2291 qs72 okX10_tells npX10_tells rfl rfl) (kX10_tells (h := 0) hT hz W WL h15 hp ha ht hy (by omega) (by omega)) (fun v15 V15 h15 => ?_)
  obtain ⟨rfl, hz15, hf15, hr15⟩ := h15
  refine TGo.ic0 dX10_slipOf_18 ?_
  refine TGo.bip 100 dX10_slipOf_19 (by decide) ?_
  refine TGo.cF (csS3 (y2 := mX10_within) 1 rfl dX10_slipOf_21 q2307 q2308 okX10_within npX10_within rfl rfl) (kX10_within (by omega) (by omega) (by omega)) ?_
  refine TGo.iret dX10_slipOf_24 rfl ?_
  exact ⟨_, rfl, rfl, rfl, rfl, hz15, hf15⟩
set_option maxHeartbeats 4000000 in
theorem kX10_hoursOf {E : ET} {sh : SHT} {nn : Nat × Nat} {V : VT} {T : Nat} {z : ZT} {p a t y : Int} (hT : MSh T sh) (hz : PE T V z) (W : RWZ (z.2 3)) (WL : LawsZ (z.2 3)) (h15 : z.1 15 = 0) (hp : 0 ≤ p ∧ p < z.2 3 1) (ha : 0 ≤ a ∧ a ≤ 6) (ht : -1 ≤ t ∧ t ≤ 8) (hy : 0 ≤ y ∧ y ≤ 300) : TS E mX10_hoursOf 5 [.ref T, .int (iI p), .int (iI a), .int (iI t), .int (iI y)] sh nn V (fun v V' => v = .int (iI (hourZ (z.2 3) p a t y)) ∧ PE T V' z ∧ FrT T V V') := by
  refine TC.intro [some (.ref T), some (.int (iI p)), some (.int (iI a)), some (.int (iI t)), some (.int (iI y))] rfl ?_
  refine TGo.al0 dX10_hoursOf_0 rfl ?_
  refine TGo.ic1 dX10_hoursOf_1 ?_
  refine TGo.il1 dX10_hoursOf_2 rfl ?_
  refine TGo.il2 dX10_hoursOf_3 rfl ?_
  refine TGo.il3 dX10_hoursOf_4 rfl ?_
  refine TGo.il dX10_hoursOf_5 rfl ?_
  refine TGo.lc1 dX10_hoursOf_7 ?_
  refine TGo.cS (csV6 (y2 := mX10_tells) (t := 18) 4 rfl (hT 0 (by decide)) rfl rfl dX10_hoursOf_8 q2289 q2291 qs72 okX10_tells npX10_tells rfl rfl) (kX10_tells (h := 1) hT hz W WL h15 hp ha ht hy (by omega) (by omega)) (fun v8 V8 h8 => ?_)
  obtain ⟨rfl, hz8, hf8, hr8⟩ := h8
  refine TGo.ic0 dX10_hoursOf_11 ?_
  refine TGo.bip 99 dX10_hoursOf_12 (by decide) ?_
  refine TGo.cF (csS3 (y2 := mX10_within) 1 rfl dX10_hoursOf_14 q2307 q2308 okX10_within npX10_within rfl rfl) (kX10_within (by omega) (by omega) (by omega)) ?_
  refine TGo.iret dX10_hoursOf_17 rfl ?_
  exact ⟨_, rfl, rfl, rfl, rfl, hz8, hf8⟩
set_option maxHeartbeats 4000000 in
theorem kX10_isBarred {E : ET} {sh : SHT} {nn : Nat × Nat} {V : VT} {T : Nat} {z : ZT} {p a t y : Int} (hT : MSh T sh) (hz : PE T V z) (W : RWZ (z.2 3)) (WL : LawsZ (z.2 3)) (h15 : z.1 15 = 0) (hp : 0 ≤ p ∧ p < z.2 3 1) (ha : 0 ≤ a ∧ a ≤ 6) (ht : -1 ≤ t ∧ t ≤ 8) (hy : 0 ≤ y ∧ y ≤ 300) : TS E mX10_isBarred 5 [.ref T, .int (iI p), .int (iI a), .int (iI t), .int (iI y)] sh nn V (fun v V' => v = .int (iI (bZ (tellZ (z.2 3) 2 p a t y 0 = 1))) ∧ PE T V' z ∧ FrT T V V') := by
  refine TC.intro [some (.ref T), some (.int (iI p)), some (.int (iI a)), some (.int (iI t)), some (.int (iI y))] rfl ?_
  refine TGo.al0 dX10_isBarred_0 rfl ?_
  refine TGo.ic2 dX10_isBarred_1 ?_
  refine TGo.il1 dX10_isBarred_2 rfl ?_
  refine TGo.il2 dX10_isBarred_3 rfl ?_
  refine TGo.il3 dX10_isBarred_4 rfl ?_
  refine TGo.il dX10_isBarred_5 rfl ?_
  refine TGo.lc0 dX10_isBarred_7 ?_
  refine TGo.cS (csV6 (y2 := mX10_tells) (t := 18) 4 rfl (hT 0 (by decide)) rfl rfl dX10_isBarred_8 q2289 q2291 qs72 okX10_tells npX10_tells rfl rfl) (kX10_tells (h := 2) hT hz W WL h15 hp ha ht hy (by omega) (by omega)) (fun v8 V8 h8 => ?_)
  obtain ⟨rfl, hz8, hf8, hr8⟩ := h8
  refine TGo.lc1 dX10_isBarred_11 ?_
  refine TGo.lc_ne 20 dX10_isBarred_12 dX10_isBarred_13 (by decide) (by omega) (fun h12 => ?_) (fun h12 => ?_)
  · refine TGo.ic0 dX10_isBarred_20 ?_
    refine TGo.zret dX10_isBarred_21 rfl (by first | exact Or.inl rfl | exact Or.inr rfl | exact bZ_or _ | assumption) ?_
    refine ⟨_, rfl, rfl, rfl, ?_, hz8, hf8⟩
    first | rw [bZ_t (by assumption)] | rw [bZ_f (by assumption)]
  · refine TGo.ic1 dX10_isBarred_16 ?_
    refine TGo.goto 21 dX10_isBarred_17 (by decide) ?_
    refine TGo.zret dX10_isBarred_21 rfl (by first | exact Or.inl rfl | exact Or.inr rfl | exact bZ_or _ | assumption) ?_
    refine ⟨_, rfl, rfl, rfl, ?_, hz8, hf8⟩
    first | rw [bZ_t (by assumption)] | rw [bZ_f (by assumption)]
