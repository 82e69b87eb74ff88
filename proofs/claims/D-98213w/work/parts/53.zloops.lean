/-! THE MODEL's operations with loops -/
set_option maxRecDepth 100000
/-- how many versions of a part, of the first k -/
def cntZ (f : Int → Int) (p : Int) : Nat → Int
  | 0 => 0
  | k + 1 => cntZ f p k + if f (262 + 3 * (k : Int)) = p then 1 else 0
theorem cntZ_le (f : Int → Int) (p : Int) (k : Nat) : 0 ≤ cntZ f p k ∧ cntZ f p k ≤ (k : Int) := by
  induction k with
  | zero => exact ⟨Int.le_refl _, Int.le_refl _⟩
  | succ k ih => rw [cntZ]; split <;> omega
/-- how many rules of two scripts are unlike, of the first k -/
def unlZ (f : Int → Int) (a b : Int) : Nat → Int
  | 0 => 0
  | k + 1 => unlZ f a b k + if f (a + (k : Int)) = f (b + (k : Int)) then 0 else 1
theorem unlZ_le (f : Int → Int) (a b : Int) (k : Nat) : 0 ≤ unlZ f a b k ∧ unlZ f a b k ≤ (k : Int) := by
  induction k with
  | zero => exact ⟨Int.le_refl _, Int.le_refl _⟩
  | succ k ih => rw [unlZ]; split <;> omega
theorem zAf {z : ZT} {k : Nat} {a v : Int} {j : Nat} : za (zA z k (zf (z.2 k) a (j : Int) v)) k (a + (j : Int)) v = zA z k (zf (z.2 k) a ((j + 1 : Nat) : Int) v) := by
  unfold za zA; simp only; rw [u1_zf]
theorem zAc {z : ZT} {k : Nat} {g : Int → Int} {a b : Int} {j : Nat} : za (zA z k (zc (z.2 k) a (j : Int) g b)) k (a + (j : Int)) (g (b + (j : Int))) = zA z k (zc (z.2 k) a ((j + 1 : Nat) : Int) g b) := by
  unfold za zA; simp only; rw [u1_zc]
theorem zAc0 {z : ZT} {k : Nat} {g : Int → Int} {a : Int} {j : Nat} : za (zA z k (zc (z.2 k) a (j : Int) g 0)) k (a + (j : Int)) (g (j : Int)) = zA z k (zc (z.2 k) a ((j + 1 : Nat) : Int) g 0) := by
  have h := zAc (z := z) (k := k) (g := g) (a := a) (b := 0) (j := j)
  rw [Int.zero_add] at h
  exact h
theorem zAc1 {z : ZT} {k : Nat} {g : Int → Int} {b : Int} {j : Nat} : za (zA z k (zc (z.2 k) 0 (j : Int) g b)) k (j : Int) (g (b + (j : Int))) = zA z k (zc (z.2 k) 0 ((j + 1 : Nat) : Int) g b) := by
  have h := zAc (z := z) (k := k) (g := g) (a := 0) (b := b) (j := j)
  rw [Int.zero_add] at h
  exact h
theorem PE.eq {T : Nat} {V : VT} {z z' : ZT} (h : PE T V z) (e : z = z') : PE T V z' := e ▸ h
theorem zA_0 {z : ZT} {k : Nat} : zA z k (z.2 k) = z := by unfold zA; rw [u1_id]
/-- four bytes on the tape -/
def zFour (z : ZT) (v : Int) : ZT := zi (za (za (za (za z 7 (z.1 8) (byZ v 24)) 7 (z.1 8 + 1) (byZ v 16)) 7 (z.1 8 + 1 + 1) (byZ v 8)) 7 (z.1 8 + 1 + 1 + 1) (byZ v 0)) 8 (z.1 8 + 1 + 1 + 1 + 1)
theorem zi_zi {z : ZT} {k v w : Int} : zi (zi z k v) k w = zi z k w := by
  unfold zi; simp only
  congr 1; funext j; split <;> rfl
theorem zi_za {z : ZT} {k v i w : Int} {n : Nat} : za (zi z k v) n i w = zi (za z n i w) k v := rfl
/-- the j-th four of a row is a rule -/
abbrev goodZ (tp : Int → Int) (t : Int) (j : Int) : Prop := 4 * j + 3 < t ∧ (tp (4 * j) ≤ 5 ∧ tp (4 * j + 1) ≤ 5) ∧ tp (4 * j + 2) ≤ 9 ∧ tp (4 * j + 3) < 6
def rowZ (tp : Int → Int) (t p : Int) (f : Int → Int) : Nat → (Int → Int) × Int × Int
  | 0 => (f, 0, 0)
  | j + 1 => if goodZ tp t j then (zu (rowZ tp t p f j).1 (22 + 36 * p + 6 * tp (4 * j) + tp (4 * j + 1)) (6 * tp (4 * j + 2) + tp (4 * j + 3)), (rowZ tp t p f j).2.1 + 1, (rowZ tp t p f j).2.2)
    else ((rowZ tp t p f j).1, (rowZ tp t p f j).2.1, (rowZ tp t p f j).2.2 + 1)
theorem rowZ_le (tp : Int → Int) (t p : Int) (f : Int → Int) (j : Nat) : (0 ≤ (rowZ tp t p f j).2.1 ∧ (rowZ tp t p f j).2.1 ≤ j) ∧ 0 ≤ (rowZ tp t p f j).2.2 ∧ (rowZ tp t p f j).2.2 ≤ j := by
  induction j with
  | zero => exact ⟨⟨Int.le_refl _, Int.le_refl _⟩, Int.le_refl _, Int.le_refl _⟩
  | succ j ih => rw [rowZ]; split <;> (simp only; omega)
set_option maxHeartbeats 4000000 in
theorem lX10_part {E : ET} {sh : SHT} {nn : Nat × Nat} {T : Nat} {z : ZT} {a b p : Int} (hT : MSh T sh) (hp : 0 ≤ p ∧ p < 6) (h0 : z.2 3 0 = p) : ∀ (n j : Nat) (V : VT), 36 - j < n → j ≤ 36 → PE T V (zA z 3 (zf (z.2 3) (22 + 36 * p) (j : Int) (-1))) → TGo E mX10_part 2 87 [some (.ref T), some (.int (iI a)), some (.int (iI b)), some (.int (iI p)), some (.int (iI (((j) : Nat) : Int)))] [] sh nn V (fun o sh' nn' V' => o = .inl (some (.int (iI p))) ∧ sh' = sh ∧ nn' = nn ∧ PE T V' (zTell (za (zA z 3 (zf (z.2 3) (22 + 36 * p) 36 (-1))) 3 0 (p + 1)) p)) := by
  intro n
  induction n with
  | zero => intro j V h; omega
  | succ n ih =>
    intro j V hn hj hz
    have e0 : (zA z 3 (zf (z.2 3) (22 + 36 * p) (j : Int) (-1))).2 3 0 = p := by
      show u1 z.2 3 (zf (z.2 3) (22 + 36 * p) (j : Int) (-1)) 3 0 = p
      rw [u1_s, zf_out (by omega), h0]
    refine TGo.il dX10_part_87 rfl ?_
    refine TGo.bip 36 dX10_part_89 (by decide) ?_
    refine TGo.icmp_ge 116 dX10_part_91 (by decide) (by omega) (fun h91 => ?_) (fun h91 => ?_)
    · refine TGo.al0 dX10_part_116 rfl ?_
      refine TGo.getS (t := 18) 3 3 (T + 2) (hT 0 (by decide)) rfl fgX10_13_10 dX10_part_117 rfl rfl rfl ?_
      refine TGo.ic0 dX10_part_120 ?_
      refine TGo.dup2 dX10_part_121 rfl rfl ?_
      refine TGo.iald dX10_part_122 (hT 2 (by decide)) (by omega) rfl ?_
      refine TGo.toz _ (hz.2.1 3 (by decide) _) ?_
      obtain rfl : j = 36 := by omega
      refine TGo.toz p e0 ?_
      refine TGo.ic1 dX10_part_123 ?_
      refine TGo.iadd dX10_part_124 ?_
      refine TGo.iast dX10_part_125 (hT 2 (by decide)) (by omega) rfl ?_
      refine TGo.al0 dX10_part_126 rfl ?_
      refine TGo.il3 dX10_part_127 rfl ?_
      refine TGo.cS (csV1 (y2 := mX10_tell) (t := 18) 1 rfl (hT 0 (by decide)) rfl rfl dX10_part_128 q2035 q2037 qs39 okX10_tell npX10_tell rfl rfl) (kX10_tell hT (hz.a 3 rfl rfl) (by omega)) (fun v128 V128 h128 => ?_)
      obtain ⟨rfl, hz128⟩ := h128
      refine TGo.iret dX10_part_131 rfl ?_
      exact ⟨rfl, rfl, rfl, hz128⟩
    · refine TGo.al0 dX10_part_94 rfl ?_
      refine TGo.getS (t := 18) 3 3 (T + 2) (hT 0 (by decide)) rfl fgX10_13_10 dX10_part_95 rfl rfl rfl ?_
      refine TGo.bip 22 dX10_part_98 (by decide) ?_
      refine TGo.bip 36 dX10_part_100 (by decide) ?_
      refine TGo.il3 dX10_part_102 rfl ?_
      refine TGo.imul dX10_part_103 ?_
      refine TGo.iadd dX10_part_104 ?_
      refine TGo.il dX10_part_105 rfl ?_
      refine TGo.iadd dX10_part_107 ?_
      refine TGo.icm1 dX10_part_108 ?_
      refine TGo.iast dX10_part_109 (hT 2 (by decide)) (by omega) rfl ?_
      refine TGo.iinc dX10_part_110 rfl rfl rfl ?_
      refine TGo.goto 87 dX10_part_113 (by decide) ?_
      exact TGo.seq [some (.ref T), some (.int (iI a)), some (.int (iI b)), some (.int (iI p)), some (.int (iI ((((j + 1)) : Nat) : Int)))] [] _ (rfl) rfl rfl (ih (j + 1) _ (by omega) (by omega) (PE.eq (hz.a 3 rfl rfl) zAf))
def zp_part (z : ZT) (a b : Int) : Int × ZT :=
  if ¬ ((0 ≤ a ∧ a ≤ 23) ∧ a + 1 ≤ b ∧ b ≤ 24) then ((-1), zTell z (-1)) else if z.2 3 0 = 6 then ((-5), zTell z (-5)) else (z.2 3 0, zTell (za (zA (za (za z 3 (10 + 2 * z.2 3 0) a) 3 (10 + 2 * z.2 3 0 + 1) b) 3 (zf ((za (za z 3 (10 + 2 * z.2 3 0) a) 3 (10 + 2 * z.2 3 0 + 1) b).2 3) (22 + 36 * z.2 3 0) 36 (-1))) 3 0 (z.2 3 0 + 1)) (z.2 3 0))
set_option maxHeartbeats 4000000 in
theorem kX10_part {E : ET} {sh : SHT} {nn : Nat × Nat} {V : VT} {T : Nat} {z : ZT} {a b : Int} (hT : MSh T sh) (hz : PE T V z) (W : RWZ (z.2 3)) (ra : R32 a) (rb : R32 b) : TC E mX10_part 2 [.ref T, .int (iI a), .int (iI b)] sh nn V (ZP T sh nn (zp_part z a b)) := by
  have w0 := W.1.1
  refine TC.intro [some (.ref T), some (.int (iI a)), some (.int (iI b)), none, none] rfl ?_
  refine TGo.al0 dX10_part_0 rfl ?_
  refine TGo.ic0 dX10_part_1 ?_
  refine TGo.putI (t := 18) 0 0 (hT 0 (by decide)) rfl fpX10_163_10 dX10_part_2 rfl rfl rfl ?_
  refine TGo.il1 dX10_part_5 rfl ?_
  refine TGo.i2l dX10_part_6 (by omega) ?_
  refine TGo.lc0 dX10_part_7 ?_
  refine TGo.ldc2 23 dX10_part_8 q2047 (by decide) ?_
  refine TGo.cF (csS3 (y2 := mX10_in) 1 rfl dX10_part_11 q2032 q2033 okX10_in npX10_in rfl rfl) (kX10_in (by omega) (by omega) (by omega)) ?_
  refine TGo.ifb_eq 32 dX10_part_14 (by decide) (fun h14 => ?_) (fun h14 => ?_)
  · refine TGo.al0 dX10_part_32 rfl ?_
    refine TGo.icm1 dX10_part_33 ?_
    refine TGo.cS (csV1 (y2 := mX10_tell) (t := 18) 1 rfl (hT 0 (by decide)) rfl rfl dX10_part_34 q2035 q2037 qs39 okX10_tell npX10_tell rfl rfl) (kX10_tell hT (hz.s rfl) (by omega)) (fun v34 V34 h34 => ?_)
    obtain ⟨rfl, hz34⟩ := h34
    refine TGo.iret dX10_part_37 rfl ?_
    first
    | (exfalso; omega)
    | (refine leafZ hz34 ?_
       unfold zp_part
       (repeat (first | rw [if_pos (by first | rfl | assumption | omega)] | rw [if_neg (by first | decide | assumption | omega)]))
       (try first | rfl | rw [bZ_t (by first | assumption | omega)] | rw [bZ_f (by first | assumption | omega)]))
  · refine TGo.il2 dX10_part_17 rfl ?_
    refine TGo.i2l dX10_part_18 (by omega) ?_
    refine TGo.il1 dX10_part_19 rfl ?_
    refine TGo.i2l dX10_part_20 (by omega) ?_
    refine TGo.lc1 dX10_part_21 ?_
    refine TGo.ladd dX10_part_22 ?_
    refine TGo.ldc2 24 dX10_part_23 q2048 (by decide) ?_
    refine TGo.cF (csS3 (y2 := mX10_in) 1 rfl dX10_part_26 q2032 q2033 okX10_in npX10_in rfl rfl) (kX10_in (by omega) (by omega) (by omega)) ?_
    refine TGo.ifb_ne 38 dX10_part_29 (by decide) (fun h29 => ?_) (fun h29 => ?_)
    · refine TGo.al0 dX10_part_38 rfl ?_
      refine TGo.getS (t := 18) 3 3 (T + 2) (hT 0 (by decide)) rfl fgX10_13_10 dX10_part_39 rfl rfl rfl ?_
      refine TGo.ic0 dX10_part_42 ?_
      refine TGo.iald dX10_part_43 (hT 2 (by decide)) (by omega) rfl ?_
      refine TGo.toz _ ((u2_n (Or.inl (by omega))).trans (hz.2.1 3 (by decide) _)) ?_
      refine TGo.is3 dX10_part_44 rfl rfl ?_
      refine TGo.il3 dX10_part_45 rfl ?_
      refine TGo.bip 6 dX10_part_46 (by decide) ?_
      refine TGo.icmp_ne 58 dX10_part_48 (by decide) (by omega) (fun h48 => ?_) (fun h48 => ?_)
      · refine TGo.al0 dX10_part_58 rfl ?_
        refine TGo.getS (t := 18) 3 3 (T + 2) (hT 0 (by decide)) rfl fgX10_13_10 dX10_part_59 rfl rfl rfl ?_
        refine TGo.bip 10 dX10_part_62 (by decide) ?_
        refine TGo.ic2 dX10_part_64 ?_
        refine TGo.il3 dX10_part_65 rfl ?_
        refine TGo.imul dX10_part_66 ?_
        refine TGo.iadd dX10_part_67 ?_
        refine TGo.il1 dX10_part_68 rfl ?_
        refine TGo.iast dX10_part_69 (hT 2 (by decide)) (by omega) rfl ?_
        refine TGo.al0 dX10_part_70 rfl ?_
        refine TGo.getS (t := 18) 3 3 (T + 2) (hT 0 (by decide)) rfl fgX10_13_10 dX10_part_71 rfl rfl rfl ?_
        refine TGo.bip 10 dX10_part_74 (by decide) ?_
        refine TGo.ic2 dX10_part_76 ?_
        refine TGo.il3 dX10_part_77 rfl ?_
        refine TGo.imul dX10_part_78 ?_
        refine TGo.iadd dX10_part_79 ?_
        refine TGo.ic1 dX10_part_80 ?_
        refine TGo.iadd dX10_part_81 ?_
        refine TGo.il2 dX10_part_82 rfl ?_
        refine TGo.iast dX10_part_83 (hT 2 (by decide)) (by omega) rfl ?_
        refine TGo.ic0 dX10_part_84 ?_
        refine TGo.is dX10_part_85 rfl rfl ?_
        refine (lX10_part (z := za (za z 3 (10 + 2 * z.2 3 0) a) 3 (10 + 2 * z.2 3 0 + 1) b) (p := z.2 3 0) hT (by omega) (by show u2 _ 3 _ _ 3 0 = _; rw [u2_n (Or.inr (by omega))]; show u2 _ 3 _ _ 3 0 = _; rw [u2_n (Or.inr (by omega))]) 37 0 _ (by omega) (by omega) (PE.eq (((hz.s rfl).a 3 rfl rfl).a 3 rfl rfl) (by rw [show ((0 : Nat) : Int) = 0 from rfl, zf_0, zA_0]))).mono ?_
        rintro o sh' nn' V' ⟨ho, hs, hn, hp⟩
        unfold zp_part
        (repeat (first | rw [if_pos (by first | rfl | assumption | omega)] | rw [if_neg (by first | decide | assumption | omega)]))
        exact ⟨ho, hs, hn, hp⟩
      · refine TGo.al0 dX10_part_51 rfl ?_
        refine TGo.bip (-5) dX10_part_52 (by decide) ?_
        refine TGo.cS (csV1 (y2 := mX10_tell) (t := 18) 1 rfl (hT 0 (by decide)) rfl rfl dX10_part_54 q2035 q2037 qs39 okX10_tell npX10_tell rfl rfl) (kX10_tell hT (hz.s rfl) (by omega)) (fun v54 V54 h54 => ?_)
        obtain ⟨rfl, hz54⟩ := h54
        refine TGo.iret dX10_part_57 rfl ?_
        first
        | (exfalso; omega)
        | (refine leafZ hz54 ?_
           unfold zp_part
           (repeat (first | rw [if_pos (by first | rfl | assumption | omega)] | rw [if_neg (by first | decide | assumption | omega)]))
           (try first | rfl | rw [bZ_t (by first | assumption | omega)] | rw [bZ_f (by first | assumption | omega)]))
    · refine TGo.al0 dX10_part_32 rfl ?_
      refine TGo.icm1 dX10_part_33 ?_
      refine TGo.cS (csV1 (y2 := mX10_tell) (t := 18) 1 rfl (hT 0 (by decide)) rfl rfl dX10_part_34 q2035 q2037 qs39 okX10_tell npX10_tell rfl rfl) (kX10_tell hT (hz.s rfl) (by omega)) (fun v34 V34 h34 => ?_)
      obtain ⟨rfl, hz34⟩ := h34
      refine TGo.iret dX10_part_37 rfl ?_
      first
      | (exfalso; omega)
      | (refine leafZ hz34 ?_
         unfold zp_part
         (repeat (first | rw [if_pos (by first | rfl | assumption | omega)] | rw [if_neg (by first | decide | assumption | omega)]))
         (try first | rfl | rw [bZ_t (by first | assumption | omega)] | rw [bZ_f (by first | assumption | omega)]))
set_option maxHeartbeats 4000000 in
theorem lX10_stage {E : ET} {sh : SHT} {nn : Nat × Nat} {V : VT} {T : Nat} {z : ZT} {p w : Int} {m : Nat} (hT : MSh T sh) (hz : PE T V z) (W : RWZ (z.2 3)) (hp : 0 ≤ p ∧ p < z.2 3 0) (hw : 2 ≤ w ∧ w ≤ 3) (hm : z.2 3 2 = (m : Int)) : ∀ (n j : Nat), m - j < n → j ≤ m → TGo E mX10_stage 3 51 [some (.ref T), some (.int (iI p)), some (.int (iI w)), some (.int (iI (cntZ (z.2 3) p (j)))), some (.int (iI (((j) : Nat) : Int)))] [] sh nn V (fun o sh' nn' V' => o = .inl (some (.int (iI (if w = 2 then toldZ (z.2 3) (22 + 36 * p) 36 else cntZ (z.2 3) p m)))) ∧ sh' = sh ∧ nn' = nn ∧ PE T V' z) := by
  intro n
  induction n with
  | zero => intro j h; omega
  | succ n ih =>
    intro j hn hj
    have w0 := W.1.1
    have w2 := W.1.2.2.1
    have ht := cntZ_le (z.2 3) p j
    have wv := fun h => W.2.2.2.2.1 j (by omega) h
    refine TGo.il dX10_stage_51 rfl ?_
    refine TGo.al0 dX10_stage_53 rfl ?_
    refine TGo.getS (t := 18) 3 3 (T + 2) (hT 0 (by decide)) rfl fgX10_13_10 dX10_stage_54 rfl rfl rfl ?_
    refine TGo.ic2 dX10_stage_57 ?_
    refine TGo.iald dX10_stage_58 (hT 2 (by decide)) (by omega) rfl ?_
    refine TGo.toz _ (hz.2.1 3 (by decide) _) ?_
    refine TGo.icmp_ge 93 dX10_stage_59 (by decide) (by omega) (fun h59 => ?_) (fun h59 => ?_)
    · refine TGo.il2 dX10_stage_93 rfl ?_
      refine TGo.ic2 dX10_stage_94 ?_
      refine TGo.icmp_ne 112 dX10_stage_95 (by decide) (by omega) (fun h95 => ?_) (fun h95 => ?_)
      · refine TGo.il3 dX10_stage_112 rfl ?_
        refine TGo.iret dX10_stage_113 rfl ?_
        obtain rfl : j = m := by omega
        refine ⟨rvI ?_, rfl, rfl, hz⟩
        first | rw [if_pos (by omega)] | rw [if_neg (by omega)]
      · refine TGo.al0 dX10_stage_98 rfl ?_
        refine TGo.bip 22 dX10_stage_99 (by decide) ?_
        refine TGo.bip 36 dX10_stage_101 (by decide) ?_
        refine TGo.il1 dX10_stage_103 rfl ?_
        refine TGo.imul dX10_stage_104 ?_
        refine TGo.iadd dX10_stage_105 ?_
        refine TGo.cF (csV1 (y2 := mX10_told) (t := 18) 1 rfl (hT 0 (by decide)) rfl rfl dX10_stage_106 q2095 q2097 qs43 okX10_told npX10_told rfl rfl) (kX10_told hT hz (by omega) (fun r h0 h1 => W.2.2.1 p r hp.1 hp.2 h0 h1)) ?_
        refine TGo.goto 113 dX10_stage_109 (by decide) ?_
        refine TGo.iret dX10_stage_113 rfl ?_
        obtain rfl : j = m := by omega
        refine ⟨rvI ?_, rfl, rfl, hz⟩
        first | rw [if_pos (by omega)] | rw [if_neg (by omega)]
    · have wv := wv (by omega)
      refine TGo.il3 dX10_stage_62 rfl ?_
      refine TGo.al0 dX10_stage_63 rfl ?_
      refine TGo.getS (t := 18) 3 3 (T + 2) (hT 0 (by decide)) rfl fgX10_13_10 dX10_stage_64 rfl rfl rfl ?_
      refine TGo.sip 262 dX10_stage_67 (by decide) ?_
      refine TGo.ic3 dX10_stage_70 ?_
      refine TGo.il dX10_stage_71 rfl ?_
      refine TGo.imul dX10_stage_73 ?_
      refine TGo.iadd dX10_stage_74 ?_
      refine TGo.iald dX10_stage_75 (hT 2 (by decide)) (by omega) rfl ?_
      refine TGo.toz _ (hz.2.1 3 (by decide) _) ?_
      refine TGo.il1 dX10_stage_76 rfl ?_
      refine TGo.icmp_ne 84 dX10_stage_77 (by decide) (by omega) (fun h77 => ?_) (fun h77 => ?_)
      · refine TGo.ic0 dX10_stage_84 ?_
        refine TGo.iadd dX10_stage_85 ?_
        refine TGo.is3 dX10_stage_86 rfl rfl ?_
        refine TGo.iinc dX10_stage_87 rfl rfl rfl ?_
        refine TGo.goto 51 dX10_stage_90 (by decide) ?_
        exact TGo.seq [some (.ref T), some (.int (iI p)), some (.int (iI w)), some (.int (iI (cntZ (z.2 3) p ((j + 1))))), some (.int (iI ((((j + 1)) : Nat) : Int)))] [] _ (by rw [cntZ]; first | (rw [if_pos (by first | assumption | omega)]; rfl) | (rw [if_neg (by first | assumption | omega)]; rfl)) rfl rfl (ih (j + 1) (by omega) (by omega))
      · refine TGo.ic1 dX10_stage_80 ?_
        refine TGo.goto 85 dX10_stage_81 (by decide) ?_
        refine TGo.iadd dX10_stage_85 ?_
        refine TGo.is3 dX10_stage_86 rfl rfl ?_
        refine TGo.iinc dX10_stage_87 rfl rfl rfl ?_
        refine TGo.goto 51 dX10_stage_90 (by decide) ?_
        exact TGo.seq [some (.ref T), some (.int (iI p)), some (.int (iI w)), some (.int (iI (cntZ (z.2 3) p ((j + 1))))), some (.int (iI ((((j + 1)) : Nat) : Int)))] [] _ (by rw [cntZ]; first | (rw [if_pos (by first | assumption | omega)]; rfl) | (rw [if_neg (by first | assumption | omega)]; rfl)) rfl rfl (ih (j + 1) (by omega) (by omega))
def zp_stage (z : ZT) (p w : Int) : Int × ZT :=
  if ¬ ((0 ≤ p ∧ p < z.2 3 0) ∧ 0 ≤ w ∧ w ≤ 3) then (-1, z) else if w < 2 then (z.2 3 (10 + 2 * p + w), z) else ((if w = 2 then toldZ (z.2 3) (22 + 36 * p) 36 else cntZ (z.2 3) p (z.2 3 2).toNat), z)
set_option maxHeartbeats 4000000 in
theorem kX10_stage {E : ET} {sh : SHT} {nn : Nat × Nat} {V : VT} {T : Nat} {z : ZT} {p w : Int} (hT : MSh T sh) (hz : PE T V z) (W : RWZ (z.2 3)) (rp : R32 p) (rw : R32 w) : TC E mX10_stage 3 [.ref T, .int (iI p), .int (iI w)] sh nn V (ZP T sh nn (zp_stage z p w)) := by
  have w0 := W.1.1
  have w2 := W.1.2.2.1
  refine TC.intro [some (.ref T), some (.int (iI p)), some (.int (iI w)), none, none] rfl ?_
  refine TGo.al0 dX10_stage_0 rfl ?_
  refine TGo.ic0 dX10_stage_1 ?_
  refine TGo.putI (t := 18) 0 0 (hT 0 (by decide)) rfl fpX10_163_10 dX10_stage_2 rfl rfl rfl ?_
  refine TGo.al0 dX10_stage_5 rfl ?_
  refine TGo.il1 dX10_stage_6 rfl ?_
  refine TGo.cF (csV1 (y2 := mX10_isPart) (t := 18) 2 rfl (hT 0 (by decide)) rfl rfl dX10_stage_7 q2061 q2063 qs40 okX10_isPart npX10_isPart rfl rfl) (kX10_isPart hT (hz.s rfl) w0 (by omega)) ?_
  refine TGo.ifb_eq 25 dX10_stage_10 (by decide) (fun h10 => ?_) (fun h10 => ?_)
  · refine TGo.icm1 dX10_stage_25 ?_
    refine TGo.iret dX10_stage_26 rfl ?_
    first
    | (exfalso; omega)
    | (refine leafZ (hz.s rfl) ?_
       unfold zp_stage
       (repeat (first | rw [if_pos (by first | rfl | assumption | omega)] | rw [if_neg (by first | decide | assumption | omega)]))
       (try first | rfl | rw [bZ_t (by first | assumption | omega)] | rw [bZ_f (by first | assumption | omega)]))
  · refine TGo.il2 dX10_stage_13 rfl ?_
    refine TGo.i2l dX10_stage_14 (by omega) ?_
    refine TGo.lc0 dX10_stage_15 ?_
    refine TGo.ldc2 3 dX10_stage_16 q2094 (by decide) ?_
    refine TGo.cF (csS3 (y2 := mX10_in) 1 rfl dX10_stage_19 q2032 q2033 okX10_in npX10_in rfl rfl) (kX10_in (by omega) (by omega) (by omega)) ?_
    refine TGo.ifb_ne 27 dX10_stage_22 (by decide) (fun h22 => ?_) (fun h22 => ?_)
    · refine TGo.il2 dX10_stage_27 rfl ?_
      refine TGo.ic2 dX10_stage_28 ?_
      refine TGo.icmp_ge 46 dX10_stage_29 (by decide) (by omega) (fun h29 => ?_) (fun h29 => ?_)
      · refine TGo.ic0 dX10_stage_46 ?_
        refine TGo.is3 dX10_stage_47 rfl rfl ?_
        refine TGo.ic0 dX10_stage_48 ?_
        refine TGo.is dX10_stage_49 rfl rfl ?_
        refine (lX10_stage (m := (z.2 3 2).toNat) hT (hz.s rfl) W (by omega) (by omega) (by omega) ((z.2 3 2).toNat + 1) 0 (by omega) (by omega)).mono ?_
        rintro o sh' nn' V' ⟨ho, hs, hn, hp⟩
        unfold zp_stage
        (repeat (first | rw [if_pos (by first | rfl | assumption | omega)] | rw [if_neg (by first | decide | assumption | omega)]))
        exact ⟨ho, hs, hn, hp⟩
      · refine TGo.al0 dX10_stage_32 rfl ?_
        refine TGo.getS (t := 18) 3 3 (T + 2) (hT 0 (by decide)) rfl fgX10_13_10 dX10_stage_33 rfl rfl rfl ?_
        refine TGo.bip 10 dX10_stage_36 (by decide) ?_
        refine TGo.ic2 dX10_stage_38 ?_
        refine TGo.il1 dX10_stage_39 rfl ?_
        refine TGo.imul dX10_stage_40 ?_
        refine TGo.iadd dX10_stage_41 ?_
        refine TGo.il2 dX10_stage_42 rfl ?_
        refine TGo.iadd dX10_stage_43 ?_
        refine TGo.iald dX10_stage_44 (hT 2 (by decide)) (by omega) rfl ?_
        refine TGo.toz _ ((u2_n (Or.inl (by omega))).trans (hz.2.1 3 (by decide) _)) ?_
        refine TGo.iret dX10_stage_45 rfl ?_
        first
        | (exfalso; omega)
        | (refine leafZ (hz.s rfl) ?_
           unfold zp_stage
           (repeat (first | rw [if_pos (by first | rfl | assumption | omega)] | rw [if_neg (by first | decide | assumption | omega)]))
           (try first | rfl | rw [bZ_t (by first | assumption | omega)] | rw [bZ_f (by first | assumption | omega)]))
    · refine TGo.icm1 dX10_stage_25 ?_
      refine TGo.iret dX10_stage_26 rfl ?_
      first
      | (exfalso; omega)
      | (refine leafZ (hz.s rfl) ?_
         unfold zp_stage
         (repeat (first | rw [if_pos (by first | rfl | assumption | omega)] | rw [if_neg (by first | decide | assumption | omega)]))
         (try first | rfl | rw [bZ_t (by first | assumption | omega)] | rw [bZ_f (by first | assumption | omega)]))
set_option maxHeartbeats 4000000 in
theorem lX10_version {E : ET} {sh : SHT} {nn : Nat × Nat} {V : VT} {T : Nat} {z : ZT} {v w : Int} (hT : MSh T sh) (hz : PE T V z) (W : RWZ (z.2 3)) (hv : 0 ≤ v ∧ v < z.2 3 2) : ∀ (n j : Nat), 36 - j < n → j ≤ 36 → TGo E mX10_version 3 72 [some (.ref T), some (.int (iI v)), some (.int (iI w)), some (.int (iI (unlZ (z.2 3) (298 + 36 * v) (22 + 36 * z.2 3 (262 + 3 * v)) (j)))), some (.int (iI (((j) : Nat) : Int)))] [] sh nn V (fun o sh' nn' V' => o = .inl (some (.int (iI (unlZ (z.2 3) (298 + 36 * v) (22 + 36 * z.2 3 (262 + 3 * v)) 36)))) ∧ sh' = sh ∧ nn' = nn ∧ PE T V' z) := by
  intro n
  induction n with
  | zero => intro j h; omega
  | succ n ih =>
    intro j hn hj
    have w0 := W.1.1
    have w2 := W.1.2.2.1
    have ht := unlZ_le (z.2 3) (298 + 36 * v) (22 + 36 * z.2 3 (262 + 3 * v)) j
    have wv := W.2.2.2.2.1 v (by omega) (by omega)
    refine TGo.il dX10_version_72 rfl ?_
    refine TGo.bip 36 dX10_version_74 (by decide) ?_
    refine TGo.icmp_ge 129 dX10_version_76 (by decide) (by omega) (fun h76 => ?_) (fun h76 => ?_)
    · refine TGo.il3 dX10_version_129 rfl ?_
      refine TGo.iret dX10_version_130 rfl ?_
      obtain rfl : j = 36 := by omega
      exact ⟨rfl, rfl, rfl, hz⟩
    · have w1 := W.2.2.2.2.2.1 v j (by omega) (by omega) (by omega) (by omega)
      have w9 := W.2.2.1 (z.2 3 (262 + 3 * v)) j (by omega) (by omega) (by omega) (by omega)
      refine TGo.il3 dX10_version_79 rfl ?_
      refine TGo.al0 dX10_version_80 rfl ?_
      refine TGo.il1 dX10_version_81 rfl ?_
      refine TGo.il dX10_version_82 rfl ?_
      refine TGo.cF (csV2 (y2 := mX10_ruleOf) (t := 18) 1 rfl (hT 0 (by decide)) rfl rfl dX10_version_84 q2372 q2374 qs85 okX10_ruleOf npX10_ruleOf rfl rfl) (kX10_ruleOf hT hz (by omega) (by omega)) ?_
      refine TGo.al0 dX10_version_87 rfl ?_
      refine TGo.getS (t := 18) 3 3 (T + 2) (hT 0 (by decide)) rfl fgX10_13_10 dX10_version_88 rfl rfl rfl ?_
      refine TGo.bip 22 dX10_version_91 (by decide) ?_
      refine TGo.bip 36 dX10_version_93 (by decide) ?_
      refine TGo.al0 dX10_version_95 rfl ?_
      refine TGo.getS (t := 18) 3 3 (T + 2) (hT 0 (by decide)) rfl fgX10_13_10 dX10_version_96 rfl rfl rfl ?_
      refine TGo.sip 262 dX10_version_99 (by decide) ?_
      refine TGo.ic3 dX10_version_102 ?_
      refine TGo.il1 dX10_version_103 rfl ?_
      refine TGo.imul dX10_version_104 ?_
      refine TGo.iadd dX10_version_105 ?_
      refine TGo.iald dX10_version_106 (hT 2 (by decide)) (by omega) rfl ?_
      refine TGo.toz _ (hz.2.1 3 (by decide) _) ?_
      refine TGo.imul dX10_version_107 ?_
      refine TGo.iadd dX10_version_108 ?_
      refine TGo.il dX10_version_109 rfl ?_
      refine TGo.iadd dX10_version_111 ?_
      refine TGo.iald dX10_version_112 (hT 2 (by decide)) (by omega) rfl ?_
      refine TGo.toz _ (hz.2.1 3 (by decide) _) ?_
      refine TGo.icmp_ne 120 dX10_version_113 (by decide) (by omega) (fun h113 => ?_) (fun h113 => ?_)
      · refine TGo.ic1 dX10_version_120 ?_
        refine TGo.iadd dX10_version_121 ?_
        refine TGo.is3 dX10_version_122 rfl rfl ?_
        refine TGo.iinc dX10_version_123 rfl rfl rfl ?_
        refine TGo.goto 72 dX10_version_126 (by decide) ?_
        exact TGo.seq [some (.ref T), some (.int (iI v)), some (.int (iI w)), some (.int (iI (unlZ (z.2 3) (298 + 36 * v) (22 + 36 * z.2 3 (262 + 3 * v)) ((j + 1))))), some (.int (iI ((((j + 1)) : Nat) : Int)))] [] _ (by rw [unlZ]; first | (rw [if_pos (by first | assumption | omega)]; rfl) | (rw [if_neg (by first | assumption | omega)]; rfl)) rfl rfl (ih (j + 1) (by omega) (by omega))
      · refine TGo.ic0 dX10_version_116 ?_
        refine TGo.goto 121 dX10_version_117 (by decide) ?_
        refine TGo.iadd dX10_version_121 ?_
        refine TGo.is3 dX10_version_122 rfl rfl ?_
        refine TGo.iinc dX10_version_123 rfl rfl rfl ?_
        refine TGo.goto 72 dX10_version_126 (by decide) ?_
        exact TGo.seq [some (.ref T), some (.int (iI v)), some (.int (iI w)), some (.int (iI (unlZ (z.2 3) (298 + 36 * v) (22 + 36 * z.2 3 (262 + 3 * v)) ((j + 1))))), some (.int (iI ((((j + 1)) : Nat) : Int)))] [] _ (by rw [unlZ]; first | (rw [if_pos (by first | assumption | omega)]; rfl) | (rw [if_neg (by first | assumption | omega)]; rfl)) rfl rfl (ih (j + 1) (by omega) (by omega))
def zp_version (z : ZT) (v w : Int) : Int × ZT :=
  if ¬ ((0 ≤ v ∧ v < z.2 3 2) ∧ 0 ≤ w ∧ w ≤ 4) then (-1, z) else if w < 3 then (z.2 3 (262 + 3 * v + w), z) else if w = 3 then (toldZ (z.2 3) (298 + 36 * v) 36, z) else (unlZ (z.2 3) (298 + 36 * v) (22 + 36 * z.2 3 (262 + 3 * v)) 36, z)
set_option maxHeartbeats 4000000 in
theorem kX10_version {E : ET} {sh : SHT} {nn : Nat × Nat} {V : VT} {T : Nat} {z : ZT} {v w : Int} (hT : MSh T sh) (hz : PE T V z) (W : RWZ (z.2 3)) (rv : R32 v) (rw : R32 w) : TC E mX10_version 3 [.ref T, .int (iI v), .int (iI w)] sh nn V (ZP T sh nn (zp_version z v w)) := by
  have w0 := W.1.1
  have w2 := W.1.2.2.1
  refine TC.intro [some (.ref T), some (.int (iI v)), some (.int (iI w)), none, none] rfl ?_
  refine TGo.al0 dX10_version_0 rfl ?_
  refine TGo.ic0 dX10_version_1 ?_
  refine TGo.putI (t := 18) 0 0 (hT 0 (by decide)) rfl fpX10_163_10 dX10_version_2 rfl rfl rfl ?_
  refine TGo.al0 dX10_version_5 rfl ?_
  refine TGo.il1 dX10_version_6 rfl ?_
  refine TGo.cF (csV1 (y2 := mX10_isVersion) (t := 18) 2 rfl (hT 0 (by decide)) rfl rfl dX10_version_7 q2364 q2366 qs83 okX10_isVersion npX10_isVersion rfl rfl) (kX10_isVersion hT (hz.s rfl) w2 (by omega)) ?_
  refine TGo.ifb_eq 25 dX10_version_10 (by decide) (fun h10 => ?_) (fun h10 => ?_)
  · refine TGo.icm1 dX10_version_25 ?_
    refine TGo.iret dX10_version_26 rfl ?_
    first
    | (exfalso; omega)
    | (refine leafZ (hz.s rfl) ?_
       unfold zp_version
       (repeat (first | rw [if_pos (by first | rfl | assumption | omega)] | rw [if_neg (by first | decide | assumption | omega)]))
       (try first | rfl | rw [bZ_t (by first | assumption | omega)] | rw [bZ_f (by first | assumption | omega)]))
  · refine TGo.il2 dX10_version_13 rfl ?_
    refine TGo.i2l dX10_version_14 (by omega) ?_
    refine TGo.lc0 dX10_version_15 ?_
    refine TGo.ldc2 4 dX10_version_16 q2384 (by decide) ?_
    refine TGo.cF (csS3 (y2 := mX10_in) 1 rfl dX10_version_19 q2032 q2033 okX10_in npX10_in rfl rfl) (kX10_in (by omega) (by omega) (by omega)) ?_
    refine TGo.ifb_ne 27 dX10_version_22 (by decide) (fun h22 => ?_) (fun h22 => ?_)
    · refine TGo.il2 dX10_version_27 rfl ?_
      refine TGo.ic4 dX10_version_28 ?_
      refine TGo.icmp_ge 67 dX10_version_29 (by decide) (by omega) (fun h29 => ?_) (fun h29 => ?_)
      · refine TGo.ic0 dX10_version_67 ?_
        refine TGo.is3 dX10_version_68 rfl rfl ?_
        refine TGo.ic0 dX10_version_69 ?_
        refine TGo.is dX10_version_70 rfl rfl ?_
        refine (lX10_version (w := w) hT (hz.s rfl) W (by omega) 37 0 (by omega) (by omega)).mono ?_
        rintro o sh' nn' V' ⟨ho, hs, hn, hp⟩
        unfold zp_version
        (repeat (first | rw [if_pos (by first | rfl | assumption | omega)] | rw [if_neg (by first | decide | assumption | omega)]))
        exact ⟨ho, hs, hn, hp⟩
      · refine TGo.il2 dX10_version_32 rfl ?_
        refine TGo.ic3 dX10_version_33 ?_
        refine TGo.icmp_ge 54 dX10_version_34 (by decide) (by omega) (fun h34 => ?_) (fun h34 => ?_)
        · refine TGo.al0 dX10_version_54 rfl ?_
          refine TGo.sip 298 dX10_version_55 (by decide) ?_
          refine TGo.bip 36 dX10_version_58 (by decide) ?_
          refine TGo.il1 dX10_version_60 rfl ?_
          refine TGo.imul dX10_version_61 ?_
          refine TGo.iadd dX10_version_62 ?_
          refine TGo.cF (csV1 (y2 := mX10_told) (t := 18) 1 rfl (hT 0 (by decide)) rfl rfl dX10_version_63 q2095 q2097 qs43 okX10_told npX10_told rfl rfl) (kX10_told hT (hz.s rfl) (by omega) (fun r h0 h1 => W.2.2.2.2.2.1 v r (by omega) (by omega) h0 h1)) ?_
          refine TGo.iret dX10_version_66 rfl ?_
          first
          | (exfalso; omega)
          | (refine leafZ (hz.s rfl) ?_
             unfold zp_version
             (repeat (first | rw [if_pos (by first | rfl | assumption | omega)] | rw [if_neg (by first | decide | assumption | omega)]))
             (try first | rfl | rw [bZ_t (by first | assumption | omega)] | rw [bZ_f (by first | assumption | omega)]))
        · refine TGo.al0 dX10_version_37 rfl ?_
          refine TGo.getS (t := 18) 3 3 (T + 2) (hT 0 (by decide)) rfl fgX10_13_10 dX10_version_38 rfl rfl rfl ?_
          refine TGo.sip 262 dX10_version_41 (by decide) ?_
          refine TGo.ic3 dX10_version_44 ?_
          refine TGo.il1 dX10_version_45 rfl ?_
          refine TGo.imul dX10_version_46 ?_
          refine TGo.iadd dX10_version_47 ?_
          refine TGo.il2 dX10_version_48 rfl ?_
          refine TGo.iadd dX10_version_49 ?_
          refine TGo.iald dX10_version_50 (hT 2 (by decide)) (by omega) rfl ?_
          refine TGo.toz _ ((u2_n (Or.inl (by omega))).trans (hz.2.1 3 (by decide) _)) ?_
          refine TGo.goto 66 dX10_version_51 (by decide) ?_
          refine TGo.iret dX10_version_66 rfl ?_
          first
          | (exfalso; omega)
          | (refine leafZ (hz.s rfl) ?_
             unfold zp_version
             (repeat (first | rw [if_pos (by first | rfl | assumption | omega)] | rw [if_neg (by first | decide | assumption | omega)]))
             (try first | rfl | rw [bZ_t (by first | assumption | omega)] | rw [bZ_f (by first | assumption | omega)]))
    · refine TGo.icm1 dX10_version_25 ?_
      refine TGo.iret dX10_version_26 rfl ?_
      first
      | (exfalso; omega)
      | (refine leafZ (hz.s rfl) ?_
         unfold zp_version
         (repeat (first | rw [if_pos (by first | rfl | assumption | omega)] | rw [if_neg (by first | decide | assumption | omega)]))
         (try first | rfl | rw [bZ_t (by first | assumption | omega)] | rw [bZ_f (by first | assumption | omega)]))
set_option maxHeartbeats 4000000 in
theorem lX10_image {E : ET} {sh : SHT} {nn : Nat × Nat} {T : Nat} {z : ZT} {k : Int} (hT : MSh T sh) (hk : 0 ≤ k ∧ k ≤ 1) : ∀ (n j : Nat) (V : VT), 6180 - j < n → j ≤ 6180 → PE T V (zA z 4 (zc (z.2 4) (6180 * k) (j : Int) (z.2 3) 0)) → TGo E mX10_image 2 23 [some (.ref T), some (.int (iI k)), some (.int (iI (((j) : Nat) : Int)))] [] sh nn V (fun o sh' nn' V' => o = .inl (some (.int (iI 0))) ∧ sh' = sh ∧ nn' = nn ∧ PE T V' (zTell (za (zA z 4 (zc (z.2 4) (6180 * k) 6180 (z.2 3) 0)) 5 k 1) 0)) := by
  intro n
  induction n with
  | zero => intro j V h; omega
  | succ n ih =>
    intro j V hn hj hz
    refine TGo.il2 dX10_image_23 rfl ?_
    refine TGo.sip 6180 dX10_image_24 (by decide) ?_
    refine TGo.icmp_ge 54 dX10_image_27 (by decide) (by omega) (fun h27 => ?_) (fun h27 => ?_)
    · obtain rfl : j = 6180 := by omega
      refine TGo.al0 dX10_image_54 rfl ?_
      refine TGo.getS (t := 18) 5 5 (T + 4) (hT 0 (by decide)) rfl fgX10_19_10 dX10_image_55 rfl rfl rfl ?_
      refine TGo.il1 dX10_image_58 rfl ?_
      refine TGo.ic1 dX10_image_59 ?_
      refine TGo.zast dX10_image_60 (hT 4 (by decide)) (by omega) rfl (by first | exact Or.inl rfl | exact Or.inr rfl | exact bZ_or _ | assumption) ?_
      refine TGo.al0 dX10_image_61 rfl ?_
      refine TGo.ic0 dX10_image_62 ?_
      refine TGo.cS (csV1 (y2 := mX10_tell) (t := 18) 1 rfl (hT 0 (by decide)) rfl rfl dX10_image_63 q2035 q2037 qs39 okX10_tell npX10_tell rfl rfl) (kX10_tell hT (hz.a 5 rfl rfl) (by omega)) (fun v63 V63 h63 => ?_)
      obtain ⟨rfl, hz63⟩ := h63
      refine TGo.iret dX10_image_66 rfl ?_
      exact ⟨rfl, rfl, rfl, hz63⟩
    · refine TGo.al0 dX10_image_30 rfl ?_
      refine TGo.getS (t := 18) 4 4 (T + 3) (hT 0 (by decide)) rfl fgX10_16_10 dX10_image_31 rfl rfl rfl ?_
      refine TGo.sip 6180 dX10_image_34 (by decide) ?_
      refine TGo.il1 dX10_image_37 rfl ?_
      refine TGo.imul dX10_image_38 ?_
      refine TGo.il2 dX10_image_39 rfl ?_
      refine TGo.iadd dX10_image_40 ?_
      refine TGo.al0 dX10_image_41 rfl ?_
      refine TGo.getS (t := 18) 3 3 (T + 2) (hT 0 (by decide)) rfl fgX10_13_10 dX10_image_42 rfl rfl rfl ?_
      refine TGo.il2 dX10_image_45 rfl ?_
      refine TGo.iald dX10_image_46 (hT 2 (by decide)) (by omega) rfl ?_
      refine TGo.toz _ (hz.2.1 3 (by decide) _) ?_
      refine TGo.iast dX10_image_47 (hT 3 (by decide)) (by omega) rfl ?_
      refine TGo.iinc dX10_image_48 rfl rfl rfl ?_
      refine TGo.goto 23 dX10_image_51 (by decide) ?_
      exact TGo.seq [some (.ref T), some (.int (iI k)), some (.int (iI ((((j + 1)) : Nat) : Int)))] [] _ (rfl) rfl rfl (ih (j + 1) _ (by omega) (by omega) (PE.eq (hz.a 4 rfl rfl) zAc0))
def zp_image (z : ZT) (k : Int) : Int × ZT :=
  if ¬ (0 ≤ k ∧ k ≤ 1) then ((-1), zTell z (-1)) else (0, zTell (za (zA z 4 (zc (z.2 4) (6180 * k) 6180 (z.2 3) 0)) 5 k 1) 0)
set_option maxHeartbeats 4000000 in
theorem kX10_image {E : ET} {sh : SHT} {nn : Nat × Nat} {V : VT} {T : Nat} {z : ZT} {k : Int} (hT : MSh T sh) (hz : PE T V z) (W : RWZ (z.2 3)) (rk : R32 k) : TC E mX10_image 2 [.ref T, .int (iI k)] sh nn V (ZP T sh nn (zp_image z k)) := by
  refine TC.intro [some (.ref T), some (.int (iI k)), none] rfl ?_
  refine TGo.al0 dX10_image_0 rfl ?_
  refine TGo.ic0 dX10_image_1 ?_
  refine TGo.putI (t := 18) 0 0 (hT 0 (by decide)) rfl fpX10_163_10 dX10_image_2 rfl rfl rfl ?_
  refine TGo.il1 dX10_image_5 rfl ?_
  refine TGo.i2l dX10_image_6 (by omega) ?_
  refine TGo.lc0 dX10_image_7 ?_
  refine TGo.lc1 dX10_image_8 ?_
  refine TGo.cF (csS3 (y2 := mX10_in) 1 rfl dX10_image_9 q2032 q2033 okX10_in npX10_in rfl rfl) (kX10_in (by omega) (by omega) (by omega)) ?_
  refine TGo.ifb_ne 21 dX10_image_12 (by decide) (fun h12 => ?_) (fun h12 => ?_)
  · refine TGo.ic0 dX10_image_21 ?_
    refine TGo.is2 dX10_image_22 rfl rfl ?_
    refine (lX10_image (k := k) hT (by omega) 6181 0 _ (by omega) (by omega) (PE.eq (hz.s rfl) (by rw [show ((0 : Nat) : Int) = 0 from rfl, zc_0, zA_0]))).mono ?_
    rintro o sh' nn' V' ⟨ho, hs, hn, hp⟩
    unfold zp_image
    (repeat (first | rw [if_pos (by first | rfl | assumption | omega)] | rw [if_neg (by first | decide | assumption | omega)]))
    exact ⟨ho, hs, hn, hp⟩
  · refine TGo.al0 dX10_image_15 rfl ?_
    refine TGo.icm1 dX10_image_16 ?_
    refine TGo.cS (csV1 (y2 := mX10_tell) (t := 18) 1 rfl (hT 0 (by decide)) rfl rfl dX10_image_17 q2035 q2037 qs39 okX10_tell npX10_tell rfl rfl) (kX10_tell hT (hz.s rfl) (by omega)) (fun v17 V17 h17 => ?_)
    obtain ⟨rfl, hz17⟩ := h17
    refine TGo.iret dX10_image_20 rfl ?_
    first
    | (exfalso; omega)
    | (refine leafZ hz17 ?_
       unfold zp_image
       (repeat (first | rw [if_pos (by first | rfl | assumption | omega)] | rw [if_neg (by first | decide | assumption | omega)]))
       (try first | rfl | rw [bZ_t (by first | assumption | omega)] | rw [bZ_f (by first | assumption | omega)]))
set_option maxHeartbeats 4000000 in
theorem lX10_back {E : ET} {sh : SHT} {nn : Nat × Nat} {T : Nat} {z : ZT} {k : Int} (hT : MSh T sh) (hk : 0 ≤ k ∧ k ≤ 1) : ∀ (n j : Nat) (V : VT), 6180 - j < n → j ≤ 6180 → PE T V (zA z 3 (zc (z.2 3) 0 (j : Int) (z.2 4) (6180 * k))) → TGo E mX10_back 2 39 [some (.ref T), some (.int (iI k)), some (.int (iI (((j) : Nat) : Int)))] [] sh nn V (fun o sh' nn' V' => o = .inl (some (.int (iI 0))) ∧ sh' = sh ∧ nn' = nn ∧ PE T V' (zTell (zA z 3 (zc (z.2 3) 0 6180 (z.2 4) (6180 * k))) 0)) := by
  intro n
  induction n with
  | zero => intro j V h; omega
  | succ n ih =>
    intro j V hn hj hz
    refine TGo.il2 dX10_back_39 rfl ?_
    refine TGo.sip 6180 dX10_back_40 (by decide) ?_
    refine TGo.icmp_ge 70 dX10_back_43 (by decide) (by omega) (fun h43 => ?_) (fun h43 => ?_)
    · obtain rfl : j = 6180 := by omega
      refine TGo.al0 dX10_back_70 rfl ?_
      refine TGo.ic0 dX10_back_71 ?_
      refine TGo.cS (csV1 (y2 := mX10_tell) (t := 18) 1 rfl (hT 0 (by decide)) rfl rfl dX10_back_72 q2035 q2037 qs39 okX10_tell npX10_tell rfl rfl) (kX10_tell hT hz (by omega)) (fun v72 V72 h72 => ?_)
      obtain ⟨rfl, hz72⟩ := h72
      refine TGo.iret dX10_back_75 rfl ?_
      exact ⟨rfl, rfl, rfl, hz72⟩
    · refine TGo.al0 dX10_back_46 rfl ?_
      refine TGo.getS (t := 18) 3 3 (T + 2) (hT 0 (by decide)) rfl fgX10_13_10 dX10_back_47 rfl rfl rfl ?_
      refine TGo.il2 dX10_back_50 rfl ?_
      refine TGo.al0 dX10_back_51 rfl ?_
      refine TGo.getS (t := 18) 4 4 (T + 3) (hT 0 (by decide)) rfl fgX10_16_10 dX10_back_52 rfl rfl rfl ?_
      refine TGo.sip 6180 dX10_back_55 (by decide) ?_
      refine TGo.il1 dX10_back_58 rfl ?_
      refine TGo.imul dX10_back_59 ?_
      refine TGo.il2 dX10_back_60 rfl ?_
      refine TGo.iadd dX10_back_61 ?_
      refine TGo.iald dX10_back_62 (hT 3 (by decide)) (by omega) rfl ?_
      refine TGo.toz _ (hz.2.1 4 (by decide) _) ?_
      refine TGo.iast dX10_back_63 (hT 2 (by decide)) (by omega) rfl ?_
      refine TGo.iinc dX10_back_64 rfl rfl rfl ?_
      refine TGo.goto 39 dX10_back_67 (by decide) ?_
      exact TGo.seq [some (.ref T), some (.int (iI k)), some (.int (iI ((((j + 1)) : Nat) : Int)))] [] _ (rfl) rfl rfl (ih (j + 1) _ (by omega) (by omega) (PE.eq (hz.a 3 rfl rfl) zAc1))
def zp_back (z : ZT) (k : Int) : Int × ZT :=
  if ¬ (0 ≤ k ∧ k ≤ 1) then ((-1), zTell z (-1)) else if z.2 5 k = 0 then ((-2), zTell z (-2)) else (0, zTell (zA z 3 (zc (z.2 3) 0 6180 (z.2 4) (6180 * k))) 0)
set_option maxHeartbeats 4000000 in
theorem kX10_back {E : ET} {sh : SHT} {nn : Nat × Nat} {V : VT} {T : Nat} {z : ZT} {k : Int} (hT : MSh T sh) (hz : PE T V z) (W5 : ∀ k, z.2 5 k = 0 ∨ z.2 5 k = 1) (rk : R32 k) : TC E mX10_back 2 [.ref T, .int (iI k)] sh nn V (ZP T sh nn (zp_back z k)) := by
  have hk5 := W5 k
  refine TC.intro [some (.ref T), some (.int (iI k)), none] rfl ?_
  refine TGo.al0 dX10_back_0 rfl ?_
  refine TGo.ic0 dX10_back_1 ?_
  refine TGo.putI (t := 18) 0 0 (hT 0 (by decide)) rfl fpX10_163_10 dX10_back_2 rfl rfl rfl ?_
  refine TGo.il1 dX10_back_5 rfl ?_
  refine TGo.i2l dX10_back_6 (by omega) ?_
  refine TGo.lc0 dX10_back_7 ?_
  refine TGo.lc1 dX10_back_8 ?_
  refine TGo.cF (csS3 (y2 := mX10_in) 1 rfl dX10_back_9 q2032 q2033 okX10_in npX10_in rfl rfl) (kX10_in (by omega) (by omega) (by omega)) ?_
  refine TGo.ifb_ne 21 dX10_back_12 (by decide) (fun h12 => ?_) (fun h12 => ?_)
  · refine TGo.al0 dX10_back_21 rfl ?_
    refine TGo.getS (t := 18) 5 5 (T + 4) (hT 0 (by decide)) rfl fgX10_19_10 dX10_back_22 rfl rfl rfl ?_
    refine TGo.il1 dX10_back_25 rfl ?_
    refine TGo.zald dX10_back_26 (hT 4 (by decide)) (by omega) rfl ?_
    refine TGo.toz _ ((u2_n (Or.inl (by omega))).trans (hz.2.1 5 (by decide) _)) ?_
    refine TGo.if_ne 37 dX10_back_27 (by decide) (by omega) (fun h27 => ?_) (fun h27 => ?_)
    · refine TGo.ic0 dX10_back_37 ?_
      refine TGo.is2 dX10_back_38 rfl rfl ?_
      refine (lX10_back (k := k) hT (by omega) 6181 0 _ (by omega) (by omega) (PE.eq (hz.s rfl) (by rw [show ((0 : Nat) : Int) = 0 from rfl, zc_0, zA_0]))).mono ?_
      rintro o sh' nn' V' ⟨ho, hs, hn, hp⟩
      unfold zp_back
      (repeat (first | rw [if_pos (by first | rfl | assumption | omega)] | rw [if_neg (by first | decide | assumption | omega)]))
      exact ⟨ho, hs, hn, hp⟩
    · refine TGo.al0 dX10_back_30 rfl ?_
      refine TGo.bip (-2) dX10_back_31 (by decide) ?_
      refine TGo.cS (csV1 (y2 := mX10_tell) (t := 18) 1 rfl (hT 0 (by decide)) rfl rfl dX10_back_33 q2035 q2037 qs39 okX10_tell npX10_tell rfl rfl) (kX10_tell hT (hz.s rfl) (by omega)) (fun v33 V33 h33 => ?_)
      obtain ⟨rfl, hz33⟩ := h33
      refine TGo.iret dX10_back_36 rfl ?_
      first
      | (exfalso; omega)
      | (refine leafZ hz33 ?_
         unfold zp_back
         (repeat (first | rw [if_pos (by first | rfl | assumption | omega)] | rw [if_neg (by first | decide | assumption | omega)]))
         (try first | rfl | rw [bZ_t (by first | assumption | omega)] | rw [bZ_f (by first | assumption | omega)]))
  · refine TGo.al0 dX10_back_15 rfl ?_
    refine TGo.icm1 dX10_back_16 ?_
    refine TGo.cS (csV1 (y2 := mX10_tell) (t := 18) 1 rfl (hT 0 (by decide)) rfl rfl dX10_back_17 q2035 q2037 qs39 okX10_tell npX10_tell rfl rfl) (kX10_tell hT (hz.s rfl) (by omega)) (fun v17 V17 h17 => ?_)
    obtain ⟨rfl, hz17⟩ := h17
    refine TGo.iret dX10_back_20 rfl ?_
    first
    | (exfalso; omega)
    | (refine leafZ hz17 ?_
       unfold zp_back
       (repeat (first | rw [if_pos (by first | rfl | assumption | omega)] | rw [if_neg (by first | decide | assumption | omega)]))
       (try first | rfl | rw [bZ_t (by first | assumption | omega)] | rw [bZ_f (by first | assumption | omega)]))
theorem zFour_8 {z : ZT} {v : Int} : (zFour z v).1 8 = z.1 8 + 1 + 1 + 1 + 1 := rfl
set_option maxHeartbeats 4000000 in
theorem kX10_four {E : ET} {sh : SHT} {nn : Nat × Nat} {V : VT} {T : Nat} {z : ZT} {v : Int} (hT : MSh T sh) (hz : PE T V z) (hv : R32 v) (ht : 0 ≤ z.1 8 ∧ z.1 8 ≤ 396) : TN E mX10_four 1 [.ref T, .int (iI v)] sh nn V (fun V1 => PE T V1 (zFour z v)) := by
  refine TC.intro [some (.ref T), some (.int (iI v)), none] rfl ?_
  refine TGo.bip 24 dX10_four_0 (by decide) ?_
  refine TGo.is2 dX10_four_2 rfl rfl ?_
  refine TGo.il2 dX10_four_3 rfl ?_
  refine TGo.if_lt 39 dX10_four_4 (by decide) (by decide) (fun h => absurd h (by decide)) (fun _ => ?_)
  refine TGo.al0 dX10_four_7 rfl ?_
  refine TGo.getS (t := 18) 7 7 (T + 5) (hT 0 (by decide)) rfl fgX10_23_10 dX10_four_8 rfl rfl rfl ?_
  refine TGo.al0 dX10_four_11 rfl ?_
  refine TGo.getI (t := 18) 8 8 (hT 0 (by decide)) rfl fgX10_236_10 dX10_four_12 rfl rfl rfl ?_
  refine TGo.toz _ (hz.1 8 rfl) ?_
  refine TGo.il1 dX10_four_15 rfl ?_
  refine TGo.il2 dX10_four_16 rfl ?_
  refine TGo.ishr dX10_four_17 ?_
  refine TGo.sip 255 dX10_four_18 (by decide) ?_
  refine TGo.iand dX10_four_21 ?_
  refine TGo.tos _ (byZ_eq hv 24 (by decide)) ?_
  refine TGo.iast dX10_four_22 (hT 5 (by decide)) (by omega) rfl ?_
  refine TGo.al0 dX10_four_23 rfl ?_
  refine TGo.dup dX10_four_24 rfl ?_
  refine TGo.getI (t := 18) 8 8 (hT 0 (by decide)) rfl fgX10_236_10 dX10_four_25 rfl rfl rfl ?_
  refine TGo.toz _ ((u2_n (Or.inl (by omega))).trans (hz.1 8 rfl)) ?_
  refine TGo.ic1 dX10_four_28 ?_
  refine TGo.iadd dX10_four_29 ?_
  refine TGo.putI (t := 18) 8 8 (hT 0 (by decide)) rfl fpX10_236_10 dX10_four_30 rfl rfl rfl ?_
  refine TGo.iinc dX10_four_33 rfl rfl rfl ?_
  refine TGo.goto 3 dX10_four_36 (by decide) ?_
  refine TGo.il2 dX10_four_3 rfl ?_
  refine TGo.if_lt 39 dX10_four_4 (by decide) (by decide) (fun h => absurd h (by decide)) (fun _ => ?_)
  refine TGo.al0 dX10_four_7 rfl ?_
  refine TGo.getS (t := 18) 7 7 (T + 5) (hT 0 (by decide)) rfl fgX10_23_10 dX10_four_8 rfl rfl rfl ?_
  refine TGo.al0 dX10_four_11 rfl ?_
  refine TGo.getI (t := 18) 8 8 (hT 0 (by decide)) rfl fgX10_236_10 dX10_four_12 rfl rfl rfl ?_
  refine TGo.toz _ (u2_s) ?_
  refine TGo.il1 dX10_four_15 rfl ?_
  refine TGo.il2 dX10_four_16 rfl ?_
  refine TGo.ishr dX10_four_17 ?_
  refine TGo.sip 255 dX10_four_18 (by decide) ?_
  refine TGo.iand dX10_four_21 ?_
  refine TGo.tos _ (byZ_eq hv 16 (by decide)) ?_
  refine TGo.iast dX10_four_22 (hT 5 (by decide)) (by omega) rfl ?_
  refine TGo.al0 dX10_four_23 rfl ?_
  refine TGo.dup dX10_four_24 rfl ?_
  refine TGo.getI (t := 18) 8 8 (hT 0 (by decide)) rfl fgX10_236_10 dX10_four_25 rfl rfl rfl ?_
  refine TGo.toz _ ((u2_n (Or.inl (by omega))).trans (u2_s)) ?_
  refine TGo.ic1 dX10_four_28 ?_
  refine TGo.iadd dX10_four_29 ?_
  refine TGo.putI (t := 18) 8 8 (hT 0 (by decide)) rfl fpX10_236_10 dX10_four_30 rfl rfl rfl ?_
  refine TGo.iinc dX10_four_33 rfl rfl rfl ?_
  refine TGo.goto 3 dX10_four_36 (by decide) ?_
  refine TGo.il2 dX10_four_3 rfl ?_
  refine TGo.if_lt 39 dX10_four_4 (by decide) (by decide) (fun h => absurd h (by decide)) (fun _ => ?_)
  refine TGo.al0 dX10_four_7 rfl ?_
  refine TGo.getS (t := 18) 7 7 (T + 5) (hT 0 (by decide)) rfl fgX10_23_10 dX10_four_8 rfl rfl rfl ?_
  refine TGo.al0 dX10_four_11 rfl ?_
  refine TGo.getI (t := 18) 8 8 (hT 0 (by decide)) rfl fgX10_236_10 dX10_four_12 rfl rfl rfl ?_
  refine TGo.toz _ (u2_s) ?_
  refine TGo.il1 dX10_four_15 rfl ?_
  refine TGo.il2 dX10_four_16 rfl ?_
  refine TGo.ishr dX10_four_17 ?_
  refine TGo.sip 255 dX10_four_18 (by decide) ?_
  refine TGo.iand dX10_four_21 ?_
  refine TGo.tos _ (byZ_eq hv 8 (by decide)) ?_
  refine TGo.iast dX10_four_22 (hT 5 (by decide)) (by omega) rfl ?_
  refine TGo.al0 dX10_four_23 rfl ?_
  refine TGo.dup dX10_four_24 rfl ?_
  refine TGo.getI (t := 18) 8 8 (hT 0 (by decide)) rfl fgX10_236_10 dX10_four_25 rfl rfl rfl ?_
  refine TGo.toz _ ((u2_n (Or.inl (by omega))).trans (u2_s)) ?_
  refine TGo.ic1 dX10_four_28 ?_
  refine TGo.iadd dX10_four_29 ?_
  refine TGo.putI (t := 18) 8 8 (hT 0 (by decide)) rfl fpX10_236_10 dX10_four_30 rfl rfl rfl ?_
  refine TGo.iinc dX10_four_33 rfl rfl rfl ?_
  refine TGo.goto 3 dX10_four_36 (by decide) ?_
  refine TGo.il2 dX10_four_3 rfl ?_
  refine TGo.if_lt 39 dX10_four_4 (by decide) (by decide) (fun h => absurd h (by decide)) (fun _ => ?_)
  refine TGo.al0 dX10_four_7 rfl ?_
  refine TGo.getS (t := 18) 7 7 (T + 5) (hT 0 (by decide)) rfl fgX10_23_10 dX10_four_8 rfl rfl rfl ?_
  refine TGo.al0 dX10_four_11 rfl ?_
  refine TGo.getI (t := 18) 8 8 (hT 0 (by decide)) rfl fgX10_236_10 dX10_four_12 rfl rfl rfl ?_
  refine TGo.toz _ (u2_s) ?_
  refine TGo.il1 dX10_four_15 rfl ?_
  refine TGo.il2 dX10_four_16 rfl ?_
  refine TGo.ishr dX10_four_17 ?_
  refine TGo.sip 255 dX10_four_18 (by decide) ?_
  refine TGo.iand dX10_four_21 ?_
  refine TGo.tos _ (byZ_eq hv 0 (by decide)) ?_
  refine TGo.iast dX10_four_22 (hT 5 (by decide)) (by omega) rfl ?_
  refine TGo.al0 dX10_four_23 rfl ?_
  refine TGo.dup dX10_four_24 rfl ?_
  refine TGo.getI (t := 18) 8 8 (hT 0 (by decide)) rfl fgX10_236_10 dX10_four_25 rfl rfl rfl ?_
  refine TGo.toz _ ((u2_n (Or.inl (by omega))).trans (u2_s)) ?_
  refine TGo.ic1 dX10_four_28 ?_
  refine TGo.iadd dX10_four_29 ?_
  refine TGo.putI (t := 18) 8 8 (hT 0 (by decide)) rfl fpX10_236_10 dX10_four_30 rfl rfl rfl ?_
  refine TGo.iinc dX10_four_33 rfl rfl rfl ?_
  refine TGo.goto 3 dX10_four_36 (by decide) ?_
  refine TGo.il2 dX10_four_3 rfl ?_
  refine TGo.if_lt 39 dX10_four_4 (by decide) (by decide) (fun _ => ?_) (fun h => absurd h (by decide))
  refine TGo.vret dX10_four_39 rfl ?_
  exact ⟨rfl, rfl, rfl, PE.eq ((((((((hz.a 7 rfl rfl).i rfl).a 7 rfl rfl).i rfl).a 7 rfl rfl).i rfl).a 7 rfl rfl).i rfl) (by simp only [zi_za, zi_zi]; rfl)⟩
def zp_feed (z : ZT) (a b c d e : Int) : Int × ZT :=
  if 400 < z.1 8 + 20 then (-1, z) else (z.1 8 + 20, zFour (zFour (zFour (zFour (zFour z a) b) c) d) e)
set_option maxHeartbeats 4000000 in
theorem kX10_feed {E : ET} {sh : SHT} {nn : Nat × Nat} {V : VT} {T : Nat} {z : ZT} {a b c d e : Int} (hT : MSh T sh) (hz : PE T V z) (wt : 0 ≤ z.1 8 ∧ z.1 8 ≤ 400) (ra : R32 a) (rb : R32 b) (rc : R32 c) (rd : R32 d) (re : R32 e) : TC E mX10_feed 2 [.ref T, .int (iI a), .int (iI b), .int (iI c), .int (iI d), .int (iI e)] sh nn V (ZP T sh nn (zp_feed z a b c d e)) := by
  refine TC.intro [some (.ref T), some (.int (iI a)), some (.int (iI b)), some (.int (iI c)), some (.int (iI d)), some (.int (iI e))] rfl ?_
  refine TGo.al0 dX10_feed_0 rfl ?_
  refine TGo.ic0 dX10_feed_1 ?_
  refine TGo.putI (t := 18) 0 0 (hT 0 (by decide)) rfl fpX10_163_10 dX10_feed_2 rfl rfl rfl ?_
  refine TGo.al0 dX10_feed_5 rfl ?_
  refine TGo.getI (t := 18) 8 8 (hT 0 (by decide)) rfl fgX10_236_10 dX10_feed_6 rfl rfl rfl ?_
  refine TGo.toz _ ((u2_n (Or.inr (by decide))).trans (hz.1 8 rfl)) ?_
  refine TGo.bip 20 dX10_feed_9 (by decide) ?_
  refine TGo.iadd dX10_feed_11 ?_
  refine TGo.sip 400 dX10_feed_12 (by decide) ?_
  refine TGo.icmp_le 20 dX10_feed_15 (by decide) (by omega) (fun h15 => ?_) (fun h15 => ?_)
  · refine TGo.al0 dX10_feed_20 rfl ?_
    refine TGo.il1 dX10_feed_21 rfl ?_
    refine TGo.cN (csV1 (y2 := mX10_four) (t := 18) 1 rfl (hT 0 (by decide)) rfl rfl dX10_feed_22 q2146 q2148 qs48 okX10_four npX10_four rfl rfl) (kX10_four hT (hz.s rfl) (by omega) (by first | omega | (simp only [zFour_8]; omega))) (fun V22 hz22 => ?_)
    refine TGo.al0 dX10_feed_25 rfl ?_
    refine TGo.il2 dX10_feed_26 rfl ?_
    refine TGo.cN (csV1 (y2 := mX10_four) (t := 18) 1 rfl (hT 0 (by decide)) rfl rfl dX10_feed_27 q2146 q2148 qs48 okX10_four npX10_four rfl rfl) (kX10_four hT hz22 (by omega) (by first | omega | (simp only [zFour_8]; omega))) (fun V27 hz27 => ?_)
    refine TGo.al0 dX10_feed_30 rfl ?_
    refine TGo.il3 dX10_feed_31 rfl ?_
    refine TGo.cN (csV1 (y2 := mX10_four) (t := 18) 1 rfl (hT 0 (by decide)) rfl rfl dX10_feed_32 q2146 q2148 qs48 okX10_four npX10_four rfl rfl) (kX10_four hT hz27 (by omega) (by first | omega | (simp only [zFour_8]; omega))) (fun V32 hz32 => ?_)
    refine TGo.al0 dX10_feed_35 rfl ?_
    refine TGo.il dX10_feed_36 rfl ?_
    refine TGo.cN (csV1 (y2 := mX10_four) (t := 18) 1 rfl (hT 0 (by decide)) rfl rfl dX10_feed_38 q2146 q2148 qs48 okX10_four npX10_four rfl rfl) (kX10_four hT hz32 (by omega) (by first | omega | (simp only [zFour_8]; omega))) (fun V38 hz38 => ?_)
    refine TGo.al0 dX10_feed_41 rfl ?_
    refine TGo.il dX10_feed_42 rfl ?_
    refine TGo.cN (csV1 (y2 := mX10_four) (t := 18) 1 rfl (hT 0 (by decide)) rfl rfl dX10_feed_44 q2146 q2148 qs48 okX10_four npX10_four rfl rfl) (kX10_four hT hz38 (by omega) (by first | omega | (simp only [zFour_8]; omega))) (fun V44 hz44 => ?_)
    refine TGo.al0 dX10_feed_47 rfl ?_
    refine TGo.getI (t := 18) 8 8 (hT 0 (by decide)) rfl fgX10_236_10 dX10_feed_48 rfl rfl rfl ?_
    refine TGo.toz _ (hz44.1 8 rfl) ?_
    refine TGo.iret dX10_feed_51 rfl ?_
    first
    | (exfalso; omega)
    | (refine leafZ hz44 ?_
       unfold zp_feed
       (repeat (first | rw [if_pos (by first | rfl | assumption | omega)] | rw [if_neg (by first | decide | assumption | omega)]))
       (try first | rfl | rw [bZ_t (by first | assumption | omega)] | rw [bZ_f (by first | assumption | omega)] | (simp only [zFour_8]; congr 1; omega)))
  · refine TGo.icm1 dX10_feed_18 ?_
    refine TGo.iret dX10_feed_19 rfl ?_
    first
    | (exfalso; omega)
    | (refine leafZ (hz.s rfl) ?_
       unfold zp_feed
       (repeat (first | rw [if_pos (by first | rfl | assumption | omega)] | rw [if_neg (by first | decide | assumption | omega)]))
       (try first | rfl | rw [bZ_t (by first | assumption | omega)] | rw [bZ_f (by first | assumption | omega)] | (simp only [zFour_8]; congr 1; omega)))
