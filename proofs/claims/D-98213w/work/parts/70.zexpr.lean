/-! THE MODEL: the parser reads an expression -/
set_option maxRecDepth 100000
theorem icF_r {P : Int → Int} : ∀ {k : Nat}, icF P k = 0 ∨ icF P k = 1 := by
  intro k
  induction k with
  | zero => exact Or.inl rfl
  | succ k ih =>
    show (if 20 ≤ P (k : Int) ∧ P (k : Int) ≤ 24 then icF P k else bZ (25 ≤ P (k : Int) ∧ P (k : Int) ≤ 27)) = 0 ∨ (if 20 ≤ P (k : Int) ∧ P (k : Int) ≤ 24 then icF P k else bZ (25 ≤ P (k : Int) ∧ P (k : Int) ≤ 27)) = 1
    split
    · exact ih
    · exact bZ_or _
theorem icZ_r {z : ZT} : icZ z = 0 ∨ icZ z = 1 := icF_r
abbrev ZPS (T : Nat) (sh : SHT) (nn : Nat × Nat) (x : Int × ZT) : AO → SHT → Nat × Nat → VT → Prop := fun o sh' nn' V' => ∃ v, o = .inl (some v) ∧ sh' = sh ∧ nn' = nn ∧ v = .int (iI x.1) ∧ PZ T V' x.2
theorem leafR {T : Nat} {V : VT} {sh : SHT} {nn : Nat × Nat} {x : Int × ZT} {r : Int} {z : ZT} (hp : PZ T V z) (h : x = (r, z)) : ∃ v, (Sum.inl (some (Value.int (iI r))) : AO) = .inl (some v) ∧ sh = sh ∧ nn = nn ∧ v = .int (iI x.1) ∧ PZ T V x.2 := by subst h; exact ⟨_, rfl, rfl, rfl, rfl, hp⟩
set_option maxHeartbeats 4000000 in
theorem kX10_openBracket {E : ET} {sh : SHT} {nn : Nat × Nat} {V : VT} {T : Nat} {z : ZT} {op : Int} (hT : MSh T sh) (hz : PZ T V z) (Y : YW z (z.1 9)) (h : z.1 11 ≠ 0) (ho : 20 ≤ op ∧ op ≤ 32) : TN E mX10_openBracket 4 [.ref T, .int (iI op)] sh nn V (fun V1 => PZ T V1 (opZ z op)) := by
  have hb := Y.2.1.b Y.1
  have hle := Y.le
  have hib := Y.ib (by omega)
  have ht := Y.t h
  refine TC.intro [some (.ref T), some (.int (iI op))] rfl ?_
  refine TGo.al0 dX10_openBracket_0 rfl ?_
  refine TGo.al0 dX10_openBracket_1 rfl ?_
  refine TGo.getI (t := 18) 25 25 (hT 0 (by decide)) rfl fgX10_311_10 dX10_openBracket_2 rfl rfl rfl ?_
  refine TGo.toz _ (hz.1 25 rfl) ?_
  refine TGo.bip 8 dX10_openBracket_5 (by decide) ?_
  refine TGo.icmp_ge 14 dX10_openBracket_7 (by decide) (by omega) (fun h7 => ?_) (fun h7 => ?_)
  · refine TGo.ic0 dX10_openBracket_14 ?_
    refine TGo.toz (bZ (z.1 25 < 8)) (by first | exact (bZ_t (by first | assumption | omega)).symm | exact (bZ_f (by first | assumption | omega)).symm) ?_
    refine TGo.cN (csV1 (y2 := mX10_must) (t := 18) 3 rfl (hT 0 (by decide)) rfl rfl dX10_openBracket_15 q2197 q2199 qs54 okX10_must npX10_must rfl rfl) (kX10_must hT hz Y (by first | exact Or.inl rfl | exact Or.inr rfl | exact bZ_or _ | assumption)) (fun V15 hz15 => ?_)
    have Y15 := YW.mu (b := bZ (z.1 25 < 8)) Y
    have Y15b := Y15.2.2.1
    refine TGo.al0 dX10_openBracket_18 rfl ?_
    refine TGo.getI (t := 18) 14 14 (hT 0 (by decide)) rfl fgX10_249_10 dX10_openBracket_19 rfl rfl rfl ?_
    refine TGo.toz _ (hz15.1 14 rfl) ?_
    refine TGo.if_ne 41 dX10_openBracket_22 (by decide) (by omega) (fun h22 => ?_) (fun h22 => ?_)
    · refine TGo.vret dX10_openBracket_41 rfl ?_
      first
      | (exfalso; omega)
      | (refine ⟨rfl, rfl, rfl, PZ.eq hz15 ?_⟩
         unfold opZ opZ1
         (repeat (first | rw [if_pos (by first | rfl | assumption | omega)] | rw [if_neg (by first | decide | assumption | omega)]))
         (try first | rfl))
    · refine TGo.al0 dX10_openBracket_25 rfl ?_
      refine TGo.dup dX10_openBracket_26 rfl ?_
      refine TGo.getI (t := 18) 25 25 (hT 0 (by decide)) rfl fgX10_311_10 dX10_openBracket_27 rfl rfl rfl ?_
      refine TGo.toz _ (hz15.1 25 rfl) ?_
      refine TGo.ic1 dX10_openBracket_30 ?_
      refine TGo.iadd dX10_openBracket_31 ?_
      refine TGo.putI (t := 18) 25 25 (hT 0 (by decide)) rfl fpX10_311_10 dX10_openBracket_32 rfl rfl rfl ?_
      refine TGo.al0 dX10_openBracket_35 rfl ?_
      refine TGo.il1 dX10_openBracket_36 rfl ?_
      refine TGo.ic0 dX10_openBracket_37 ?_
      refine TGo.cN (csV2 (y2 := mX10_push) (t := 18) 1 rfl (hT 0 (by decide)) rfl rfl dX10_openBracket_38 q2210 q2212 qs57 okX10_push npX10_push rfl rfl) (kX10_push hT (hz15.i rfl) (by have q := Y15.2.2.2.1.1; show 0 ≤ (muZ z (bZ (z.1 25 < 8))).1 24 ∧ (muZ z (bZ (z.1 25 < 8))).1 24 < 400; omega)) (fun V38 hz38 => ?_)
      refine TGo.vret dX10_openBracket_41 rfl ?_
      first
      | (exfalso; omega)
      | (refine ⟨rfl, rfl, rfl, PZ.eq hz38 ?_⟩
         unfold opZ opZ1
         (repeat (first | rw [if_pos (by first | rfl | assumption | omega)] | rw [if_neg (by first | decide | assumption | omega)]))
         (try first | rfl))
  · refine TGo.ic1 dX10_openBracket_10 ?_
    refine TGo.goto 15 dX10_openBracket_11 (by decide) ?_
    refine TGo.toz (bZ (z.1 25 < 8)) (by first | exact (bZ_t (by first | assumption | omega)).symm | exact (bZ_f (by first | assumption | omega)).symm) ?_
    refine TGo.cN (csV1 (y2 := mX10_must) (t := 18) 3 rfl (hT 0 (by decide)) rfl rfl dX10_openBracket_15 q2197 q2199 qs54 okX10_must npX10_must rfl rfl) (kX10_must hT hz Y (by first | exact Or.inl rfl | exact Or.inr rfl | exact bZ_or _ | assumption)) (fun V15 hz15 => ?_)
    have Y15 := YW.mu (b := bZ (z.1 25 < 8)) Y
    have Y15b := Y15.2.2.1
    refine TGo.al0 dX10_openBracket_18 rfl ?_
    refine TGo.getI (t := 18) 14 14 (hT 0 (by decide)) rfl fgX10_249_10 dX10_openBracket_19 rfl rfl rfl ?_
    refine TGo.toz _ (hz15.1 14 rfl) ?_
    refine TGo.if_ne 41 dX10_openBracket_22 (by decide) (by omega) (fun h22 => ?_) (fun h22 => ?_)
    · refine TGo.vret dX10_openBracket_41 rfl ?_
      first
      | (exfalso; omega)
      | (refine ⟨rfl, rfl, rfl, PZ.eq hz15 ?_⟩
         unfold opZ opZ1
         (repeat (first | rw [if_pos (by first | rfl | assumption | omega)] | rw [if_neg (by first | decide | assumption | omega)]))
         (try first | rfl))
    · refine TGo.al0 dX10_openBracket_25 rfl ?_
      refine TGo.dup dX10_openBracket_26 rfl ?_
      refine TGo.getI (t := 18) 25 25 (hT 0 (by decide)) rfl fgX10_311_10 dX10_openBracket_27 rfl rfl rfl ?_
      refine TGo.toz _ (hz15.1 25 rfl) ?_
      refine TGo.ic1 dX10_openBracket_30 ?_
      refine TGo.iadd dX10_openBracket_31 ?_
      refine TGo.putI (t := 18) 25 25 (hT 0 (by decide)) rfl fpX10_311_10 dX10_openBracket_32 rfl rfl rfl ?_
      refine TGo.al0 dX10_openBracket_35 rfl ?_
      refine TGo.il1 dX10_openBracket_36 rfl ?_
      refine TGo.ic0 dX10_openBracket_37 ?_
      refine TGo.cN (csV2 (y2 := mX10_push) (t := 18) 1 rfl (hT 0 (by decide)) rfl rfl dX10_openBracket_38 q2210 q2212 qs57 okX10_push npX10_push rfl rfl) (kX10_push hT (hz15.i rfl) (by have q := Y15.2.2.2.1.1; show 0 ≤ (muZ z (bZ (z.1 25 < 8))).1 24 ∧ (muZ z (bZ (z.1 25 < 8))).1 24 < 400; omega)) (fun V38 hz38 => ?_)
      refine TGo.vret dX10_openBracket_41 rfl ?_
      first
      | (exfalso; omega)
      | (refine ⟨rfl, rfl, rfl, PZ.eq hz38 ?_⟩
         unfold opZ opZ1
         (repeat (first | rw [if_pos (by first | rfl | assumption | omega)] | rw [if_neg (by first | decide | assumption | omega)]))
         (try first | rfl))
set_option maxHeartbeats 4000000 in
theorem kX10_leaf {E : ET} {sh : SHT} {nn : Nat × Nat} {V : VT} {T : Nat} {z : ZT} {b op ag : Int} (hT : MSh T sh) (hz : PZ T V z) (Y : YW z (z.1 9)) (h : b ≠ 0 → z.1 11 ≠ 0) (hb0 : b = 0 ∨ b = 1) : TN E mX10_leaf 4 [.ref T, .int (iI b), .int (iI op), .int (iI ag)] sh nn V (fun V1 => PZ T V1 (leZ z b op ag)) := by
  have hb := Y.2.1.b Y.1
  have hle := Y.le
  have hib := Y.ib (by omega)
  refine TC.intro [some (.ref T), some (.int (iI b)), some (.int (iI op)), some (.int (iI ag))] rfl ?_
  refine TGo.al0 dX10_leaf_0 rfl ?_
  refine TGo.il1 dX10_leaf_1 rfl ?_
  refine TGo.if_eq 18 dX10_leaf_2 (by decide) (by omega) (fun h2 => ?_) (fun h2 => ?_)
  · refine TGo.ic0 dX10_leaf_18 ?_
    refine TGo.toz (bZ (b ≠ 0 ∧ z.1 21 < 50)) (by first | exact (bZ_t (by first | assumption | omega)).symm | exact (bZ_f (by first | assumption | omega)).symm) ?_
    refine TGo.cN (csV1 (y2 := mX10_must) (t := 18) 3 rfl (hT 0 (by decide)) rfl rfl dX10_leaf_19 q2197 q2199 qs54 okX10_must npX10_must rfl rfl) (kX10_must hT hz Y (by first | exact Or.inl rfl | exact Or.inr rfl | exact bZ_or _ | assumption)) (fun V19 hz19 => ?_)
    have Y19 := YW.mu (b := bZ (b ≠ 0 ∧ z.1 21 < 50)) Y
    have Y19b := Y19.2.2.1
    refine TGo.al0 dX10_leaf_22 rfl ?_
    refine TGo.getI (t := 18) 14 14 (hT 0 (by decide)) rfl fgX10_249_10 dX10_leaf_23 rfl rfl rfl ?_
    refine TGo.toz _ (hz19.1 14 rfl) ?_
    refine TGo.if_ne 45 dX10_leaf_26 (by decide) (by omega) (fun h26 => ?_) (fun h26 => ?_)
    · refine TGo.vret dX10_leaf_45 rfl ?_
      first
      | (exfalso; omega)
      | (refine ⟨rfl, rfl, rfl, PZ.eq hz19 ?_⟩
         unfold leZ leZ1
         (repeat (first | rw [if_pos (by first | rfl | assumption | omega)] | rw [if_neg (by first | decide | assumption | omega)]))
         (try first | rfl))
    · refine TGo.al0 dX10_leaf_29 rfl ?_
      refine TGo.il2 dX10_leaf_30 rfl ?_
      refine TGo.il3 dX10_leaf_31 rfl ?_
      refine TGo.cN (csV2 (y2 := mX10_emit) (t := 18) 1 rfl (hT 0 (by decide)) rfl rfl dX10_leaf_32 q2239 q2241 qs64 okX10_emit npX10_emit rfl rfl) (kX10_emit hT hz19 (by have q := Y19.2.2.2.1.1; have q9 := Y.mu9 (b := bZ (b ≠ 0 ∧ z.1 21 < 50)); have q8 := (muZ_ok (z := z) (b := bZ (b ≠ 0 ∧ z.1 21 < 50)) (by assumption)).2.1; have q7 : b ≠ 0 ∧ z.1 21 < 50 := Classical.byContradiction (fun c => q8 (bZ_f c)); have q6 := Y.t (h q7.1); omega)) (fun V32 hz32 => ?_)
      refine TGo.al0 dX10_leaf_35 rfl ?_
      refine TGo.dup dX10_leaf_36 rfl ?_
      refine TGo.getI (t := 18) 21 21 (hT 0 (by decide)) rfl fgX10_317_10 dX10_leaf_37 rfl rfl rfl ?_
      refine TGo.toz _ (hz32.1 21 rfl) ?_
      refine TGo.ic1 dX10_leaf_40 ?_
      refine TGo.iadd dX10_leaf_41 ?_
      refine TGo.putI (t := 18) 21 21 (hT 0 (by decide)) rfl fpX10_317_10 dX10_leaf_42 rfl rfl rfl ?_
      refine TGo.vret dX10_leaf_45 rfl ?_
      first
      | (exfalso; omega)
      | (refine ⟨rfl, rfl, rfl, PZ.eq (hz32.i rfl) ?_⟩
         unfold leZ leZ1
         (repeat (first | rw [if_pos (by first | rfl | assumption | omega)] | rw [if_neg (by first | decide | assumption | omega)]))
         (try first | rfl))
  · refine TGo.al0 dX10_leaf_5 rfl ?_
    refine TGo.getI (t := 18) 21 21 (hT 0 (by decide)) rfl fgX10_317_10 dX10_leaf_6 rfl rfl rfl ?_
    refine TGo.toz _ (hz.1 21 rfl) ?_
    refine TGo.bip 50 dX10_leaf_9 (by decide) ?_
    refine TGo.icmp_ge 18 dX10_leaf_11 (by decide) (by omega) (fun h11 => ?_) (fun h11 => ?_)
    · refine TGo.ic0 dX10_leaf_18 ?_
      refine TGo.toz (bZ (b ≠ 0 ∧ z.1 21 < 50)) (by first | exact (bZ_t (by first | assumption | omega)).symm | exact (bZ_f (by first | assumption | omega)).symm) ?_
      refine TGo.cN (csV1 (y2 := mX10_must) (t := 18) 3 rfl (hT 0 (by decide)) rfl rfl dX10_leaf_19 q2197 q2199 qs54 okX10_must npX10_must rfl rfl) (kX10_must hT hz Y (by first | exact Or.inl rfl | exact Or.inr rfl | exact bZ_or _ | assumption)) (fun V19 hz19 => ?_)
      have Y19 := YW.mu (b := bZ (b ≠ 0 ∧ z.1 21 < 50)) Y
      have Y19b := Y19.2.2.1
      refine TGo.al0 dX10_leaf_22 rfl ?_
      refine TGo.getI (t := 18) 14 14 (hT 0 (by decide)) rfl fgX10_249_10 dX10_leaf_23 rfl rfl rfl ?_
      refine TGo.toz _ (hz19.1 14 rfl) ?_
      refine TGo.if_ne 45 dX10_leaf_26 (by decide) (by omega) (fun h26 => ?_) (fun h26 => ?_)
      · refine TGo.vret dX10_leaf_45 rfl ?_
        first
        | (exfalso; omega)
        | (refine ⟨rfl, rfl, rfl, PZ.eq hz19 ?_⟩
           unfold leZ leZ1
           (repeat (first | rw [if_pos (by first | rfl | assumption | omega)] | rw [if_neg (by first | decide | assumption | omega)]))
           (try first | rfl))
      · refine TGo.al0 dX10_leaf_29 rfl ?_
        refine TGo.il2 dX10_leaf_30 rfl ?_
        refine TGo.il3 dX10_leaf_31 rfl ?_
        refine TGo.cN (csV2 (y2 := mX10_emit) (t := 18) 1 rfl (hT 0 (by decide)) rfl rfl dX10_leaf_32 q2239 q2241 qs64 okX10_emit npX10_emit rfl rfl) (kX10_emit hT hz19 (by have q := Y19.2.2.2.1.1; have q9 := Y.mu9 (b := bZ (b ≠ 0 ∧ z.1 21 < 50)); have q8 := (muZ_ok (z := z) (b := bZ (b ≠ 0 ∧ z.1 21 < 50)) (by assumption)).2.1; have q7 : b ≠ 0 ∧ z.1 21 < 50 := Classical.byContradiction (fun c => q8 (bZ_f c)); have q6 := Y.t (h q7.1); omega)) (fun V32 hz32 => ?_)
        refine TGo.al0 dX10_leaf_35 rfl ?_
        refine TGo.dup dX10_leaf_36 rfl ?_
        refine TGo.getI (t := 18) 21 21 (hT 0 (by decide)) rfl fgX10_317_10 dX10_leaf_37 rfl rfl rfl ?_
        refine TGo.toz _ (hz32.1 21 rfl) ?_
        refine TGo.ic1 dX10_leaf_40 ?_
        refine TGo.iadd dX10_leaf_41 ?_
        refine TGo.putI (t := 18) 21 21 (hT 0 (by decide)) rfl fpX10_317_10 dX10_leaf_42 rfl rfl rfl ?_
        refine TGo.vret dX10_leaf_45 rfl ?_
        first
        | (exfalso; omega)
        | (refine ⟨rfl, rfl, rfl, PZ.eq (hz32.i rfl) ?_⟩
           unfold leZ leZ1
           (repeat (first | rw [if_pos (by first | rfl | assumption | omega)] | rw [if_neg (by first | decide | assumption | omega)]))
           (try first | rfl))
    · refine TGo.ic1 dX10_leaf_14 ?_
      refine TGo.goto 19 dX10_leaf_15 (by decide) ?_
      refine TGo.toz (bZ (b ≠ 0 ∧ z.1 21 < 50)) (by first | exact (bZ_t (by first | assumption | omega)).symm | exact (bZ_f (by first | assumption | omega)).symm) ?_
      refine TGo.cN (csV1 (y2 := mX10_must) (t := 18) 3 rfl (hT 0 (by decide)) rfl rfl dX10_leaf_19 q2197 q2199 qs54 okX10_must npX10_must rfl rfl) (kX10_must hT hz Y (by first | exact Or.inl rfl | exact Or.inr rfl | exact bZ_or _ | assumption)) (fun V19 hz19 => ?_)
      have Y19 := YW.mu (b := bZ (b ≠ 0 ∧ z.1 21 < 50)) Y
      have Y19b := Y19.2.2.1
      refine TGo.al0 dX10_leaf_22 rfl ?_
      refine TGo.getI (t := 18) 14 14 (hT 0 (by decide)) rfl fgX10_249_10 dX10_leaf_23 rfl rfl rfl ?_
      refine TGo.toz _ (hz19.1 14 rfl) ?_
      refine TGo.if_ne 45 dX10_leaf_26 (by decide) (by omega) (fun h26 => ?_) (fun h26 => ?_)
      · refine TGo.vret dX10_leaf_45 rfl ?_
        first
        | (exfalso; omega)
        | (refine ⟨rfl, rfl, rfl, PZ.eq hz19 ?_⟩
           unfold leZ leZ1
           (repeat (first | rw [if_pos (by first | rfl | assumption | omega)] | rw [if_neg (by first | decide | assumption | omega)]))
           (try first | rfl))
      · refine TGo.al0 dX10_leaf_29 rfl ?_
        refine TGo.il2 dX10_leaf_30 rfl ?_
        refine TGo.il3 dX10_leaf_31 rfl ?_
        refine TGo.cN (csV2 (y2 := mX10_emit) (t := 18) 1 rfl (hT 0 (by decide)) rfl rfl dX10_leaf_32 q2239 q2241 qs64 okX10_emit npX10_emit rfl rfl) (kX10_emit hT hz19 (by have q := Y19.2.2.2.1.1; have q9 := Y.mu9 (b := bZ (b ≠ 0 ∧ z.1 21 < 50)); have q8 := (muZ_ok (z := z) (b := bZ (b ≠ 0 ∧ z.1 21 < 50)) (by assumption)).2.1; have q7 : b ≠ 0 ∧ z.1 21 < 50 := Classical.byContradiction (fun c => q8 (bZ_f c)); have q6 := Y.t (h q7.1); omega)) (fun V32 hz32 => ?_)
        refine TGo.al0 dX10_leaf_35 rfl ?_
        refine TGo.dup dX10_leaf_36 rfl ?_
        refine TGo.getI (t := 18) 21 21 (hT 0 (by decide)) rfl fgX10_317_10 dX10_leaf_37 rfl rfl rfl ?_
        refine TGo.toz _ (hz32.1 21 rfl) ?_
        refine TGo.ic1 dX10_leaf_40 ?_
        refine TGo.iadd dX10_leaf_41 ?_
        refine TGo.putI (t := 18) 21 21 (hT 0 (by decide)) rfl fpX10_317_10 dX10_leaf_42 rfl rfl rfl ?_
        refine TGo.vret dX10_leaf_45 rfl ?_
        first
        | (exfalso; omega)
        | (refine ⟨rfl, rfl, rfl, PZ.eq (hz32.i rfl) ?_⟩
           unfold leZ leZ1
           (repeat (first | rw [if_pos (by first | rfl | assumption | omega)] | rw [if_neg (by first | decide | assumption | omega)]))
           (try first | rfl))
set_option maxHeartbeats 4000000 in
theorem lX10_readPart {E : ET} {sh : SHT} {nn : Nat × Nat} {T : Nat} {z : ZT} {V : VT} (hT : MSh T sh) (hz : PZ T V z) (Y : YW z (z.1 9)) (hs : ¬ sgA z 91) : TGo E mX10_readPart 5 35 [some (.ref T), none, none] [.int (iI (itsZ z))] sh nn V (ZPS T sh nn (rpZ z)) := by
  have hb := Y.2.1.b Y.1
  have hle := Y.le
  have hi : -1 ≤ itsZ z ∧ itsZ z ≤ 8 := by
    unfold itsZ
    split
    · have := @paZ_b mW (z.1 11) (z.1 12) 8; omega
    · have := @paZ_b mPW (z.1 11) (z.1 12) 6; omega
  refine TGo.is1 dX10_readPart_35 rfl rfl ?_
  refine TGo.al0 dX10_readPart_36 rfl ?_
  refine TGo.getI (t := 18) 11 11 (hT 0 (by decide)) rfl fgX10_269_10 dX10_readPart_37 rfl rfl rfl ?_
  refine TGo.toz _ (hz.1 11 rfl) ?_
  refine TGo.ic2 dX10_readPart_40 ?_
  refine TGo.icmp_ne 59 dX10_readPart_41 (by decide) (by omega) (fun h41 => ?_) (fun h41 => ?_)
  · refine TGo.ic0 dX10_readPart_59 ?_
    refine TGo.toz (bZ (diZ z)) (by first | exact (bZ_t ⟨by omega, by omega⟩).symm | exact (bZ_f (fun q => by have q1 := q.1; have q2 := q.2; omega)).symm) ?_
    refine TGo.is2 dX10_readPart_60 rfl rfl ?_
    refine TGo.al0 dX10_readPart_61 rfl ?_
    refine TGo.il1 dX10_readPart_62 rfl ?_
    refine TGo.icm1 dX10_readPart_63 ?_
    refine TGo.icmp_ne 71 dX10_readPart_64 (by decide) (by omega) (fun h64 => ?_) (fun h64 => ?_)
    · refine TGo.ic1 dX10_readPart_71 ?_
      refine TGo.goto 76 dX10_readPart_72 (by decide) ?_
      refine TGo.toz (bZ (itsZ z ≠ -1 ∨ diZ z)) (by first | exact (bZ_t (by first | exact Or.inl (by assumption) | exact Or.inr (by assumption))).symm | exact (bZ_f (fun q => by rcases q with q | q <;> first | exact absurd q (by assumption) | omega)).symm) ?_
      refine TGo.il1 dX10_readPart_76 rfl ?_
      refine TGo.icm1 dX10_readPart_77 ?_
      refine TGo.icmp_ne 85 dX10_readPart_78 (by decide) (by omega) (fun h78 => ?_) (fun h78 => ?_)
      · refine TGo.il1 dX10_readPart_85 rfl ?_
        refine TGo.toz (if itsZ z = -1 then 0 else itsZ z) (by first | exact (if_pos (by assumption)).symm | exact (if_neg (by assumption)).symm) ?_
        refine TGo.il2 dX10_readPart_86 rfl ?_
        refine TGo.ifb_eq 98 dX10_readPart_87 (by decide) (fun h87 => ?_) (fun h87 => ?_)
        · refine TGo.ic0 dX10_readPart_98 ?_
          refine TGo.toz (if diZ z then z.1 12 else 0) (by first | exact (if_pos (by assumption)).symm | exact (if_neg (by assumption)).symm) ?_
          refine TGo.cN (csV3 (y2 := mX10_leaf) (t := 18) 4 rfl (hT 0 (by decide)) rfl rfl dX10_readPart_99 q2235 q2237 qs63 okX10_leaf npX10_leaf rfl rfl) (kX10_leaf hT hz Y (fun h => by have h : itsZ z ≠ -1 ∨ diZ z := Classical.byContradiction (fun c => h (bZ_f c)); rcases h with h | h; (rw [itsZ_1 h]; decide); (rw [h.1]; decide)) (bZ_or _)) (fun V99 hz99 => ?_)
          refine TGo.ic3 dX10_readPart_102 ?_
          refine TGo.iret dX10_readPart_103 rfl ?_
          refine leafR hz99 ?_
          unfold rpZ
          rw [if_neg hs]
        · refine TGo.al0 dX10_readPart_90 rfl ?_
          refine TGo.getJ (t := 18) 12 12 (hT 0 (by decide)) rfl fgX10_259_10 dX10_readPart_91 rfl rfl rfl ?_
          refine TGo.tol (z.1 12) hz.2.2.2 ?_
          refine TGo.l2i dX10_readPart_94 (by omega) ?_
          refine TGo.goto 99 dX10_readPart_95 (by decide) ?_
          refine TGo.toz (if diZ z then z.1 12 else 0) (by first | exact (if_pos (by assumption)).symm | exact (if_neg (by assumption)).symm) ?_
          refine TGo.cN (csV3 (y2 := mX10_leaf) (t := 18) 4 rfl (hT 0 (by decide)) rfl rfl dX10_readPart_99 q2235 q2237 qs63 okX10_leaf npX10_leaf rfl rfl) (kX10_leaf hT hz Y (fun h => by have h : itsZ z ≠ -1 ∨ diZ z := Classical.byContradiction (fun c => h (bZ_f c)); rcases h with h | h; (rw [itsZ_1 h]; decide); (rw [h.1]; decide)) (bZ_or _)) (fun V99 hz99 => ?_)
          refine TGo.ic3 dX10_readPart_102 ?_
          refine TGo.iret dX10_readPart_103 rfl ?_
          refine leafR hz99 ?_
          unfold rpZ
          rw [if_neg hs]
      · refine TGo.ic0 dX10_readPart_81 ?_
        refine TGo.goto 86 dX10_readPart_82 (by decide) ?_
        refine TGo.toz (if itsZ z = -1 then 0 else itsZ z) (by first | exact (if_pos (by assumption)).symm | exact (if_neg (by assumption)).symm) ?_
        refine TGo.il2 dX10_readPart_86 rfl ?_
        refine TGo.ifb_eq 98 dX10_readPart_87 (by decide) (fun h87 => ?_) (fun h87 => ?_)
        · refine TGo.ic0 dX10_readPart_98 ?_
          refine TGo.toz (if diZ z then z.1 12 else 0) (by first | exact (if_pos (by assumption)).symm | exact (if_neg (by assumption)).symm) ?_
          refine TGo.cN (csV3 (y2 := mX10_leaf) (t := 18) 4 rfl (hT 0 (by decide)) rfl rfl dX10_readPart_99 q2235 q2237 qs63 okX10_leaf npX10_leaf rfl rfl) (kX10_leaf hT hz Y (fun h => by have h : itsZ z ≠ -1 ∨ diZ z := Classical.byContradiction (fun c => h (bZ_f c)); rcases h with h | h; (rw [itsZ_1 h]; decide); (rw [h.1]; decide)) (bZ_or _)) (fun V99 hz99 => ?_)
          refine TGo.ic3 dX10_readPart_102 ?_
          refine TGo.iret dX10_readPart_103 rfl ?_
          refine leafR hz99 ?_
          unfold rpZ
          rw [if_neg hs]
        · refine TGo.al0 dX10_readPart_90 rfl ?_
          refine TGo.getJ (t := 18) 12 12 (hT 0 (by decide)) rfl fgX10_259_10 dX10_readPart_91 rfl rfl rfl ?_
          refine TGo.tol (z.1 12) hz.2.2.2 ?_
          refine TGo.l2i dX10_readPart_94 (by omega) ?_
          refine TGo.goto 99 dX10_readPart_95 (by decide) ?_
          refine TGo.toz (if diZ z then z.1 12 else 0) (by first | exact (if_pos (by assumption)).symm | exact (if_neg (by assumption)).symm) ?_
          refine TGo.cN (csV3 (y2 := mX10_leaf) (t := 18) 4 rfl (hT 0 (by decide)) rfl rfl dX10_readPart_99 q2235 q2237 qs63 okX10_leaf npX10_leaf rfl rfl) (kX10_leaf hT hz Y (fun h => by have h : itsZ z ≠ -1 ∨ diZ z := Classical.byContradiction (fun c => h (bZ_f c)); rcases h with h | h; (rw [itsZ_1 h]; decide); (rw [h.1]; decide)) (bZ_or _)) (fun V99 hz99 => ?_)
          refine TGo.ic3 dX10_readPart_102 ?_
          refine TGo.iret dX10_readPart_103 rfl ?_
          refine leafR hz99 ?_
          unfold rpZ
          rw [if_neg hs]
    · refine TGo.il2 dX10_readPart_67 rfl ?_
      refine TGo.ifb_eq 75 dX10_readPart_68 (by decide) (fun h68 => ?_) (fun h68 => ?_)
      · refine TGo.ic0 dX10_readPart_75 ?_
        refine TGo.toz (bZ (itsZ z ≠ -1 ∨ diZ z)) (by first | exact (bZ_t (by first | exact Or.inl (by assumption) | exact Or.inr (by assumption))).symm | exact (bZ_f (fun q => by rcases q with q | q <;> first | exact absurd q (by assumption) | omega)).symm) ?_
        refine TGo.il1 dX10_readPart_76 rfl ?_
        refine TGo.icm1 dX10_readPart_77 ?_
        refine TGo.icmp_ne 85 dX10_readPart_78 (by decide) (by omega) (fun h78 => ?_) (fun h78 => ?_)
        · refine TGo.il1 dX10_readPart_85 rfl ?_
          refine TGo.toz (if itsZ z = -1 then 0 else itsZ z) (by first | exact (if_pos (by assumption)).symm | exact (if_neg (by assumption)).symm) ?_
          refine TGo.il2 dX10_readPart_86 rfl ?_
          refine TGo.ifb_eq 98 dX10_readPart_87 (by decide) (fun h87 => ?_) (fun h87 => ?_)
          · refine TGo.ic0 dX10_readPart_98 ?_
            refine TGo.toz (if diZ z then z.1 12 else 0) (by first | exact (if_pos (by assumption)).symm | exact (if_neg (by assumption)).symm) ?_
            refine TGo.cN (csV3 (y2 := mX10_leaf) (t := 18) 4 rfl (hT 0 (by decide)) rfl rfl dX10_readPart_99 q2235 q2237 qs63 okX10_leaf npX10_leaf rfl rfl) (kX10_leaf hT hz Y (fun h => by have h : itsZ z ≠ -1 ∨ diZ z := Classical.byContradiction (fun c => h (bZ_f c)); rcases h with h | h; (rw [itsZ_1 h]; decide); (rw [h.1]; decide)) (bZ_or _)) (fun V99 hz99 => ?_)
            refine TGo.ic3 dX10_readPart_102 ?_
            refine TGo.iret dX10_readPart_103 rfl ?_
            refine leafR hz99 ?_
            unfold rpZ
            rw [if_neg hs]
          · refine TGo.al0 dX10_readPart_90 rfl ?_
            refine TGo.getJ (t := 18) 12 12 (hT 0 (by decide)) rfl fgX10_259_10 dX10_readPart_91 rfl rfl rfl ?_
            refine TGo.tol (z.1 12) hz.2.2.2 ?_
            refine TGo.l2i dX10_readPart_94 (by omega) ?_
            refine TGo.goto 99 dX10_readPart_95 (by decide) ?_
            refine TGo.toz (if diZ z then z.1 12 else 0) (by first | exact (if_pos (by assumption)).symm | exact (if_neg (by assumption)).symm) ?_
            refine TGo.cN (csV3 (y2 := mX10_leaf) (t := 18) 4 rfl (hT 0 (by decide)) rfl rfl dX10_readPart_99 q2235 q2237 qs63 okX10_leaf npX10_leaf rfl rfl) (kX10_leaf hT hz Y (fun h => by have h : itsZ z ≠ -1 ∨ diZ z := Classical.byContradiction (fun c => h (bZ_f c)); rcases h with h | h; (rw [itsZ_1 h]; decide); (rw [h.1]; decide)) (bZ_or _)) (fun V99 hz99 => ?_)
            refine TGo.ic3 dX10_readPart_102 ?_
            refine TGo.iret dX10_readPart_103 rfl ?_
            refine leafR hz99 ?_
            unfold rpZ
            rw [if_neg hs]
        · refine TGo.ic0 dX10_readPart_81 ?_
          refine TGo.goto 86 dX10_readPart_82 (by decide) ?_
          refine TGo.toz (if itsZ z = -1 then 0 else itsZ z) (by first | exact (if_pos (by assumption)).symm | exact (if_neg (by assumption)).symm) ?_
          refine TGo.il2 dX10_readPart_86 rfl ?_
          refine TGo.ifb_eq 98 dX10_readPart_87 (by decide) (fun h87 => ?_) (fun h87 => ?_)
          · refine TGo.ic0 dX10_readPart_98 ?_
            refine TGo.toz (if diZ z then z.1 12 else 0) (by first | exact (if_pos (by assumption)).symm | exact (if_neg (by assumption)).symm) ?_
            refine TGo.cN (csV3 (y2 := mX10_leaf) (t := 18) 4 rfl (hT 0 (by decide)) rfl rfl dX10_readPart_99 q2235 q2237 qs63 okX10_leaf npX10_leaf rfl rfl) (kX10_leaf hT hz Y (fun h => by have h : itsZ z ≠ -1 ∨ diZ z := Classical.byContradiction (fun c => h (bZ_f c)); rcases h with h | h; (rw [itsZ_1 h]; decide); (rw [h.1]; decide)) (bZ_or _)) (fun V99 hz99 => ?_)
            refine TGo.ic3 dX10_readPart_102 ?_
            refine TGo.iret dX10_readPart_103 rfl ?_
            refine leafR hz99 ?_
            unfold rpZ
            rw [if_neg hs]
          · refine TGo.al0 dX10_readPart_90 rfl ?_
            refine TGo.getJ (t := 18) 12 12 (hT 0 (by decide)) rfl fgX10_259_10 dX10_readPart_91 rfl rfl rfl ?_
            refine TGo.tol (z.1 12) hz.2.2.2 ?_
            refine TGo.l2i dX10_readPart_94 (by omega) ?_
            refine TGo.goto 99 dX10_readPart_95 (by decide) ?_
            refine TGo.toz (if diZ z then z.1 12 else 0) (by first | exact (if_pos (by assumption)).symm | exact (if_neg (by assumption)).symm) ?_
            refine TGo.cN (csV3 (y2 := mX10_leaf) (t := 18) 4 rfl (hT 0 (by decide)) rfl rfl dX10_readPart_99 q2235 q2237 qs63 okX10_leaf npX10_leaf rfl rfl) (kX10_leaf hT hz Y (fun h => by have h : itsZ z ≠ -1 ∨ diZ z := Classical.byContradiction (fun c => h (bZ_f c)); rcases h with h | h; (rw [itsZ_1 h]; decide); (rw [h.1]; decide)) (bZ_or _)) (fun V99 hz99 => ?_)
            refine TGo.ic3 dX10_readPart_102 ?_
            refine TGo.iret dX10_readPart_103 rfl ?_
            refine leafR hz99 ?_
            unfold rpZ
            rw [if_neg hs]
      · refine TGo.ic1 dX10_readPart_71 ?_
        refine TGo.goto 76 dX10_readPart_72 (by decide) ?_
        refine TGo.toz (bZ (itsZ z ≠ -1 ∨ diZ z)) (by first | exact (bZ_t (by first | exact Or.inl (by assumption) | exact Or.inr (by assumption))).symm | exact (bZ_f (fun q => by rcases q with q | q <;> first | exact absurd q (by assumption) | omega)).symm) ?_
        refine TGo.il1 dX10_readPart_76 rfl ?_
        refine TGo.icm1 dX10_readPart_77 ?_
        refine TGo.icmp_ne 85 dX10_readPart_78 (by decide) (by omega) (fun h78 => ?_) (fun h78 => ?_)
        · refine TGo.il1 dX10_readPart_85 rfl ?_
          refine TGo.toz (if itsZ z = -1 then 0 else itsZ z) (by first | exact (if_pos (by assumption)).symm | exact (if_neg (by assumption)).symm) ?_
          refine TGo.il2 dX10_readPart_86 rfl ?_
          refine TGo.ifb_eq 98 dX10_readPart_87 (by decide) (fun h87 => ?_) (fun h87 => ?_)
          · refine TGo.ic0 dX10_readPart_98 ?_
            refine TGo.toz (if diZ z then z.1 12 else 0) (by first | exact (if_pos (by assumption)).symm | exact (if_neg (by assumption)).symm) ?_
            refine TGo.cN (csV3 (y2 := mX10_leaf) (t := 18) 4 rfl (hT 0 (by decide)) rfl rfl dX10_readPart_99 q2235 q2237 qs63 okX10_leaf npX10_leaf rfl rfl) (kX10_leaf hT hz Y (fun h => by have h : itsZ z ≠ -1 ∨ diZ z := Classical.byContradiction (fun c => h (bZ_f c)); rcases h with h | h; (rw [itsZ_1 h]; decide); (rw [h.1]; decide)) (bZ_or _)) (fun V99 hz99 => ?_)
            refine TGo.ic3 dX10_readPart_102 ?_
            refine TGo.iret dX10_readPart_103 rfl ?_
            refine leafR hz99 ?_
            unfold rpZ
            rw [if_neg hs]
          · refine TGo.al0 dX10_readPart_90 rfl ?_
            refine TGo.getJ (t := 18) 12 12 (hT 0 (by decide)) rfl fgX10_259_10 dX10_readPart_91 rfl rfl rfl ?_
            refine TGo.tol (z.1 12) hz.2.2.2 ?_
            refine TGo.l2i dX10_readPart_94 (by omega) ?_
            refine TGo.goto 99 dX10_readPart_95 (by decide) ?_
            refine TGo.toz (if diZ z then z.1 12 else 0) (by first | exact (if_pos (by assumption)).symm | exact (if_neg (by assumption)).symm) ?_
            refine TGo.cN (csV3 (y2 := mX10_leaf) (t := 18) 4 rfl (hT 0 (by decide)) rfl rfl dX10_readPart_99 q2235 q2237 qs63 okX10_leaf npX10_leaf rfl rfl) (kX10_leaf hT hz Y (fun h => by have h : itsZ z ≠ -1 ∨ diZ z := Classical.byContradiction (fun c => h (bZ_f c)); rcases h with h | h; (rw [itsZ_1 h]; decide); (rw [h.1]; decide)) (bZ_or _)) (fun V99 hz99 => ?_)
            refine TGo.ic3 dX10_readPart_102 ?_
            refine TGo.iret dX10_readPart_103 rfl ?_
            refine leafR hz99 ?_
            unfold rpZ
            rw [if_neg hs]
        · refine TGo.ic0 dX10_readPart_81 ?_
          refine TGo.goto 86 dX10_readPart_82 (by decide) ?_
          refine TGo.toz (if itsZ z = -1 then 0 else itsZ z) (by first | exact (if_pos (by assumption)).symm | exact (if_neg (by assumption)).symm) ?_
          refine TGo.il2 dX10_readPart_86 rfl ?_
          refine TGo.ifb_eq 98 dX10_readPart_87 (by decide) (fun h87 => ?_) (fun h87 => ?_)
          · refine TGo.ic0 dX10_readPart_98 ?_
            refine TGo.toz (if diZ z then z.1 12 else 0) (by first | exact (if_pos (by assumption)).symm | exact (if_neg (by assumption)).symm) ?_
            refine TGo.cN (csV3 (y2 := mX10_leaf) (t := 18) 4 rfl (hT 0 (by decide)) rfl rfl dX10_readPart_99 q2235 q2237 qs63 okX10_leaf npX10_leaf rfl rfl) (kX10_leaf hT hz Y (fun h => by have h : itsZ z ≠ -1 ∨ diZ z := Classical.byContradiction (fun c => h (bZ_f c)); rcases h with h | h; (rw [itsZ_1 h]; decide); (rw [h.1]; decide)) (bZ_or _)) (fun V99 hz99 => ?_)
            refine TGo.ic3 dX10_readPart_102 ?_
            refine TGo.iret dX10_readPart_103 rfl ?_
            refine leafR hz99 ?_
            unfold rpZ
            rw [if_neg hs]
          · refine TGo.al0 dX10_readPart_90 rfl ?_
            refine TGo.getJ (t := 18) 12 12 (hT 0 (by decide)) rfl fgX10_259_10 dX10_readPart_91 rfl rfl rfl ?_
            refine TGo.tol (z.1 12) hz.2.2.2 ?_
            refine TGo.l2i dX10_readPart_94 (by omega) ?_
            refine TGo.goto 99 dX10_readPart_95 (by decide) ?_
            refine TGo.toz (if diZ z then z.1 12 else 0) (by first | exact (if_pos (by assumption)).symm | exact (if_neg (by assumption)).symm) ?_
            refine TGo.cN (csV3 (y2 := mX10_leaf) (t := 18) 4 rfl (hT 0 (by decide)) rfl rfl dX10_readPart_99 q2235 q2237 qs63 okX10_leaf npX10_leaf rfl rfl) (kX10_leaf hT hz Y (fun h => by have h : itsZ z ≠ -1 ∨ diZ z := Classical.byContradiction (fun c => h (bZ_f c)); rcases h with h | h; (rw [itsZ_1 h]; decide); (rw [h.1]; decide)) (bZ_or _)) (fun V99 hz99 => ?_)
            refine TGo.ic3 dX10_readPart_102 ?_
            refine TGo.iret dX10_readPart_103 rfl ?_
            refine leafR hz99 ?_
            unfold rpZ
            rw [if_neg hs]
  · refine TGo.al0 dX10_readPart_44 rfl ?_
    refine TGo.getJ (t := 18) 12 12 (hT 0 (by decide)) rfl fgX10_259_10 dX10_readPart_45 rfl rfl rfl ?_
    refine TGo.tol (z.1 12) hz.2.2.2 ?_
    refine TGo.ldc2 1000 dX10_readPart_48 q2234 (by decide) ?_
    refine TGo.lc_gt 59 dX10_readPart_51 dX10_readPart_52 (by decide) (by omega) (fun h51 => ?_) (fun h51 => ?_)
    · refine TGo.ic0 dX10_readPart_59 ?_
      refine TGo.toz (bZ (diZ z)) (by first | exact (bZ_t ⟨by omega, by omega⟩).symm | exact (bZ_f (fun q => by have q1 := q.1; have q2 := q.2; omega)).symm) ?_
      refine TGo.is2 dX10_readPart_60 rfl rfl ?_
      refine TGo.al0 dX10_readPart_61 rfl ?_
      refine TGo.il1 dX10_readPart_62 rfl ?_
      refine TGo.icm1 dX10_readPart_63 ?_
      refine TGo.icmp_ne 71 dX10_readPart_64 (by decide) (by omega) (fun h64 => ?_) (fun h64 => ?_)
      · refine TGo.ic1 dX10_readPart_71 ?_
        refine TGo.goto 76 dX10_readPart_72 (by decide) ?_
        refine TGo.toz (bZ (itsZ z ≠ -1 ∨ diZ z)) (by first | exact (bZ_t (by first | exact Or.inl (by assumption) | exact Or.inr (by assumption))).symm | exact (bZ_f (fun q => by rcases q with q | q <;> first | exact absurd q (by assumption) | omega)).symm) ?_
        refine TGo.il1 dX10_readPart_76 rfl ?_
        refine TGo.icm1 dX10_readPart_77 ?_
        refine TGo.icmp_ne 85 dX10_readPart_78 (by decide) (by omega) (fun h78 => ?_) (fun h78 => ?_)
        · refine TGo.il1 dX10_readPart_85 rfl ?_
          refine TGo.toz (if itsZ z = -1 then 0 else itsZ z) (by first | exact (if_pos (by assumption)).symm | exact (if_neg (by assumption)).symm) ?_
          refine TGo.il2 dX10_readPart_86 rfl ?_
          refine TGo.ifb_eq 98 dX10_readPart_87 (by decide) (fun h87 => ?_) (fun h87 => ?_)
          · refine TGo.ic0 dX10_readPart_98 ?_
            refine TGo.toz (if diZ z then z.1 12 else 0) (by first | exact (if_pos (by assumption)).symm | exact (if_neg (by assumption)).symm) ?_
            refine TGo.cN (csV3 (y2 := mX10_leaf) (t := 18) 4 rfl (hT 0 (by decide)) rfl rfl dX10_readPart_99 q2235 q2237 qs63 okX10_leaf npX10_leaf rfl rfl) (kX10_leaf hT hz Y (fun h => by have h : itsZ z ≠ -1 ∨ diZ z := Classical.byContradiction (fun c => h (bZ_f c)); rcases h with h | h; (rw [itsZ_1 h]; decide); (rw [h.1]; decide)) (bZ_or _)) (fun V99 hz99 => ?_)
            refine TGo.ic3 dX10_readPart_102 ?_
            refine TGo.iret dX10_readPart_103 rfl ?_
            refine leafR hz99 ?_
            unfold rpZ
            rw [if_neg hs]
          · refine TGo.al0 dX10_readPart_90 rfl ?_
            refine TGo.getJ (t := 18) 12 12 (hT 0 (by decide)) rfl fgX10_259_10 dX10_readPart_91 rfl rfl rfl ?_
            refine TGo.tol (z.1 12) hz.2.2.2 ?_
            refine TGo.l2i dX10_readPart_94 (by omega) ?_
            refine TGo.goto 99 dX10_readPart_95 (by decide) ?_
            refine TGo.toz (if diZ z then z.1 12 else 0) (by first | exact (if_pos (by assumption)).symm | exact (if_neg (by assumption)).symm) ?_
            refine TGo.cN (csV3 (y2 := mX10_leaf) (t := 18) 4 rfl (hT 0 (by decide)) rfl rfl dX10_readPart_99 q2235 q2237 qs63 okX10_leaf npX10_leaf rfl rfl) (kX10_leaf hT hz Y (fun h => by have h : itsZ z ≠ -1 ∨ diZ z := Classical.byContradiction (fun c => h (bZ_f c)); rcases h with h | h; (rw [itsZ_1 h]; decide); (rw [h.1]; decide)) (bZ_or _)) (fun V99 hz99 => ?_)
            refine TGo.ic3 dX10_readPart_102 ?_
            refine TGo.iret dX10_readPart_103 rfl ?_
            refine leafR hz99 ?_
            unfold rpZ
            rw [if_neg hs]
        · refine TGo.ic0 dX10_readPart_81 ?_
          refine TGo.goto 86 dX10_readPart_82 (by decide) ?_
          refine TGo.toz (if itsZ z = -1 then 0 else itsZ z) (by first | exact (if_pos (by assumption)).symm | exact (if_neg (by assumption)).symm) ?_
          refine TGo.il2 dX10_readPart_86 rfl ?_
          refine TGo.ifb_eq 98 dX10_readPart_87 (by decide) (fun h87 => ?_) (fun h87 => ?_)
          · refine TGo.ic0 dX10_readPart_98 ?_
            refine TGo.toz (if diZ z then z.1 12 else 0) (by first | exact (if_pos (by assumption)).symm | exact (if_neg (by assumption)).symm) ?_
            refine TGo.cN (csV3 (y2 := mX10_leaf) (t := 18) 4 rfl (hT 0 (by decide)) rfl rfl dX10_readPart_99 q2235 q2237 qs63 okX10_leaf npX10_leaf rfl rfl) (kX10_leaf hT hz Y (fun h => by have h : itsZ z ≠ -1 ∨ diZ z := Classical.byContradiction (fun c => h (bZ_f c)); rcases h with h | h; (rw [itsZ_1 h]; decide); (rw [h.1]; decide)) (bZ_or _)) (fun V99 hz99 => ?_)
            refine TGo.ic3 dX10_readPart_102 ?_
            refine TGo.iret dX10_readPart_103 rfl ?_
            refine leafR hz99 ?_
            unfold rpZ
            rw [if_neg hs]
          · refine TGo.al0 dX10_readPart_90 rfl ?_
            refine TGo.getJ (t := 18) 12 12 (hT 0 (by decide)) rfl fgX10_259_10 dX10_readPart_91 rfl rfl rfl ?_
            refine TGo.tol (z.1 12) hz.2.2.2 ?_
            refine TGo.l2i dX10_readPart_94 (by omega) ?_
            refine TGo.goto 99 dX10_readPart_95 (by decide) ?_
            refine TGo.toz (if diZ z then z.1 12 else 0) (by first | exact (if_pos (by assumption)).symm | exact (if_neg (by assumption)).symm) ?_
            refine TGo.cN (csV3 (y2 := mX10_leaf) (t := 18) 4 rfl (hT 0 (by decide)) rfl rfl dX10_readPart_99 q2235 q2237 qs63 okX10_leaf npX10_leaf rfl rfl) (kX10_leaf hT hz Y (fun h => by have h : itsZ z ≠ -1 ∨ diZ z := Classical.byContradiction (fun c => h (bZ_f c)); rcases h with h | h; (rw [itsZ_1 h]; decide); (rw [h.1]; decide)) (bZ_or _)) (fun V99 hz99 => ?_)
            refine TGo.ic3 dX10_readPart_102 ?_
            refine TGo.iret dX10_readPart_103 rfl ?_
            refine leafR hz99 ?_
            unfold rpZ
            rw [if_neg hs]
      · refine TGo.il2 dX10_readPart_67 rfl ?_
        refine TGo.ifb_eq 75 dX10_readPart_68 (by decide) (fun h68 => ?_) (fun h68 => ?_)
        · refine TGo.ic0 dX10_readPart_75 ?_
          refine TGo.toz (bZ (itsZ z ≠ -1 ∨ diZ z)) (by first | exact (bZ_t (by first | exact Or.inl (by assumption) | exact Or.inr (by assumption))).symm | exact (bZ_f (fun q => by rcases q with q | q <;> first | exact absurd q (by assumption) | omega)).symm) ?_
          refine TGo.il1 dX10_readPart_76 rfl ?_
          refine TGo.icm1 dX10_readPart_77 ?_
          refine TGo.icmp_ne 85 dX10_readPart_78 (by decide) (by omega) (fun h78 => ?_) (fun h78 => ?_)
          · refine TGo.il1 dX10_readPart_85 rfl ?_
            refine TGo.toz (if itsZ z = -1 then 0 else itsZ z) (by first | exact (if_pos (by assumption)).symm | exact (if_neg (by assumption)).symm) ?_
            refine TGo.il2 dX10_readPart_86 rfl ?_
            refine TGo.ifb_eq 98 dX10_readPart_87 (by decide) (fun h87 => ?_) (fun h87 => ?_)
            · refine TGo.ic0 dX10_readPart_98 ?_
              refine TGo.toz (if diZ z then z.1 12 else 0) (by first | exact (if_pos (by assumption)).symm | exact (if_neg (by assumption)).symm) ?_
              refine TGo.cN (csV3 (y2 := mX10_leaf) (t := 18) 4 rfl (hT 0 (by decide)) rfl rfl dX10_readPart_99 q2235 q2237 qs63 okX10_leaf npX10_leaf rfl rfl) (kX10_leaf hT hz Y (fun h => by have h : itsZ z ≠ -1 ∨ diZ z := Classical.byContradiction (fun c => h (bZ_f c)); rcases h with h | h; (rw [itsZ_1 h]; decide); (rw [h.1]; decide)) (bZ_or _)) (fun V99 hz99 => ?_)
              refine TGo.ic3 dX10_readPart_102 ?_
              refine TGo.iret dX10_readPart_103 rfl ?_
              refine leafR hz99 ?_
              unfold rpZ
              rw [if_neg hs]
            · refine TGo.al0 dX10_readPart_90 rfl ?_
              refine TGo.getJ (t := 18) 12 12 (hT 0 (by decide)) rfl fgX10_259_10 dX10_readPart_91 rfl rfl rfl ?_
              refine TGo.tol (z.1 12) hz.2.2.2 ?_
              refine TGo.l2i dX10_readPart_94 (by omega) ?_
              refine TGo.goto 99 dX10_readPart_95 (by decide) ?_
              refine TGo.toz (if diZ z then z.1 12 else 0) (by first | exact (if_pos (by assumption)).symm | exact (if_neg (by assumption)).symm) ?_
              refine TGo.cN (csV3 (y2 := mX10_leaf) (t := 18) 4 rfl (hT 0 (by decide)) rfl rfl dX10_readPart_99 q2235 q2237 qs63 okX10_leaf npX10_leaf rfl rfl) (kX10_leaf hT hz Y (fun h => by have h : itsZ z ≠ -1 ∨ diZ z := Classical.byContradiction (fun c => h (bZ_f c)); rcases h with h | h; (rw [itsZ_1 h]; decide); (rw [h.1]; decide)) (bZ_or _)) (fun V99 hz99 => ?_)
              refine TGo.ic3 dX10_readPart_102 ?_
              refine TGo.iret dX10_readPart_103 rfl ?_
              refine leafR hz99 ?_
              unfold rpZ
              rw [if_neg hs]
          · refine TGo.ic0 dX10_readPart_81 ?_
            refine TGo.goto 86 dX10_readPart_82 (by decide) ?_
            refine TGo.toz (if itsZ z = -1 then 0 else itsZ z) (by first | exact (if_pos (by assumption)).symm | exact (if_neg (by assumption)).symm) ?_
            refine TGo.il2 dX10_readPart_86 rfl ?_
            refine TGo.ifb_eq 98 dX10_readPart_87 (by decide) (fun h87 => ?_) (fun h87 => ?_)
            · refine TGo.ic0 dX10_readPart_98 ?_
              refine TGo.toz (if diZ z then z.1 12 else 0) (by first | exact (if_pos (by assumption)).symm | exact (if_neg (by assumption)).symm) ?_
              refine TGo.cN (csV3 (y2 := mX10_leaf) (t := 18) 4 rfl (hT 0 (by decide)) rfl rfl dX10_readPart_99 q2235 q2237 qs63 okX10_leaf npX10_leaf rfl rfl) (kX10_leaf hT hz Y (fun h => by have h : itsZ z ≠ -1 ∨ diZ z := Classical.byContradiction (fun c => h (bZ_f c)); rcases h with h | h; (rw [itsZ_1 h]; decide); (rw [h.1]; decide)) (bZ_or _)) (fun V99 hz99 => ?_)
              refine TGo.ic3 dX10_readPart_102 ?_
              refine TGo.iret dX10_readPart_103 rfl ?_
              refine leafR hz99 ?_
              unfold rpZ
              rw [if_neg hs]
            · refine TGo.al0 dX10_readPart_90 rfl ?_
              refine TGo.getJ (t := 18) 12 12 (hT 0 (by decide)) rfl fgX10_259_10 dX10_readPart_91 rfl rfl rfl ?_
              refine TGo.tol (z.1 12) hz.2.2.2 ?_
              refine TGo.l2i dX10_readPart_94 (by omega) ?_
              refine TGo.goto 99 dX10_readPart_95 (by decide) ?_
              refine TGo.toz (if diZ z then z.1 12 else 0) (by first | exact (if_pos (by assumption)).symm | exact (if_neg (by assumption)).symm) ?_
              refine TGo.cN (csV3 (y2 := mX10_leaf) (t := 18) 4 rfl (hT 0 (by decide)) rfl rfl dX10_readPart_99 q2235 q2237 qs63 okX10_leaf npX10_leaf rfl rfl) (kX10_leaf hT hz Y (fun h => by have h : itsZ z ≠ -1 ∨ diZ z := Classical.byContradiction (fun c => h (bZ_f c)); rcases h with h | h; (rw [itsZ_1 h]; decide); (rw [h.1]; decide)) (bZ_or _)) (fun V99 hz99 => ?_)
              refine TGo.ic3 dX10_readPart_102 ?_
              refine TGo.iret dX10_readPart_103 rfl ?_
              refine leafR hz99 ?_
              unfold rpZ
              rw [if_neg hs]
        · refine TGo.ic1 dX10_readPart_71 ?_
          refine TGo.goto 76 dX10_readPart_72 (by decide) ?_
          refine TGo.toz (bZ (itsZ z ≠ -1 ∨ diZ z)) (by first | exact (bZ_t (by first | exact Or.inl (by assumption) | exact Or.inr (by assumption))).symm | exact (bZ_f (fun q => by rcases q with q | q <;> first | exact absurd q (by assumption) | omega)).symm) ?_
          refine TGo.il1 dX10_readPart_76 rfl ?_
          refine TGo.icm1 dX10_readPart_77 ?_
          refine TGo.icmp_ne 85 dX10_readPart_78 (by decide) (by omega) (fun h78 => ?_) (fun h78 => ?_)
          · refine TGo.il1 dX10_readPart_85 rfl ?_
            refine TGo.toz (if itsZ z = -1 then 0 else itsZ z) (by first | exact (if_pos (by assumption)).symm | exact (if_neg (by assumption)).symm) ?_
            refine TGo.il2 dX10_readPart_86 rfl ?_
            refine TGo.ifb_eq 98 dX10_readPart_87 (by decide) (fun h87 => ?_) (fun h87 => ?_)
            · refine TGo.ic0 dX10_readPart_98 ?_
              refine TGo.toz (if diZ z then z.1 12 else 0) (by first | exact (if_pos (by assumption)).symm | exact (if_neg (by assumption)).symm) ?_
              refine TGo.cN (csV3 (y2 := mX10_leaf) (t := 18) 4 rfl (hT 0 (by decide)) rfl rfl dX10_readPart_99 q2235 q2237 qs63 okX10_leaf npX10_leaf rfl rfl) (kX10_leaf hT hz Y (fun h => by have h : itsZ z ≠ -1 ∨ diZ z := Classical.byContradiction (fun c => h (bZ_f c)); rcases h with h | h; (rw [itsZ_1 h]; decide); (rw [h.1]; decide)) (bZ_or _)) (fun V99 hz99 => ?_)
              refine TGo.ic3 dX10_readPart_102 ?_
              refine TGo.iret dX10_readPart_103 rfl ?_
              refine leafR hz99 ?_
              unfold rpZ
              rw [if_neg hs]
            · refine TGo.al0 dX10_readPart_90 rfl ?_
              refine TGo.getJ (t := 18) 12 12 (hT 0 (by decide)) rfl fgX10_259_10 dX10_readPart_91 rfl rfl rfl ?_
              refine TGo.tol (z.1 12) hz.2.2.2 ?_
              refine TGo.l2i dX10_readPart_94 (by omega) ?_
              refine TGo.goto 99 dX10_readPart_95 (by decide) ?_
              refine TGo.toz (if diZ z then z.1 12 else 0) (by first | exact (if_pos (by assumption)).symm | exact (if_neg (by assumption)).symm) ?_
              refine TGo.cN (csV3 (y2 := mX10_leaf) (t := 18) 4 rfl (hT 0 (by decide)) rfl rfl dX10_readPart_99 q2235 q2237 qs63 okX10_leaf npX10_leaf rfl rfl) (kX10_leaf hT hz Y (fun h => by have h : itsZ z ≠ -1 ∨ diZ z := Classical.byContradiction (fun c => h (bZ_f c)); rcases h with h | h; (rw [itsZ_1 h]; decide); (rw [h.1]; decide)) (bZ_or _)) (fun V99 hz99 => ?_)
              refine TGo.ic3 dX10_readPart_102 ?_
              refine TGo.iret dX10_readPart_103 rfl ?_
              refine leafR hz99 ?_
              unfold rpZ
              rw [if_neg hs]
          · refine TGo.ic0 dX10_readPart_81 ?_
            refine TGo.goto 86 dX10_readPart_82 (by decide) ?_
            refine TGo.toz (if itsZ z = -1 then 0 else itsZ z) (by first | exact (if_pos (by assumption)).symm | exact (if_neg (by assumption)).symm) ?_
            refine TGo.il2 dX10_readPart_86 rfl ?_
            refine TGo.ifb_eq 98 dX10_readPart_87 (by decide) (fun h87 => ?_) (fun h87 => ?_)
            · refine TGo.ic0 dX10_readPart_98 ?_
              refine TGo.toz (if diZ z then z.1 12 else 0) (by first | exact (if_pos (by assumption)).symm | exact (if_neg (by assumption)).symm) ?_
              refine TGo.cN (csV3 (y2 := mX10_leaf) (t := 18) 4 rfl (hT 0 (by decide)) rfl rfl dX10_readPart_99 q2235 q2237 qs63 okX10_leaf npX10_leaf rfl rfl) (kX10_leaf hT hz Y (fun h => by have h : itsZ z ≠ -1 ∨ diZ z := Classical.byContradiction (fun c => h (bZ_f c)); rcases h with h | h; (rw [itsZ_1 h]; decide); (rw [h.1]; decide)) (bZ_or _)) (fun V99 hz99 => ?_)
              refine TGo.ic3 dX10_readPart_102 ?_
              refine TGo.iret dX10_readPart_103 rfl ?_
              refine leafR hz99 ?_
              unfold rpZ
              rw [if_neg hs]
            · refine TGo.al0 dX10_readPart_90 rfl ?_
              refine TGo.getJ (t := 18) 12 12 (hT 0 (by decide)) rfl fgX10_259_10 dX10_readPart_91 rfl rfl rfl ?_
              refine TGo.tol (z.1 12) hz.2.2.2 ?_
              refine TGo.l2i dX10_readPart_94 (by omega) ?_
              refine TGo.goto 99 dX10_readPart_95 (by decide) ?_
              refine TGo.toz (if diZ z then z.1 12 else 0) (by first | exact (if_pos (by assumption)).symm | exact (if_neg (by assumption)).symm) ?_
              refine TGo.cN (csV3 (y2 := mX10_leaf) (t := 18) 4 rfl (hT 0 (by decide)) rfl rfl dX10_readPart_99 q2235 q2237 qs63 okX10_leaf npX10_leaf rfl rfl) (kX10_leaf hT hz Y (fun h => by have h : itsZ z ≠ -1 ∨ diZ z := Classical.byContradiction (fun c => h (bZ_f c)); rcases h with h | h; (rw [itsZ_1 h]; decide); (rw [h.1]; decide)) (bZ_or _)) (fun V99 hz99 => ?_)
              refine TGo.ic3 dX10_readPart_102 ?_
              refine TGo.iret dX10_readPart_103 rfl ?_
              refine leafR hz99 ?_
              unfold rpZ
              rw [if_neg hs]
    · refine TGo.ic1 dX10_readPart_55 ?_
      refine TGo.goto 60 dX10_readPart_56 (by decide) ?_
      refine TGo.toz (bZ (diZ z)) (by first | exact (bZ_t ⟨by omega, by omega⟩).symm | exact (bZ_f (fun q => by have q1 := q.1; have q2 := q.2; omega)).symm) ?_
      refine TGo.is2 dX10_readPart_60 rfl rfl ?_
      refine TGo.al0 dX10_readPart_61 rfl ?_
      refine TGo.il1 dX10_readPart_62 rfl ?_
      refine TGo.icm1 dX10_readPart_63 ?_
      refine TGo.icmp_ne 71 dX10_readPart_64 (by decide) (by omega) (fun h64 => ?_) (fun h64 => ?_)
      · refine TGo.ic1 dX10_readPart_71 ?_
        refine TGo.goto 76 dX10_readPart_72 (by decide) ?_
        refine TGo.toz (bZ (itsZ z ≠ -1 ∨ diZ z)) (by first | exact (bZ_t (by first | exact Or.inl (by assumption) | exact Or.inr (by assumption))).symm | exact (bZ_f (fun q => by rcases q with q | q <;> first | exact absurd q (by assumption) | omega)).symm) ?_
        refine TGo.il1 dX10_readPart_76 rfl ?_
        refine TGo.icm1 dX10_readPart_77 ?_
        refine TGo.icmp_ne 85 dX10_readPart_78 (by decide) (by omega) (fun h78 => ?_) (fun h78 => ?_)
        · refine TGo.il1 dX10_readPart_85 rfl ?_
          refine TGo.toz (if itsZ z = -1 then 0 else itsZ z) (by first | exact (if_pos (by assumption)).symm | exact (if_neg (by assumption)).symm) ?_
          refine TGo.il2 dX10_readPart_86 rfl ?_
          refine TGo.ifb_eq 98 dX10_readPart_87 (by decide) (fun h87 => ?_) (fun h87 => ?_)
          · refine TGo.ic0 dX10_readPart_98 ?_
            refine TGo.toz (if diZ z then z.1 12 else 0) (by first | exact (if_pos (by assumption)).symm | exact (if_neg (by assumption)).symm) ?_
            refine TGo.cN (csV3 (y2 := mX10_leaf) (t := 18) 4 rfl (hT 0 (by decide)) rfl rfl dX10_readPart_99 q2235 q2237 qs63 okX10_leaf npX10_leaf rfl rfl) (kX10_leaf hT hz Y (fun h => by have h : itsZ z ≠ -1 ∨ diZ z := Classical.byContradiction (fun c => h (bZ_f c)); rcases h with h | h; (rw [itsZ_1 h]; decide); (rw [h.1]; decide)) (bZ_or _)) (fun V99 hz99 => ?_)
            refine TGo.ic3 dX10_readPart_102 ?_
            refine TGo.iret dX10_readPart_103 rfl ?_
            refine leafR hz99 ?_
            unfold rpZ
            rw [if_neg hs]
          · refine TGo.al0 dX10_readPart_90 rfl ?_
            refine TGo.getJ (t := 18) 12 12 (hT 0 (by decide)) rfl fgX10_259_10 dX10_readPart_91 rfl rfl rfl ?_
            refine TGo.tol (z.1 12) hz.2.2.2 ?_
            refine TGo.l2i dX10_readPart_94 (by omega) ?_
            refine TGo.goto 99 dX10_readPart_95 (by decide) ?_
            refine TGo.toz (if diZ z then z.1 12 else 0) (by first | exact (if_pos (by assumption)).symm | exact (if_neg (by assumption)).symm) ?_
            refine TGo.cN (csV3 (y2 := mX10_leaf) (t := 18) 4 rfl (hT 0 (by decide)) rfl rfl dX10_readPart_99 q2235 q2237 qs63 okX10_leaf npX10_leaf rfl rfl) (kX10_leaf hT hz Y (fun h => by have h : itsZ z ≠ -1 ∨ diZ z := Classical.byContradiction (fun c => h (bZ_f c)); rcases h with h | h; (rw [itsZ_1 h]; decide); (rw [h.1]; decide)) (bZ_or _)) (fun V99 hz99 => ?_)
            refine TGo.ic3 dX10_readPart_102 ?_
            refine TGo.iret dX10_readPart_103 rfl ?_
            refine leafR hz99 ?_
            unfold rpZ
            rw [if_neg hs]
        · refine TGo.ic0 dX10_readPart_81 ?_
          refine TGo.goto 86 dX10_readPart_82 (by decide) ?_
          refine TGo.toz (if itsZ z = -1 then 0 else itsZ z) (by first | exact (if_pos (by assumption)).symm | exact (if_neg (by assumption)).symm) ?_
          refine TGo.il2 dX10_readPart_86 rfl ?_
          refine TGo.ifb_eq 98 dX10_readPart_87 (by decide) (fun h87 => ?_) (fun h87 => ?_)
          · refine TGo.ic0 dX10_readPart_98 ?_
            refine TGo.toz (if diZ z then z.1 12 else 0) (by first | exact (if_pos (by assumption)).symm | exact (if_neg (by assumption)).symm) ?_
            refine TGo.cN (csV3 (y2 := mX10_leaf) (t := 18) 4 rfl (hT 0 (by decide)) rfl rfl dX10_readPart_99 q2235 q2237 qs63 okX10_leaf npX10_leaf rfl rfl) (kX10_leaf hT hz Y (fun h => by have h : itsZ z ≠ -1 ∨ diZ z := Classical.byContradiction (fun c => h (bZ_f c)); rcases h with h | h; (rw [itsZ_1 h]; decide); (rw [h.1]; decide)) (bZ_or _)) (fun V99 hz99 => ?_)
            refine TGo.ic3 dX10_readPart_102 ?_
            refine TGo.iret dX10_readPart_103 rfl ?_
            refine leafR hz99 ?_
            unfold rpZ
            rw [if_neg hs]
          · refine TGo.al0 dX10_readPart_90 rfl ?_
            refine TGo.getJ (t := 18) 12 12 (hT 0 (by decide)) rfl fgX10_259_10 dX10_readPart_91 rfl rfl rfl ?_
            refine TGo.tol (z.1 12) hz.2.2.2 ?_
            refine TGo.l2i dX10_readPart_94 (by omega) ?_
            refine TGo.goto 99 dX10_readPart_95 (by decide) ?_
            refine TGo.toz (if diZ z then z.1 12 else 0) (by first | exact (if_pos (by assumption)).symm | exact (if_neg (by assumption)).symm) ?_
            refine TGo.cN (csV3 (y2 := mX10_leaf) (t := 18) 4 rfl (hT 0 (by decide)) rfl rfl dX10_readPart_99 q2235 q2237 qs63 okX10_leaf npX10_leaf rfl rfl) (kX10_leaf hT hz Y (fun h => by have h : itsZ z ≠ -1 ∨ diZ z := Classical.byContradiction (fun c => h (bZ_f c)); rcases h with h | h; (rw [itsZ_1 h]; decide); (rw [h.1]; decide)) (bZ_or _)) (fun V99 hz99 => ?_)
            refine TGo.ic3 dX10_readPart_102 ?_
            refine TGo.iret dX10_readPart_103 rfl ?_
            refine leafR hz99 ?_
            unfold rpZ
            rw [if_neg hs]
      · refine TGo.il2 dX10_readPart_67 rfl ?_
        refine TGo.ifb_eq 75 dX10_readPart_68 (by decide) (fun h68 => ?_) (fun h68 => ?_)
        · refine TGo.ic0 dX10_readPart_75 ?_
          refine TGo.toz (bZ (itsZ z ≠ -1 ∨ diZ z)) (by first | exact (bZ_t (by first | exact Or.inl (by assumption) | exact Or.inr (by assumption))).symm | exact (bZ_f (fun q => by rcases q with q | q <;> first | exact absurd q (by assumption) | omega)).symm) ?_
          refine TGo.il1 dX10_readPart_76 rfl ?_
          refine TGo.icm1 dX10_readPart_77 ?_
          refine TGo.icmp_ne 85 dX10_readPart_78 (by decide) (by omega) (fun h78 => ?_) (fun h78 => ?_)
          · refine TGo.il1 dX10_readPart_85 rfl ?_
            refine TGo.toz (if itsZ z = -1 then 0 else itsZ z) (by first | exact (if_pos (by assumption)).symm | exact (if_neg (by assumption)).symm) ?_
            refine TGo.il2 dX10_readPart_86 rfl ?_
            refine TGo.ifb_eq 98 dX10_readPart_87 (by decide) (fun h87 => ?_) (fun h87 => ?_)
            · refine TGo.ic0 dX10_readPart_98 ?_
              refine TGo.toz (if diZ z then z.1 12 else 0) (by first | exact (if_pos (by assumption)).symm | exact (if_neg (by assumption)).symm) ?_
              refine TGo.cN (csV3 (y2 := mX10_leaf) (t := 18) 4 rfl (hT 0 (by decide)) rfl rfl dX10_readPart_99 q2235 q2237 qs63 okX10_leaf npX10_leaf rfl rfl) (kX10_leaf hT hz Y (fun h => by have h : itsZ z ≠ -1 ∨ diZ z := Classical.byContradiction (fun c => h (bZ_f c)); rcases h with h | h; (rw [itsZ_1 h]; decide); (rw [h.1]; decide)) (bZ_or _)) (fun V99 hz99 => ?_)
              refine TGo.ic3 dX10_readPart_102 ?_
              refine TGo.iret dX10_readPart_103 rfl ?_
              refine leafR hz99 ?_
              unfold rpZ
              rw [if_neg hs]
            · refine TGo.al0 dX10_readPart_90 rfl ?_
              refine TGo.getJ (t := 18) 12 12 (hT 0 (by decide)) rfl fgX10_259_10 dX10_readPart_91 rfl rfl rfl ?_
              refine TGo.tol (z.1 12) hz.2.2.2 ?_
              refine TGo.l2i dX10_readPart_94 (by omega) ?_
              refine TGo.goto 99 dX10_readPart_95 (by decide) ?_
              refine TGo.toz (if diZ z then z.1 12 else 0) (by first | exact (if_pos (by assumption)).symm | exact (if_neg (by assumption)).symm) ?_
              refine TGo.cN (csV3 (y2 := mX10_leaf) (t := 18) 4 rfl (hT 0 (by decide)) rfl rfl dX10_readPart_99 q2235 q2237 qs63 okX10_leaf npX10_leaf rfl rfl) (kX10_leaf hT hz Y (fun h => by have h : itsZ z ≠ -1 ∨ diZ z := Classical.byContradiction (fun c => h (bZ_f c)); rcases h with h | h; (rw [itsZ_1 h]; decide); (rw [h.1]; decide)) (bZ_or _)) (fun V99 hz99 => ?_)
              refine TGo.ic3 dX10_readPart_102 ?_
              refine TGo.iret dX10_readPart_103 rfl ?_
              refine leafR hz99 ?_
              unfold rpZ
              rw [if_neg hs]
          · refine TGo.ic0 dX10_readPart_81 ?_
            refine TGo.goto 86 dX10_readPart_82 (by decide) ?_
            refine TGo.toz (if itsZ z = -1 then 0 else itsZ z) (by first | exact (if_pos (by assumption)).symm | exact (if_neg (by assumption)).symm) ?_
            refine TGo.il2 dX10_readPart_86 rfl ?_
            refine TGo.ifb_eq 98 dX10_readPart_87 (by decide) (fun h87 => ?_) (fun h87 => ?_)
            · refine TGo.ic0 dX10_readPart_98 ?_
              refine TGo.toz (if diZ z then z.1 12 else 0) (by first | exact (if_pos (by assumption)).symm | exact (if_neg (by assumption)).symm) ?_
              refine TGo.cN (csV3 (y2 := mX10_leaf) (t := 18) 4 rfl (hT 0 (by decide)) rfl rfl dX10_readPart_99 q2235 q2237 qs63 okX10_leaf npX10_leaf rfl rfl) (kX10_leaf hT hz Y (fun h => by have h : itsZ z ≠ -1 ∨ diZ z := Classical.byContradiction (fun c => h (bZ_f c)); rcases h with h | h; (rw [itsZ_1 h]; decide); (rw [h.1]; decide)) (bZ_or _)) (fun V99 hz99 => ?_)
              refine TGo.ic3 dX10_readPart_102 ?_
              refine TGo.iret dX10_readPart_103 rfl ?_
              refine leafR hz99 ?_
              unfold rpZ
              rw [if_neg hs]
            · refine TGo.al0 dX10_readPart_90 rfl ?_
              refine TGo.getJ (t := 18) 12 12 (hT 0 (by decide)) rfl fgX10_259_10 dX10_readPart_91 rfl rfl rfl ?_
              refine TGo.tol (z.1 12) hz.2.2.2 ?_
              refine TGo.l2i dX10_readPart_94 (by omega) ?_
              refine TGo.goto 99 dX10_readPart_95 (by decide) ?_
              refine TGo.toz (if diZ z then z.1 12 else 0) (by first | exact (if_pos (by assumption)).symm | exact (if_neg (by assumption)).symm) ?_
              refine TGo.cN (csV3 (y2 := mX10_leaf) (t := 18) 4 rfl (hT 0 (by decide)) rfl rfl dX10_readPart_99 q2235 q2237 qs63 okX10_leaf npX10_leaf rfl rfl) (kX10_leaf hT hz Y (fun h => by have h : itsZ z ≠ -1 ∨ diZ z := Classical.byContradiction (fun c => h (bZ_f c)); rcases h with h | h; (rw [itsZ_1 h]; decide); (rw [h.1]; decide)) (bZ_or _)) (fun V99 hz99 => ?_)
              refine TGo.ic3 dX10_readPart_102 ?_
              refine TGo.iret dX10_readPart_103 rfl ?_
              refine leafR hz99 ?_
              unfold rpZ
              rw [if_neg hs]
        · refine TGo.ic1 dX10_readPart_71 ?_
          refine TGo.goto 76 dX10_readPart_72 (by decide) ?_
          refine TGo.toz (bZ (itsZ z ≠ -1 ∨ diZ z)) (by first | exact (bZ_t (by first | exact Or.inl (by assumption) | exact Or.inr (by assumption))).symm | exact (bZ_f (fun q => by rcases q with q | q <;> first | exact absurd q (by assumption) | omega)).symm) ?_
          refine TGo.il1 dX10_readPart_76 rfl ?_
          refine TGo.icm1 dX10_readPart_77 ?_
          refine TGo.icmp_ne 85 dX10_readPart_78 (by decide) (by omega) (fun h78 => ?_) (fun h78 => ?_)
          · refine TGo.il1 dX10_readPart_85 rfl ?_
            refine TGo.toz (if itsZ z = -1 then 0 else itsZ z) (by first | exact (if_pos (by assumption)).symm | exact (if_neg (by assumption)).symm) ?_
            refine TGo.il2 dX10_readPart_86 rfl ?_
            refine TGo.ifb_eq 98 dX10_readPart_87 (by decide) (fun h87 => ?_) (fun h87 => ?_)
            · refine TGo.ic0 dX10_readPart_98 ?_
              refine TGo.toz (if diZ z then z.1 12 else 0) (by first | exact (if_pos (by assumption)).symm | exact (if_neg (by assumption)).symm) ?_
              refine TGo.cN (csV3 (y2 := mX10_leaf) (t := 18) 4 rfl (hT 0 (by decide)) rfl rfl dX10_readPart_99 q2235 q2237 qs63 okX10_leaf npX10_leaf rfl rfl) (kX10_leaf hT hz Y (fun h => by have h : itsZ z ≠ -1 ∨ diZ z := Classical.byContradiction (fun c => h (bZ_f c)); rcases h with h | h; (rw [itsZ_1 h]; decide); (rw [h.1]; decide)) (bZ_or _)) (fun V99 hz99 => ?_)
              refine TGo.ic3 dX10_readPart_102 ?_
              refine TGo.iret dX10_readPart_103 rfl ?_
              refine leafR hz99 ?_
              unfold rpZ
              rw [if_neg hs]
            · refine TGo.al0 dX10_readPart_90 rfl ?_
              refine TGo.getJ (t := 18) 12 12 (hT 0 (by decide)) rfl fgX10_259_10 dX10_readPart_91 rfl rfl rfl ?_
              refine TGo.tol (z.1 12) hz.2.2.2 ?_
              refine TGo.l2i dX10_readPart_94 (by omega) ?_
              refine TGo.goto 99 dX10_readPart_95 (by decide) ?_
              refine TGo.toz (if diZ z then z.1 12 else 0) (by first | exact (if_pos (by assumption)).symm | exact (if_neg (by assumption)).symm) ?_
              refine TGo.cN (csV3 (y2 := mX10_leaf) (t := 18) 4 rfl (hT 0 (by decide)) rfl rfl dX10_readPart_99 q2235 q2237 qs63 okX10_leaf npX10_leaf rfl rfl) (kX10_leaf hT hz Y (fun h => by have h : itsZ z ≠ -1 ∨ diZ z := Classical.byContradiction (fun c => h (bZ_f c)); rcases h with h | h; (rw [itsZ_1 h]; decide); (rw [h.1]; decide)) (bZ_or _)) (fun V99 hz99 => ?_)
              refine TGo.ic3 dX10_readPart_102 ?_
              refine TGo.iret dX10_readPart_103 rfl ?_
              refine leafR hz99 ?_
              unfold rpZ
              rw [if_neg hs]
          · refine TGo.ic0 dX10_readPart_81 ?_
            refine TGo.goto 86 dX10_readPart_82 (by decide) ?_
            refine TGo.toz (if itsZ z = -1 then 0 else itsZ z) (by first | exact (if_pos (by assumption)).symm | exact (if_neg (by assumption)).symm) ?_
            refine TGo.il2 dX10_readPart_86 rfl ?_
            refine TGo.ifb_eq 98 dX10_readPart_87 (by decide) (fun h87 => ?_) (fun h87 => ?_)
            · refine TGo.ic0 dX10_readPart_98 ?_
              refine TGo.toz (if diZ z then z.1 12 else 0) (by first | exact (if_pos (by assumption)).symm | exact (if_neg (by assumption)).symm) ?_
              refine TGo.cN (csV3 (y2 := mX10_leaf) (t := 18) 4 rfl (hT 0 (by decide)) rfl rfl dX10_readPart_99 q2235 q2237 qs63 okX10_leaf npX10_leaf rfl rfl) (kX10_leaf hT hz Y (fun h => by have h : itsZ z ≠ -1 ∨ diZ z := Classical.byContradiction (fun c => h (bZ_f c)); rcases h with h | h; (rw [itsZ_1 h]; decide); (rw [h.1]; decide)) (bZ_or _)) (fun V99 hz99 => ?_)
              refine TGo.ic3 dX10_readPart_102 ?_
              refine TGo.iret dX10_readPart_103 rfl ?_
              refine leafR hz99 ?_
              unfold rpZ
              rw [if_neg hs]
            · refine TGo.al0 dX10_readPart_90 rfl ?_
              refine TGo.getJ (t := 18) 12 12 (hT 0 (by decide)) rfl fgX10_259_10 dX10_readPart_91 rfl rfl rfl ?_
              refine TGo.tol (z.1 12) hz.2.2.2 ?_
              refine TGo.l2i dX10_readPart_94 (by omega) ?_
              refine TGo.goto 99 dX10_readPart_95 (by decide) ?_
              refine TGo.toz (if diZ z then z.1 12 else 0) (by first | exact (if_pos (by assumption)).symm | exact (if_neg (by assumption)).symm) ?_
              refine TGo.cN (csV3 (y2 := mX10_leaf) (t := 18) 4 rfl (hT 0 (by decide)) rfl rfl dX10_readPart_99 q2235 q2237 qs63 okX10_leaf npX10_leaf rfl rfl) (kX10_leaf hT hz Y (fun h => by have h : itsZ z ≠ -1 ∨ diZ z := Classical.byContradiction (fun c => h (bZ_f c)); rcases h with h | h; (rw [itsZ_1 h]; decide); (rw [h.1]; decide)) (bZ_or _)) (fun V99 hz99 => ?_)
              refine TGo.ic3 dX10_readPart_102 ?_
              refine TGo.iret dX10_readPart_103 rfl ?_
              refine leafR hz99 ?_
              unfold rpZ
              rw [if_neg hs]
set_option maxHeartbeats 4000000 in
theorem kX10_readPart {E : ET} {sh : SHT} {nn : Nat × Nat} {V : VT} {T : Nat} {z : ZT} (hT : MSh T sh) (hz : PZ T V z) (Y : YW z (z.1 9)) (h15 : z.1 15 = 0 ∨ z.1 15 = 1) : TS E mX10_readPart 5 [.ref T] sh nn V (fun v V1 => v = .int (iI (rpZ z).1) ∧ PZ T V1 (rpZ z).2) := by
  have hb := Y.2.1.b Y.1
  have hle := Y.le
  have hib := Y.ib (by omega)
  refine TC.intro [some (.ref T), none, none] rfl ?_
  refine TGo.al0 dX10_readPart_0 rfl ?_
  refine TGo.bip 91 dX10_readPart_1 (by decide) ?_
  refine TGo.cF (csV1 (y2 := mX10_isSign) (t := 18) 1 rfl (hT 0 (by decide)) rfl rfl dX10_readPart_3 q2214 q2216 qs58 okX10_isSign npX10_isSign rfl rfl) (qX10_isSign hT hz Y (by omega)) ?_
  refine TGo.ifb_eq 17 dX10_readPart_6 (by decide) (fun h6 => ?_) (fun h6 => ?_)
  · refine TGo.al0 dX10_readPart_17 rfl ?_
    refine TGo.getI (t := 18) 15 15 (hT 0 (by decide)) rfl fgX10_326_10 dX10_readPart_18 rfl rfl rfl ?_
    refine TGo.toz _ (hz.1 15 rfl) ?_
    refine TGo.if_eq 31 dX10_readPart_21 (by decide) (by omega) (fun h21 => ?_) (fun h21 => ?_)
    · refine TGo.al0 dX10_readPart_31 rfl ?_
      refine TGo.cF (csV0 (y2 := mX10_partAt) (t := 18) 2 rfl (hT 0 (by decide)) rfl rfl dX10_readPart_32 q2230 q2232 qs62 okX10_partAt npX10_partAt rfl rfl) (qX10_partAt hT hz Y) ?_
      refine TGo.toz (itsZ z) (by unfold itsZ; first | rw [if_pos (by assumption)] | rw [if_neg (by assumption)]) ?_
      exact lX10_readPart hT hz Y (by assumption)
    · refine TGo.al0 dX10_readPart_24 rfl ?_
      refine TGo.cF (csV0 (y2 := mX10_playPartAt) (t := 18) 2 rfl (hT 0 (by decide)) rfl rfl dX10_readPart_25 q2226 q2228 qs61 okX10_playPartAt npX10_playPartAt rfl rfl) (qX10_playPartAt hT hz Y) ?_
      refine TGo.goto 35 dX10_readPart_28 (by decide) ?_
      refine TGo.toz (itsZ z) (by unfold itsZ; first | rw [if_pos (by assumption)] | rw [if_neg (by assumption)]) ?_
      exact lX10_readPart hT hz Y (by assumption)
  · refine TGo.al0 dX10_readPart_9 rfl ?_
    refine TGo.bip 32 dX10_readPart_10 (by decide) ?_
    refine TGo.cN (csV1 (y2 := mX10_openBracket) (t := 18) 4 rfl (hT 0 (by decide)) rfl rfl dX10_readPart_12 q2218 q2220 qs59 okX10_openBracket npX10_openBracket rfl rfl) (kX10_openBracket hT hz Y (by rw [(by assumption : sgA z _).1]; decide) (by omega)) (fun V12 hz12 => ?_)
    refine TGo.ic1 dX10_readPart_15 ?_
    refine TGo.iret dX10_readPart_16 rfl ?_
    refine leafR hz12 ?_
    unfold rpZ
    rw [if_pos (by assumption)]
set_option maxHeartbeats 4000000 in
theorem kX10_readPlain {E : ET} {sh : SHT} {nn : Nat × Nat} {V : VT} {T : Nat} {z : ZT} (hT : MSh T sh) (hz : PZ T V z) (Y : YW z (z.1 9)) (h15 : z.1 15 = 0 ∨ z.1 15 = 1) : TS E mX10_readPlain 6 [.ref T] sh nn V (fun v V1 => v = .int (iI (plZ z).1) ∧ PZ T V1 (plZ z).2) := by
  have hb := Y.2.1.b Y.1
  have hle := Y.le
  have hib := Y.ib (by omega)
  refine TC.intro [some (.ref T)] rfl ?_
  refine TGo.al0 dX10_readPlain_0 rfl ?_
  refine TGo.ldc2 14836 dX10_readPlain_1 q2209 (by decide) ?_
  refine TGo.cF (csV1 (y2 := mX10_isWord) (t := 18) 1 rfl (hT 0 (by decide)) rfl rfl dX10_readPlain_4 q2191 q2193 qs53 okX10_isWord npX10_isWord rfl rfl) (qX10_isWord hT hz Y (by omega)) ?_
  refine TGo.ifb_eq 23 dX10_readPlain_7 (by decide) (fun h7 => ?_) (fun h7 => ?_)
  · refine TGo.al0 dX10_readPlain_23 rfl ?_
    refine TGo.bip 40 dX10_readPlain_24 (by decide) ?_
    refine TGo.cF (csV1 (y2 := mX10_isSign) (t := 18) 1 rfl (hT 0 (by decide)) rfl rfl dX10_readPlain_26 q2214 q2216 qs58 okX10_isSign npX10_isSign rfl rfl) (qX10_isSign hT hz Y (by omega)) ?_
    refine TGo.ifb_eq 40 dX10_readPlain_29 (by decide) (fun h29 => ?_) (fun h29 => ?_)
    · refine TGo.al0 dX10_readPlain_40 rfl ?_
      refine TGo.cS (csV0 (y2 := mX10_readPart) (t := 18) 5 rfl (hT 0 (by decide)) rfl rfl dX10_readPlain_41 q2222 q2224 qs60 okX10_readPart npX10_readPart rfl rfl) (kX10_readPart hT hz Y h15) (fun v41 V41 h41 => ?_)
      obtain ⟨rfl, hz41⟩ := h41
      refine TGo.iret dX10_readPlain_44 rfl ?_
      refine leafR hz41 ?_
      unfold plZ
      rw [if_neg (by assumption), if_neg (by assumption)]
    · refine TGo.al0 dX10_readPlain_32 rfl ?_
      refine TGo.bip 31 dX10_readPlain_33 (by decide) ?_
      refine TGo.cN (csV1 (y2 := mX10_openBracket) (t := 18) 4 rfl (hT 0 (by decide)) rfl rfl dX10_readPlain_35 q2218 q2220 qs59 okX10_openBracket npX10_openBracket rfl rfl) (kX10_openBracket hT hz Y (by rw [(by assumption : sgA z _).1]; decide) (by omega)) (fun V35 hz35 => ?_)
      refine TGo.ic0 dX10_readPlain_38 ?_
      refine TGo.iret dX10_readPlain_39 rfl ?_
      refine leafR hz35 ?_
      unfold plZ
      first | rw [if_pos (by assumption)] | rw [if_neg (by assumption), if_pos (by assumption)]
  · refine TGo.al0 dX10_readPlain_10 rfl ?_
    refine TGo.bip 28 dX10_readPlain_11 (by decide) ?_
    refine TGo.ic0 dX10_readPlain_13 ?_
    refine TGo.cN (csV2 (y2 := mX10_push) (t := 18) 1 rfl (hT 0 (by decide)) rfl rfl dX10_readPlain_14 q2210 q2212 qs57 okX10_push npX10_push rfl rfl) (kX10_push hT hz (by have q := Y.t (by rw [(by assumption : wdA z _).1]; decide); omega)) (fun V14 hz14 => ?_)
    refine TGo.al0 dX10_readPlain_17 rfl ?_
    refine TGo.cN (csV0 (y2 := mX10_next) (t := 18) 2 rfl (hT 0 (by decide)) rfl rfl dX10_readPlain_18 q2170 q2172 qs51 okX10_next npX10_next rfl rfl) (kX10_next hT hz14 Y.1 (show 0 ≤ z.1 10 ∧ z.1 10 ≤ z.1 8 by omega)) (fun V18 hz18 => ?_)
    refine TGo.ic0 dX10_readPlain_21 ?_
    refine TGo.iret dX10_readPlain_22 rfl ?_
    refine leafR hz18 ?_
    unfold plZ
    first | rw [if_pos (by assumption)] | rw [if_neg (by assumption), if_pos (by assumption)]
set_option maxHeartbeats 4000000 in
theorem lX10_behindSum3 {E : ET} {sh : SHT} {nn : Nat × Nat} {T : Nat} {z : ZT} {V : VT} (hT : MSh T sh) (hz : PZ T V z) (Y : YW z (z.1 9)) (h1 : ¬ sgZ z ≠ -1) (h2 : ¬ nnZ z = 32) {test : Int} (h3 : ¬ (nnZ z = -1 ∧ test = 0)) (h4 : ¬ icZ z = 1) : TGo E mX10_behindSum 4 202 [some (.ref T), some (.int (iI test)), some (.int (iI (sgZ z))), some (.int (iI (nnZ z)))] [.int (iI (cmZ z))] sh nn V (ZPS T sh nn (bsZ z test)) := by
  have hb := Y.2.1.b Y.1
  have hle := Y.le
  have hib := Y.ib (by omega)
  have hc := @cmZ_r z
  refine TGo.is2 dX10_behindSum_202 rfl rfl ?_
  refine TGo.al0 dX10_behindSum_203 rfl ?_
  refine TGo.il2 dX10_behindSum_204 rfl ?_
  refine TGo.bip 27 dX10_behindSum_205 (by decide) ?_
  refine TGo.icmp_ne 219 dX10_behindSum_207 (by decide) (by omega) (fun h207 => ?_) (fun h207 => ?_)
  · refine TGo.ic1 dX10_behindSum_219 ?_
    refine TGo.goto 224 dX10_behindSum_220 (by decide) ?_
    refine TGo.toz (bZ (cmZ z ≠ 27 ∨ sgA z 61)) (by first | exact (bZ_t (by first | exact Or.inl (by assumption) | exact Or.inr (by assumption))).symm | exact (bZ_f (fun q => by rcases q with q | q <;> first | exact absurd q (by assumption) | omega)).symm) ?_
    refine TGo.cN (csV1 (y2 := mX10_must) (t := 18) 3 rfl (hT 0 (by decide)) rfl rfl dX10_behindSum_224 q2197 q2199 qs54 okX10_must npX10_must rfl rfl) (kX10_must hT hz Y (by first | exact Or.inl rfl | exact Or.inr rfl | exact bZ_or _ | assumption)) (fun V224 hz224 => ?_)
    have YM := YW.mu (b := bZ (cmZ z ≠ 27 ∨ sgA z 61)) Y
    have YMb := YM.2.2.1
    refine TGo.al0 dX10_behindSum_227 rfl ?_
    refine TGo.getI (t := 18) 14 14 (hT 0 (by decide)) rfl fgX10_249_10 dX10_behindSum_228 rfl rfl rfl ?_
    refine TGo.toz _ (hz224.1 14 rfl) ?_
    refine TGo.if_ne 245 dX10_behindSum_231 (by decide) (by omega) (fun h231 => ?_) (fun h231 => ?_)
    · refine TGo.ic1 dX10_behindSum_245 ?_
      refine TGo.iret dX10_behindSum_246 rfl ?_
      refine leafR hz224 ?_
      unfold bsZ cpZ1
      rw [if_neg h1, if_neg h2, if_neg h3, if_neg h4]
      first | rw [if_pos (by assumption)] | rw [if_neg (by assumption)]
    · refine TGo.al0 dX10_behindSum_234 rfl ?_
      refine TGo.ic5 dX10_behindSum_235 ?_
      refine TGo.cN (csV1 (y2 := mX10_settle) (t := 18) 2 rfl (hT 0 (by decide)) rfl rfl dX10_behindSum_236 q2250 q2252 qs66 okX10_settle npX10_settle rfl rfl) (kX10_settle hT hz224 (YM.sp (by omega)) (by omega)) (fun V236 hz236 => ?_)
      refine TGo.al0 dX10_behindSum_239 rfl ?_
      refine TGo.il2 dX10_behindSum_240 rfl ?_
      refine TGo.ic0 dX10_behindSum_241 ?_
      refine TGo.cN (csV2 (y2 := mX10_push) (t := 18) 1 rfl (hT 0 (by decide)) rfl rfl dX10_behindSum_242 q2210 q2212 qs57 okX10_push npX10_push rfl rfl) (kX10_push hT hz236 (by have q := (YM.se (l := 5)).2.2.2.1.1; have q8 := (muZ_ok (by assumption)).2.1; have q7 : cmZ z ≠ 27 ∨ sgA z 61 := Classical.byContradiction (fun c => q8 (bZ_f c)); have q5 : z.1 11 ≠ 0 := (by rcases q7 with q7 | q7; (rw [hc.2.2 q7]; decide); (rw [q7.1]; decide)); have q6 := Y.t q5; omega)) (fun V242 hz242 => ?_)
      refine TGo.ic1 dX10_behindSum_245 ?_
      refine TGo.iret dX10_behindSum_246 rfl ?_
      refine leafR hz242 ?_
      unfold bsZ cpZ1
      rw [if_neg h1, if_neg h2, if_neg h3, if_neg h4]
      first | rw [if_pos (by assumption)] | rw [if_neg (by assumption)]
  · refine TGo.al0 dX10_behindSum_210 rfl ?_
    refine TGo.bip 61 dX10_behindSum_211 (by decide) ?_
    refine TGo.cF (csV1 (y2 := mX10_isSign) (t := 18) 1 rfl (hT 0 (by decide)) rfl rfl dX10_behindSum_213 q2214 q2216 qs58 okX10_isSign npX10_isSign rfl rfl) (qX10_isSign hT hz Y (by omega)) ?_
    refine TGo.ifb_eq 223 dX10_behindSum_216 (by decide) (fun h216 => ?_) (fun h216 => ?_)
    · refine TGo.ic0 dX10_behindSum_223 ?_
      refine TGo.toz (bZ (cmZ z ≠ 27 ∨ sgA z 61)) (by first | exact (bZ_t (by first | exact Or.inl (by assumption) | exact Or.inr (by assumption))).symm | exact (bZ_f (fun q => by rcases q with q | q <;> first | exact absurd q (by assumption) | omega)).symm) ?_
      refine TGo.cN (csV1 (y2 := mX10_must) (t := 18) 3 rfl (hT 0 (by decide)) rfl rfl dX10_behindSum_224 q2197 q2199 qs54 okX10_must npX10_must rfl rfl) (kX10_must hT hz Y (by first | exact Or.inl rfl | exact Or.inr rfl | exact bZ_or _ | assumption)) (fun V224 hz224 => ?_)
      have YM := YW.mu (b := bZ (cmZ z ≠ 27 ∨ sgA z 61)) Y
      have YMb := YM.2.2.1
      refine TGo.al0 dX10_behindSum_227 rfl ?_
      refine TGo.getI (t := 18) 14 14 (hT 0 (by decide)) rfl fgX10_249_10 dX10_behindSum_228 rfl rfl rfl ?_
      refine TGo.toz _ (hz224.1 14 rfl) ?_
      refine TGo.if_ne 245 dX10_behindSum_231 (by decide) (by omega) (fun h231 => ?_) (fun h231 => ?_)
      · refine TGo.ic1 dX10_behindSum_245 ?_
        refine TGo.iret dX10_behindSum_246 rfl ?_
        refine leafR hz224 ?_
        unfold bsZ cpZ1
        rw [if_neg h1, if_neg h2, if_neg h3, if_neg h4]
        first | rw [if_pos (by assumption)] | rw [if_neg (by assumption)]
      · refine TGo.al0 dX10_behindSum_234 rfl ?_
        refine TGo.ic5 dX10_behindSum_235 ?_
        refine TGo.cN (csV1 (y2 := mX10_settle) (t := 18) 2 rfl (hT 0 (by decide)) rfl rfl dX10_behindSum_236 q2250 q2252 qs66 okX10_settle npX10_settle rfl rfl) (kX10_settle hT hz224 (YM.sp (by omega)) (by omega)) (fun V236 hz236 => ?_)
        refine TGo.al0 dX10_behindSum_239 rfl ?_
        refine TGo.il2 dX10_behindSum_240 rfl ?_
        refine TGo.ic0 dX10_behindSum_241 ?_
        refine TGo.cN (csV2 (y2 := mX10_push) (t := 18) 1 rfl (hT 0 (by decide)) rfl rfl dX10_behindSum_242 q2210 q2212 qs57 okX10_push npX10_push rfl rfl) (kX10_push hT hz236 (by have q := (YM.se (l := 5)).2.2.2.1.1; have q8 := (muZ_ok (by assumption)).2.1; have q7 : cmZ z ≠ 27 ∨ sgA z 61 := Classical.byContradiction (fun c => q8 (bZ_f c)); have q5 : z.1 11 ≠ 0 := (by rcases q7 with q7 | q7; (rw [hc.2.2 q7]; decide); (rw [q7.1]; decide)); have q6 := Y.t q5; omega)) (fun V242 hz242 => ?_)
        refine TGo.ic1 dX10_behindSum_245 ?_
        refine TGo.iret dX10_behindSum_246 rfl ?_
        refine leafR hz242 ?_
        unfold bsZ cpZ1
        rw [if_neg h1, if_neg h2, if_neg h3, if_neg h4]
        first | rw [if_pos (by assumption)] | rw [if_neg (by assumption)]
    · refine TGo.ic1 dX10_behindSum_219 ?_
      refine TGo.goto 224 dX10_behindSum_220 (by decide) ?_
      refine TGo.toz (bZ (cmZ z ≠ 27 ∨ sgA z 61)) (by first | exact (bZ_t (by first | exact Or.inl (by assumption) | exact Or.inr (by assumption))).symm | exact (bZ_f (fun q => by rcases q with q | q <;> first | exact absurd q (by assumption) | omega)).symm) ?_
      refine TGo.cN (csV1 (y2 := mX10_must) (t := 18) 3 rfl (hT 0 (by decide)) rfl rfl dX10_behindSum_224 q2197 q2199 qs54 okX10_must npX10_must rfl rfl) (kX10_must hT hz Y (by first | exact Or.inl rfl | exact Or.inr rfl | exact bZ_or _ | assumption)) (fun V224 hz224 => ?_)
      have YM := YW.mu (b := bZ (cmZ z ≠ 27 ∨ sgA z 61)) Y
      have YMb := YM.2.2.1
      refine TGo.al0 dX10_behindSum_227 rfl ?_
      refine TGo.getI (t := 18) 14 14 (hT 0 (by decide)) rfl fgX10_249_10 dX10_behindSum_228 rfl rfl rfl ?_
      refine TGo.toz _ (hz224.1 14 rfl) ?_
      refine TGo.if_ne 245 dX10_behindSum_231 (by decide) (by omega) (fun h231 => ?_) (fun h231 => ?_)
      · refine TGo.ic1 dX10_behindSum_245 ?_
        refine TGo.iret dX10_behindSum_246 rfl ?_
        refine leafR hz224 ?_
        unfold bsZ cpZ1
        rw [if_neg h1, if_neg h2, if_neg h3, if_neg h4]
        first | rw [if_pos (by assumption)] | rw [if_neg (by assumption)]
      · refine TGo.al0 dX10_behindSum_234 rfl ?_
        refine TGo.ic5 dX10_behindSum_235 ?_
        refine TGo.cN (csV1 (y2 := mX10_settle) (t := 18) 2 rfl (hT 0 (by decide)) rfl rfl dX10_behindSum_236 q2250 q2252 qs66 okX10_settle npX10_settle rfl rfl) (kX10_settle hT hz224 (YM.sp (by omega)) (by omega)) (fun V236 hz236 => ?_)
        refine TGo.al0 dX10_behindSum_239 rfl ?_
        refine TGo.il2 dX10_behindSum_240 rfl ?_
        refine TGo.ic0 dX10_behindSum_241 ?_
        refine TGo.cN (csV2 (y2 := mX10_push) (t := 18) 1 rfl (hT 0 (by decide)) rfl rfl dX10_behindSum_242 q2210 q2212 qs57 okX10_push npX10_push rfl rfl) (kX10_push hT hz236 (by have q := (YM.se (l := 5)).2.2.2.1.1; have q8 := (muZ_ok (by assumption)).2.1; have q7 : cmZ z ≠ 27 ∨ sgA z 61 := Classical.byContradiction (fun c => q8 (bZ_f c)); have q5 : z.1 11 ≠ 0 := (by rcases q7 with q7 | q7; (rw [hc.2.2 q7]; decide); (rw [q7.1]; decide)); have q6 := Y.t q5; omega)) (fun V242 hz242 => ?_)
        refine TGo.ic1 dX10_behindSum_245 ?_
        refine TGo.iret dX10_behindSum_246 rfl ?_
        refine leafR hz242 ?_
        unfold bsZ cpZ1
        rw [if_neg h1, if_neg h2, if_neg h3, if_neg h4]
        first | rw [if_pos (by assumption)] | rw [if_neg (by assumption)]
set_option maxHeartbeats 4000000 in
theorem lX10_behindSum2 {E : ET} {sh : SHT} {nn : Nat × Nat} {T : Nat} {z : ZT} {V : VT} {test : Int} (hT : MSh T sh) (hz : PZ T V z) (Y : YW z (z.1 9)) (ht : test = 0 ∨ test = 1) : TGo E mX10_behindSum 4 71 [some (.ref T), some (.int (iI test)), none, none] [.int (iI (sgZ z))] sh nn V (ZPS T sh nn (bsZ z test)) := by
  have hb := Y.2.1.b Y.1
  have hle := Y.le
  have hib := Y.ib (by omega)
  have hg := @sgZ_r z
  have hn := nnZ_r Y
  have hd := @bdZ_r (sgZ z)

  refine TGo.is2 dX10_behindSum_71 rfl rfl ?_
  refine TGo.il2 dX10_behindSum_72 rfl ?_
  refine TGo.icm1 dX10_behindSum_73 ?_
  refine TGo.icmp_eq 97 dX10_behindSum_74 (by decide) (by omega) (fun h74 => ?_) (fun h74 => ?_)
  · refine TGo.al0 dX10_behindSum_97 rfl ?_
    refine TGo.cF (csV0 (y2 := mX10_inner) (t := 18) 1 rfl (hT 0 (by decide)) rfl rfl dX10_behindSum_98 q2254 q2256 qs67 okX10_inner npX10_inner rfl rfl) (qX10_inner hT hz Y (by omega)) ?_
    refine TGo.is3 dX10_behindSum_101 rfl rfl ?_
    refine TGo.il3 dX10_behindSum_102 rfl ?_
    refine TGo.bip 32 dX10_behindSum_103 (by decide) ?_
    refine TGo.icmp_ne 152 dX10_behindSum_105 (by decide) (by omega) (fun h105 => ?_) (fun h105 => ?_)
    · refine TGo.il3 dX10_behindSum_152 rfl ?_
      refine TGo.icm1 dX10_behindSum_153 ?_
      refine TGo.icmp_ne 163 dX10_behindSum_154 (by decide) (by omega) (fun h154 => ?_) (fun h154 => ?_)
      · refine TGo.al0 dX10_behindSum_163 rfl ?_
        refine TGo.cF (csV0 (y2 := mX10_isCompared) (t := 18) 2 rfl (hT 0 (by decide)) rfl rfl dX10_behindSum_164 q2258 q2260 qs68 okX10_isCompared npX10_isCompared rfl rfl) (kX10_isCompared hT hz (Y.sp (by omega))) ?_
        have hic := @icZ_r z
        refine TGo.if_eq 172 dX10_behindSum_167 (by decide) (by omega) (fun h167 => ?_) (fun h167 => ?_)
        · refine TGo.al0 dX10_behindSum_172 rfl ?_
          refine TGo.bip 60 dX10_behindSum_173 (by decide) ?_
          refine TGo.cF (csV1 (y2 := mX10_isSign) (t := 18) 1 rfl (hT 0 (by decide)) rfl rfl dX10_behindSum_175 q2214 q2216 qs58 okX10_isSign npX10_isSign rfl rfl) (qX10_isSign hT hz Y (by omega)) ?_
          refine TGo.ifb_eq 186 dX10_behindSum_178 (by decide) (fun h178 => ?_) (fun h178 => ?_)
          · refine TGo.al0 dX10_behindSum_186 rfl ?_
            refine TGo.bip 62 dX10_behindSum_187 (by decide) ?_
            refine TGo.cF (csV1 (y2 := mX10_isSign) (t := 18) 1 rfl (hT 0 (by decide)) rfl rfl dX10_behindSum_189 q2214 q2216 qs58 okX10_isSign npX10_isSign rfl rfl) (qX10_isSign hT hz Y (by omega)) ?_
            refine TGo.ifb_eq 200 dX10_behindSum_192 (by decide) (fun h192 => ?_) (fun h192 => ?_)
            · refine TGo.bip 27 dX10_behindSum_200 (by decide) ?_
              refine TGo.toz (cmZ z) (by unfold cmZ; (repeat (first | rw [if_pos (by assumption)] | rw [if_neg (by assumption)])); try rfl) ?_
              exact lX10_behindSum3 hT hz Y (by omega) (by omega) (by omega) (by omega)
            · refine TGo.bip 26 dX10_behindSum_195 (by decide) ?_
              refine TGo.goto 202 dX10_behindSum_197 (by decide) ?_
              refine TGo.toz (cmZ z) (by unfold cmZ; (repeat (first | rw [if_pos (by assumption)] | rw [if_neg (by assumption)])); try rfl) ?_
              exact lX10_behindSum3 hT hz Y (by omega) (by omega) (by omega) (by omega)
          · refine TGo.bip 25 dX10_behindSum_181 (by decide) ?_
            refine TGo.goto 202 dX10_behindSum_183 (by decide) ?_
            refine TGo.toz (cmZ z) (by unfold cmZ; (repeat (first | rw [if_pos (by assumption)] | rw [if_neg (by assumption)])); try rfl) ?_
            exact lX10_behindSum3 hT hz Y (by omega) (by omega) (by omega) (by omega)
        · refine TGo.ic2 dX10_behindSum_170 ?_
          refine TGo.iret dX10_behindSum_171 rfl ?_
          refine leafR hz ?_
          unfold bsZ
          rw [if_neg (show ¬ sgZ z ≠ -1 by omega), if_neg (show ¬ nnZ z = 32 by omega), if_neg (show ¬ (nnZ z = -1 ∧ test = 0) by omega), if_pos (show icZ z = 1 by omega)]
      · refine TGo.il1 dX10_behindSum_157 rfl ?_
        refine TGo.if_ne 163 dX10_behindSum_158 (by decide) (by omega) (fun h158 => ?_) (fun h158 => ?_)
        · refine TGo.al0 dX10_behindSum_163 rfl ?_
          refine TGo.cF (csV0 (y2 := mX10_isCompared) (t := 18) 2 rfl (hT 0 (by decide)) rfl rfl dX10_behindSum_164 q2258 q2260 qs68 okX10_isCompared npX10_isCompared rfl rfl) (kX10_isCompared hT hz (Y.sp (by omega))) ?_
          have hic := @icZ_r z
          refine TGo.if_eq 172 dX10_behindSum_167 (by decide) (by omega) (fun h167 => ?_) (fun h167 => ?_)
          · refine TGo.al0 dX10_behindSum_172 rfl ?_
            refine TGo.bip 60 dX10_behindSum_173 (by decide) ?_
            refine TGo.cF (csV1 (y2 := mX10_isSign) (t := 18) 1 rfl (hT 0 (by decide)) rfl rfl dX10_behindSum_175 q2214 q2216 qs58 okX10_isSign npX10_isSign rfl rfl) (qX10_isSign hT hz Y (by omega)) ?_
            refine TGo.ifb_eq 186 dX10_behindSum_178 (by decide) (fun h178 => ?_) (fun h178 => ?_)
            · refine TGo.al0 dX10_behindSum_186 rfl ?_
              refine TGo.bip 62 dX10_behindSum_187 (by decide) ?_
              refine TGo.cF (csV1 (y2 := mX10_isSign) (t := 18) 1 rfl (hT 0 (by decide)) rfl rfl dX10_behindSum_189 q2214 q2216 qs58 okX10_isSign npX10_isSign rfl rfl) (qX10_isSign hT hz Y (by omega)) ?_
              refine TGo.ifb_eq 200 dX10_behindSum_192 (by decide) (fun h192 => ?_) (fun h192 => ?_)
              · refine TGo.bip 27 dX10_behindSum_200 (by decide) ?_
                refine TGo.toz (cmZ z) (by unfold cmZ; (repeat (first | rw [if_pos (by assumption)] | rw [if_neg (by assumption)])); try rfl) ?_
                exact lX10_behindSum3 hT hz Y (by omega) (by omega) (by omega) (by omega)
              · refine TGo.bip 26 dX10_behindSum_195 (by decide) ?_
                refine TGo.goto 202 dX10_behindSum_197 (by decide) ?_
                refine TGo.toz (cmZ z) (by unfold cmZ; (repeat (first | rw [if_pos (by assumption)] | rw [if_neg (by assumption)])); try rfl) ?_
                exact lX10_behindSum3 hT hz Y (by omega) (by omega) (by omega) (by omega)
            · refine TGo.bip 25 dX10_behindSum_181 (by decide) ?_
              refine TGo.goto 202 dX10_behindSum_183 (by decide) ?_
              refine TGo.toz (cmZ z) (by unfold cmZ; (repeat (first | rw [if_pos (by assumption)] | rw [if_neg (by assumption)])); try rfl) ?_
              exact lX10_behindSum3 hT hz Y (by omega) (by omega) (by omega) (by omega)
          · refine TGo.ic2 dX10_behindSum_170 ?_
            refine TGo.iret dX10_behindSum_171 rfl ?_
            refine leafR hz ?_
            unfold bsZ
            rw [if_neg (show ¬ sgZ z ≠ -1 by omega), if_neg (show ¬ nnZ z = 32 by omega), if_neg (show ¬ (nnZ z = -1 ∧ test = 0) by omega), if_pos (show icZ z = 1 by omega)]
        · refine TGo.ic4 dX10_behindSum_161 ?_
          refine TGo.iret dX10_behindSum_162 rfl ?_
          refine leafR hz ?_
          unfold bsZ
          rw [if_neg (show ¬ sgZ z ≠ -1 by omega), if_neg (show ¬ nnZ z = 32 by omega), if_pos ⟨by assumption, by omega⟩]
    · refine TGo.al0 dX10_behindSum_108 rfl ?_
      refine TGo.al0 dX10_behindSum_109 rfl ?_
      refine TGo.bip 93 dX10_behindSum_110 (by decide) ?_
      refine TGo.cF (csV1 (y2 := mX10_isSign) (t := 18) 1 rfl (hT 0 (by decide)) rfl rfl dX10_behindSum_112 q2214 q2216 qs58 okX10_isSign npX10_isSign rfl rfl) (qX10_isSign hT hz Y (by omega)) ?_
      refine TGo.cN (csV1 (y2 := mX10_must) (t := 18) 3 rfl (hT 0 (by decide)) rfl rfl dX10_behindSum_115 q2197 q2199 qs54 okX10_must npX10_must rfl rfl) (kX10_must hT hz Y (by first | exact Or.inl rfl | exact Or.inr rfl | exact bZ_or _ | assumption)) (fun V115 hz115 => ?_)
      have YM := YW.mu (b := bZ (sgA z 93)) Y
      have YMb := YM.2.2.1
      have h45 : bZ (sgA z 93) ≠ 0 → z.1 11 ≠ 0 := fun e => by rw [(Classical.byContradiction (fun c => e (bZ_f c)) : sgA z 93).1]; decide
      refine TGo.al0 dX10_behindSum_118 rfl ?_
      refine TGo.getI (t := 18) 14 14 (hT 0 (by decide)) rfl fgX10_249_10 dX10_behindSum_119 rfl rfl rfl ?_
      refine TGo.toz _ (hz115.1 14 rfl) ?_
      refine TGo.if_ne 150 dX10_behindSum_122 (by decide) (by omega) (fun h122 => ?_) (fun h122 => ?_)
      · refine TGo.ic3 dX10_behindSum_150 ?_
        refine TGo.iret dX10_behindSum_151 rfl ?_
        refine leafR hz115 ?_
        unfold bsZ clZ clZ1
        rw [if_neg (show ¬ sgZ z ≠ -1 by omega), if_pos (by assumption)]
        first | rw [if_pos (by assumption)] | rw [if_neg (by assumption)]
      · refine TGo.al0 dX10_behindSum_125 rfl ?_
        refine TGo.ic5 dX10_behindSum_126 ?_
        refine TGo.cN (csV1 (y2 := mX10_settle) (t := 18) 2 rfl (hT 0 (by decide)) rfl rfl dX10_behindSum_127 q2250 q2252 qs66 okX10_settle npX10_settle rfl rfl) (kX10_settle hT hz115 (YM.sp (by omega)) (by omega)) (fun V127 hz127 => ?_)
        refine TGo.al0 dX10_behindSum_130 rfl ?_
        refine TGo.dup dX10_behindSum_131 rfl ?_
        refine TGo.getI (t := 18) 24 24 (hT 0 (by decide)) rfl fgX10_291_10 dX10_behindSum_132 rfl rfl rfl ?_
        refine TGo.toz _ (hz127.1 24 rfl) ?_
        refine TGo.ic1 dX10_behindSum_135 ?_
        refine TGo.isub dX10_behindSum_136 ?_
        refine TGo.putI (t := 18) 24 24 (hT 0 (by decide)) rfl fpX10_291_10 dX10_behindSum_137 rfl rfl rfl ?_
        refine TGo.al0 dX10_behindSum_140 rfl ?_
        refine TGo.dup dX10_behindSum_141 rfl ?_
        refine TGo.getI (t := 18) 25 25 (hT 0 (by decide)) rfl fgX10_311_10 dX10_behindSum_142 rfl rfl rfl ?_
        refine TGo.toz _ ((u2_n (Or.inr (by decide))).trans (hz127.1 25 rfl)) ?_
        refine TGo.ic1 dX10_behindSum_145 ?_
        refine TGo.isub dX10_behindSum_146 ?_
        refine TGo.putI (t := 18) 25 25 (hT 0 (by decide)) rfl fpX10_311_10 dX10_behindSum_147 rfl rfl rfl ?_
        refine TGo.ic3 dX10_behindSum_150 ?_
        refine TGo.iret dX10_behindSum_151 rfl ?_
        refine leafR ((hz127.i rfl).i rfl) ?_
        unfold bsZ clZ clZ1
        rw [if_neg (show ¬ sgZ z ≠ -1 by omega), if_pos (by assumption)]
        first | rw [if_pos (by assumption)] | rw [if_neg (by assumption)]
  · refine TGo.al0 dX10_behindSum_77 rfl ?_
    refine TGo.il2 dX10_behindSum_78 rfl ?_
    refine TGo.cF (csS1 (y2 := mX10_binds) 1 rfl dX10_behindSum_79 q2247 q2248 okX10_binds npX10_binds rfl rfl) (kX10_binds (by omega)) ?_
    refine TGo.cN (csV1 (y2 := mX10_settle) (t := 18) 2 rfl (hT 0 (by decide)) rfl rfl dX10_behindSum_82 q2250 q2252 qs66 okX10_settle npX10_settle rfl rfl) (kX10_settle hT hz (Y.sp (by omega)) (by omega)) (fun V82 hz82 => ?_)
    refine TGo.al0 dX10_behindSum_85 rfl ?_
    refine TGo.il2 dX10_behindSum_86 rfl ?_
    refine TGo.ic0 dX10_behindSum_87 ?_
    refine TGo.cN (csV2 (y2 := mX10_push) (t := 18) 1 rfl (hT 0 (by decide)) rfl rfl dX10_behindSum_88 q2210 q2212 qs57 okX10_push npX10_push rfl rfl) (kX10_push hT hz82 (by have q := (Y.se (l := bdZ (sgZ z))).2.2.2.1.1; have q6 := Y.t (by rw [hg.1 (by assumption)]; decide); omega)) (fun V88 hz88 => ?_)
    refine TGo.al0 dX10_behindSum_91 rfl ?_
    refine TGo.cN (csV0 (y2 := mX10_next) (t := 18) 2 rfl (hT 0 (by decide)) rfl rfl dX10_behindSum_92 q2170 q2172 qs51 okX10_next npX10_next rfl rfl) (kX10_next hT hz88 (YW.pu (Y.se (l := bdZ (sgZ z))) (a := sgZ z) (b := 0) (by have := hg.2.2.2 (by assumption); omega) (by omega)).1 (by show 0 ≤ (seZ (bdZ (sgZ z)) z).1 10 ∧ (seZ (bdZ (sgZ z)) z).1 10 ≤ (seZ (bdZ (sgZ z)) z).1 8; rw [seZ_1 rfl, seZ_1 rfl]; omega)) (fun V92 hz92 => ?_)
    refine TGo.ic1 dX10_behindSum_95 ?_
    refine TGo.iret dX10_behindSum_96 rfl ?_
    refine leafR hz92 ?_
    unfold bsZ
    rw [if_pos (by assumption)]
set_option maxHeartbeats 4000000 in
theorem kX10_behindSum {E : ET} {sh : SHT} {nn : Nat × Nat} {V : VT} {T : Nat} {z : ZT} {test : Int} (hT : MSh T sh) (hz : PZ T V z) (Y : YW z (z.1 9)) (ht : test = 0 ∨ test = 1) : TS E mX10_behindSum 4 [.ref T, .int (iI test)] sh nn V (fun v V1 => v = .int (iI (bsZ z test).1) ∧ PZ T V1 (bsZ z test).2) := by
  have hb := Y.2.1.b Y.1
  have hle := Y.le
  have hib := Y.ib (by omega)
  refine TC.intro [some (.ref T), some (.int (iI test)), none, none] rfl ?_
  refine TGo.al0 dX10_behindSum_0 rfl ?_
  refine TGo.bip 43 dX10_behindSum_1 (by decide) ?_
  refine TGo.cF (csV1 (y2 := mX10_isSign) (t := 18) 1 rfl (hT 0 (by decide)) rfl rfl dX10_behindSum_3 q2214 q2216 qs58 okX10_isSign npX10_isSign rfl rfl) (qX10_isSign hT hz Y (by omega)) ?_
  refine TGo.ifb_eq 14 dX10_behindSum_6 (by decide) (fun h6 => ?_) (fun h6 => ?_)
  · refine TGo.al0 dX10_behindSum_14 rfl ?_
    refine TGo.bip 45 dX10_behindSum_15 (by decide) ?_
    refine TGo.cF (csV1 (y2 := mX10_isSign) (t := 18) 1 rfl (hT 0 (by decide)) rfl rfl dX10_behindSum_17 q2214 q2216 qs58 okX10_isSign npX10_isSign rfl rfl) (qX10_isSign hT hz Y (by omega)) ?_
    refine TGo.ifb_eq 28 dX10_behindSum_20 (by decide) (fun h20 => ?_) (fun h20 => ?_)
    · refine TGo.al0 dX10_behindSum_28 rfl ?_
      refine TGo.bip 42 dX10_behindSum_29 (by decide) ?_
      refine TGo.cF (csV1 (y2 := mX10_isSign) (t := 18) 1 rfl (hT 0 (by decide)) rfl rfl dX10_behindSum_31 q2214 q2216 qs58 okX10_isSign npX10_isSign rfl rfl) (qX10_isSign hT hz Y (by omega)) ?_
      refine TGo.ifb_eq 42 dX10_behindSum_34 (by decide) (fun h34 => ?_) (fun h34 => ?_)
      · refine TGo.al0 dX10_behindSum_42 rfl ?_
        refine TGo.bip 47 dX10_behindSum_43 (by decide) ?_
        refine TGo.cF (csV1 (y2 := mX10_isSign) (t := 18) 1 rfl (hT 0 (by decide)) rfl rfl dX10_behindSum_45 q2214 q2216 qs58 okX10_isSign npX10_isSign rfl rfl) (qX10_isSign hT hz Y (by omega)) ?_
        refine TGo.ifb_eq 56 dX10_behindSum_48 (by decide) (fun h48 => ?_) (fun h48 => ?_)
        · refine TGo.al0 dX10_behindSum_56 rfl ?_
          refine TGo.bip 37 dX10_behindSum_57 (by decide) ?_
          refine TGo.cF (csV1 (y2 := mX10_isSign) (t := 18) 1 rfl (hT 0 (by decide)) rfl rfl dX10_behindSum_59 q2214 q2216 qs58 okX10_isSign npX10_isSign rfl rfl) (qX10_isSign hT hz Y (by omega)) ?_
          refine TGo.ifb_eq 70 dX10_behindSum_62 (by decide) (fun h62 => ?_) (fun h62 => ?_)
          · refine TGo.icm1 dX10_behindSum_70 ?_
            refine TGo.toz (sgZ z) (by unfold sgZ; (repeat (first | rw [if_pos (by assumption)] | rw [if_neg (by assumption)])); try rfl) ?_
            exact lX10_behindSum2 hT hz Y ht
          · refine TGo.bip 24 dX10_behindSum_65 (by decide) ?_
            refine TGo.goto 71 dX10_behindSum_67 (by decide) ?_
            refine TGo.toz (sgZ z) (by unfold sgZ; (repeat (first | rw [if_pos (by assumption)] | rw [if_neg (by assumption)])); try rfl) ?_
            exact lX10_behindSum2 hT hz Y ht
        · refine TGo.bip 23 dX10_behindSum_51 (by decide) ?_
          refine TGo.goto 71 dX10_behindSum_53 (by decide) ?_
          refine TGo.toz (sgZ z) (by unfold sgZ; (repeat (first | rw [if_pos (by assumption)] | rw [if_neg (by assumption)])); try rfl) ?_
          exact lX10_behindSum2 hT hz Y ht
      · refine TGo.bip 22 dX10_behindSum_37 (by decide) ?_
        refine TGo.goto 71 dX10_behindSum_39 (by decide) ?_
        refine TGo.toz (sgZ z) (by unfold sgZ; (repeat (first | rw [if_pos (by assumption)] | rw [if_neg (by assumption)])); try rfl) ?_
        exact lX10_behindSum2 hT hz Y ht
    · refine TGo.bip 21 dX10_behindSum_23 (by decide) ?_
      refine TGo.goto 71 dX10_behindSum_25 (by decide) ?_
      refine TGo.toz (sgZ z) (by unfold sgZ; (repeat (first | rw [if_pos (by assumption)] | rw [if_neg (by assumption)])); try rfl) ?_
      exact lX10_behindSum2 hT hz Y ht
  · refine TGo.bip 20 dX10_behindSum_9 (by decide) ?_
    refine TGo.goto 71 dX10_behindSum_11 (by decide) ?_
    refine TGo.toz (sgZ z) (by unfold sgZ; (repeat (first | rw [if_pos (by assumption)] | rw [if_neg (by assumption)])); try rfl) ?_
    exact lX10_behindSum2 hT hz Y ht
set_option maxHeartbeats 4000000 in
theorem lX10_behindTest_and {E : ET} {sh : SHT} {nn : Nat × Nat} {T : Nat} {z : ZT} {V : VT} (hT : MSh T sh) (hz : PZ T V z) (Y : YW z (z.1 9)) (h : wdA z 1476) : TGo E mX10_behindTest 4 22 [some (.ref T), some (.int (iI (bZ (wdA z 1476))))] [] sh nn V (ZPS T sh nn (btZ z)) := by
  have hb := Y.2.1.b Y.1
  have hle := Y.le
  have hib := Y.ib (by omega)
  have h11 := h.1
  have ht := Y.t (by rw [h11]; decide)
  have h2 := hb.2.2.2 h11 (by rw [h.2]; decide)
  have YE := Y.se (l := 2)
  have q := YE.2.2.2.1.1
  have e10 : (seZ 2 z).1 10 = z.1 10 := seZ_1 rfl
  have e8 : (seZ 2 z).1 8 = z.1 8 := seZ_1 rfl
  refine TGo.al0 dX10_behindTest_22 rfl ?_
  refine TGo.il1 dX10_behindTest_23 rfl ?_
  refine TGo.ifb_eq 31 dX10_behindTest_24 (by decide) (fun h24 => ?_) (fun h24 => ?_)
  · exact absurd h h24
  · refine TGo.ic2 dX10_behindTest_27 ?_
    refine TGo.goto 32 dX10_behindTest_28 (by decide) ?_
    refine TGo.cN (csV1 (y2 := mX10_settle) (t := 18) 2 rfl (hT 0 (by decide)) rfl rfl dX10_behindTest_32 q2250 q2252 qs66 okX10_settle npX10_settle rfl rfl) (kX10_settle hT hz (Y.sp (by omega)) (by omega)) (fun V32 hz32 => ?_)
    refine TGo.al0 dX10_behindTest_35 rfl ?_
    refine TGo.il1 dX10_behindTest_36 rfl ?_
    refine TGo.ifb_eq 45 dX10_behindTest_37 (by decide) (fun h37 => ?_) (fun h37 => ?_)
    · exact absurd h h37
    · refine TGo.bip 29 dX10_behindTest_40 (by decide) ?_
      refine TGo.goto 47 dX10_behindTest_42 (by decide) ?_
      refine TGo.al0 dX10_behindTest_47 rfl ?_
      refine TGo.getI (t := 18) 18 18 (hT 0 (by decide)) rfl fgX10_288_10 dX10_behindTest_48 rfl rfl rfl ?_
      refine TGo.toz _ (hz32.1 18 rfl) ?_
      refine TGo.cN (csV2 (y2 := mX10_push) (t := 18) 1 rfl (hT 0 (by decide)) rfl rfl dX10_behindTest_51 q2210 q2212 qs57 okX10_push npX10_push rfl rfl) (kX10_push hT hz32 (by omega)) (fun V51 hz51 => ?_)
      refine TGo.al0 dX10_behindTest_54 rfl ?_
      refine TGo.il1 dX10_behindTest_55 rfl ?_
      refine TGo.ifb_eq 64 dX10_behindTest_56 (by decide) (fun h56 => ?_) (fun h56 => ?_)
      · exact absurd h h56
      · refine TGo.bip 29 dX10_behindTest_59 (by decide) ?_
        refine TGo.goto 66 dX10_behindTest_61 (by decide) ?_
        refine TGo.ic0 dX10_behindTest_66 ?_
        refine TGo.cN (csV2 (y2 := mX10_emit) (t := 18) 1 rfl (hT 0 (by decide)) rfl rfl dX10_behindTest_67 q2239 q2241 qs64 okX10_emit npX10_emit rfl rfl) (kX10_emit hT hz51 (by show 0 ≤ (seZ 2 z).1 18 ∧ (seZ 2 z).1 18 < 400; omega)) (fun V67 hz67 => ?_)
        refine TGo.al0 dX10_behindTest_70 rfl ?_
        refine TGo.cN (csV0 (y2 := mX10_next) (t := 18) 2 rfl (hT 0 (by decide)) rfl rfl dX10_behindTest_71 q2170 q2172 qs51 okX10_next npX10_next rfl rfl) (kX10_next hT hz67 YE.1 (by show 0 ≤ (seZ 2 z).1 10 ∧ (seZ 2 z).1 10 ≤ (seZ 2 z).1 8; omega)) (fun V71 hz71 => ?_)
        refine TGo.ic0 dX10_behindTest_74 ?_
        refine TGo.iret dX10_behindTest_75 rfl ?_
        refine leafR hz71 ?_
        unfold btZ anZ
        rw [if_pos h]
set_option maxHeartbeats 4000000 in
theorem lX10_behindTest_or {E : ET} {sh : SHT} {nn : Nat × Nat} {T : Nat} {z : ZT} {V : VT} (hT : MSh T sh) (hz : PZ T V z) (Y : YW z (z.1 9)) (hn1 : ¬ wdA z 1476) (h : wdA z 498) : TGo E mX10_behindTest 4 22 [some (.ref T), some (.int (iI (bZ (wdA z 1476))))] [] sh nn V (ZPS T sh nn (btZ z)) := by
  have hb := Y.2.1.b Y.1
  have hle := Y.le
  have hib := Y.ib (by omega)
  have h11 := h.1
  have ht := Y.t (by rw [h11]; decide)
  have h2 := hb.2.2.2 h11 (by rw [h.2]; decide)
  have YE := Y.se (l := 1)
  have q := YE.2.2.2.1.1
  have e10 : (seZ 1 z).1 10 = z.1 10 := seZ_1 rfl
  have e8 : (seZ 1 z).1 8 = z.1 8 := seZ_1 rfl
  refine TGo.al0 dX10_behindTest_22 rfl ?_
  refine TGo.il1 dX10_behindTest_23 rfl ?_
  refine TGo.ifb_eq 31 dX10_behindTest_24 (by decide) (fun h24 => ?_) (fun h24 => ?_)
  · refine TGo.ic1 dX10_behindTest_31 ?_
    refine TGo.cN (csV1 (y2 := mX10_settle) (t := 18) 2 rfl (hT 0 (by decide)) rfl rfl dX10_behindTest_32 q2250 q2252 qs66 okX10_settle npX10_settle rfl rfl) (kX10_settle hT hz (Y.sp (by omega)) (by omega)) (fun V32 hz32 => ?_)
    refine TGo.al0 dX10_behindTest_35 rfl ?_
    refine TGo.il1 dX10_behindTest_36 rfl ?_
    refine TGo.ifb_eq 45 dX10_behindTest_37 (by decide) (fun h37 => ?_) (fun h37 => ?_)
    · refine TGo.bip 30 dX10_behindTest_45 (by decide) ?_
      refine TGo.al0 dX10_behindTest_47 rfl ?_
      refine TGo.getI (t := 18) 18 18 (hT 0 (by decide)) rfl fgX10_288_10 dX10_behindTest_48 rfl rfl rfl ?_
      refine TGo.toz _ (hz32.1 18 rfl) ?_
      refine TGo.cN (csV2 (y2 := mX10_push) (t := 18) 1 rfl (hT 0 (by decide)) rfl rfl dX10_behindTest_51 q2210 q2212 qs57 okX10_push npX10_push rfl rfl) (kX10_push hT hz32 (by omega)) (fun V51 hz51 => ?_)
      refine TGo.al0 dX10_behindTest_54 rfl ?_
      refine TGo.il1 dX10_behindTest_55 rfl ?_
      refine TGo.ifb_eq 64 dX10_behindTest_56 (by decide) (fun h56 => ?_) (fun h56 => ?_)
      · refine TGo.bip 30 dX10_behindTest_64 (by decide) ?_
        refine TGo.ic0 dX10_behindTest_66 ?_
        refine TGo.cN (csV2 (y2 := mX10_emit) (t := 18) 1 rfl (hT 0 (by decide)) rfl rfl dX10_behindTest_67 q2239 q2241 qs64 okX10_emit npX10_emit rfl rfl) (kX10_emit hT hz51 (by show 0 ≤ (seZ 1 z).1 18 ∧ (seZ 1 z).1 18 < 400; omega)) (fun V67 hz67 => ?_)
        refine TGo.al0 dX10_behindTest_70 rfl ?_
        refine TGo.cN (csV0 (y2 := mX10_next) (t := 18) 2 rfl (hT 0 (by decide)) rfl rfl dX10_behindTest_71 q2170 q2172 qs51 okX10_next npX10_next rfl rfl) (kX10_next hT hz67 YE.1 (by show 0 ≤ (seZ 1 z).1 10 ∧ (seZ 1 z).1 10 ≤ (seZ 1 z).1 8; omega)) (fun V71 hz71 => ?_)
        refine TGo.ic0 dX10_behindTest_74 ?_
        refine TGo.iret dX10_behindTest_75 rfl ?_
        refine leafR hz71 ?_
        unfold btZ anZ
        rw [if_neg hn1, if_pos h]
      · exact absurd h56 hn1
    · exact absurd h37 hn1
  · exact absurd h24 hn1
set_option maxHeartbeats 4000000 in
theorem kX10_behindTest {E : ET} {sh : SHT} {nn : Nat × Nat} {V : VT} {T : Nat} {z : ZT} (hT : MSh T sh) (hz : PZ T V z) (Y : YW z (z.1 9)) : TS E mX10_behindTest 4 [.ref T] sh nn V (fun v V1 => v = .int (iI (btZ z).1) ∧ PZ T V1 (btZ z).2) := by
  have hb := Y.2.1.b Y.1
  have hle := Y.le
  have hib := Y.ib (by omega)
  have hn := nnZ_r Y
  refine TC.intro [some (.ref T), none] rfl ?_
  refine TGo.al0 dX10_behindTest_0 rfl ?_
  refine TGo.ldc2 1476 dX10_behindTest_1 q2269 (by decide) ?_
  refine TGo.cF (csV1 (y2 := mX10_isWord) (t := 18) 1 rfl (hT 0 (by decide)) rfl rfl dX10_behindTest_4 q2191 q2193 qs53 okX10_isWord npX10_isWord rfl rfl) (qX10_isWord hT hz Y (by omega)) ?_
  refine TGo.is1 dX10_behindTest_7 rfl rfl ?_
  refine TGo.il1 dX10_behindTest_8 rfl ?_
  refine TGo.ifb_ne 22 dX10_behindTest_9 (by decide) (fun h9 => ?_) (fun h9 => ?_)
  · first | exact lX10_behindTest_and hT hz Y (by assumption) | exact lX10_behindTest_or hT hz Y (by assumption) (by assumption)
  · refine TGo.al0 dX10_behindTest_12 rfl ?_
    refine TGo.ldc2 498 dX10_behindTest_13 q2270 (by decide) ?_
    refine TGo.cF (csV1 (y2 := mX10_isWord) (t := 18) 1 rfl (hT 0 (by decide)) rfl rfl dX10_behindTest_16 q2191 q2193 qs53 okX10_isWord npX10_isWord rfl rfl) (qX10_isWord hT hz Y (by omega)) ?_
    refine TGo.ifb_eq 76 dX10_behindTest_19 (by decide) (fun h19 => ?_) (fun h19 => ?_)
    · refine TGo.al0 dX10_behindTest_76 rfl ?_
      refine TGo.cF (csV0 (y2 := mX10_inner) (t := 18) 1 rfl (hT 0 (by decide)) rfl rfl dX10_behindTest_77 q2254 q2256 qs67 okX10_inner npX10_inner rfl rfl) (qX10_inner hT hz Y (by omega)) ?_
      refine TGo.icm1 dX10_behindTest_80 ?_
      refine TGo.icmp_ne 86 dX10_behindTest_81 (by decide) (by omega) (fun h81 => ?_) (fun h81 => ?_)
      · refine TGo.al0 dX10_behindTest_86 rfl ?_
        refine TGo.al0 dX10_behindTest_87 rfl ?_
        refine TGo.bip 41 dX10_behindTest_88 (by decide) ?_
        refine TGo.cF (csV1 (y2 := mX10_isSign) (t := 18) 1 rfl (hT 0 (by decide)) rfl rfl dX10_behindTest_90 q2214 q2216 qs58 okX10_isSign npX10_isSign rfl rfl) (qX10_isSign hT hz Y (by omega)) ?_
        refine TGo.cN (csV1 (y2 := mX10_must) (t := 18) 3 rfl (hT 0 (by decide)) rfl rfl dX10_behindTest_93 q2197 q2199 qs54 okX10_must npX10_must rfl rfl) (kX10_must hT hz Y (by first | exact Or.inl rfl | exact Or.inr rfl | exact bZ_or _ | assumption)) (fun V93 hz93 => ?_)
        have YM := YW.mu (b := bZ (sgA z 41)) Y
        have YMb := YM.2.2.1
        refine TGo.al0 dX10_behindTest_96 rfl ?_
        refine TGo.getI (t := 18) 14 14 (hT 0 (by decide)) rfl fgX10_249_10 dX10_behindTest_97 rfl rfl rfl ?_
        refine TGo.toz _ (hz93.1 14 rfl) ?_
        refine TGo.if_ne 128 dX10_behindTest_100 (by decide) (by omega) (fun h100 => ?_) (fun h100 => ?_)
        · refine TGo.ic2 dX10_behindTest_128 ?_
          refine TGo.iret dX10_behindTest_129 rfl ?_
          refine leafR hz93 ?_
          unfold btZ clZ clZ1
          rw [if_neg (by assumption), if_neg (by assumption), if_neg (by assumption)]
          first | rw [if_pos (by assumption)] | rw [if_neg (by assumption)]
        · refine TGo.al0 dX10_behindTest_103 rfl ?_
          refine TGo.ic1 dX10_behindTest_104 ?_
          refine TGo.cN (csV1 (y2 := mX10_settle) (t := 18) 2 rfl (hT 0 (by decide)) rfl rfl dX10_behindTest_105 q2250 q2252 qs66 okX10_settle npX10_settle rfl rfl) (kX10_settle hT hz93 (YM.sp (by omega)) (by omega)) (fun V105 hz105 => ?_)
          refine TGo.al0 dX10_behindTest_108 rfl ?_
          refine TGo.dup dX10_behindTest_109 rfl ?_
          refine TGo.getI (t := 18) 24 24 (hT 0 (by decide)) rfl fgX10_291_10 dX10_behindTest_110 rfl rfl rfl ?_
          refine TGo.toz _ (hz105.1 24 rfl) ?_
          refine TGo.ic1 dX10_behindTest_113 ?_
          refine TGo.isub dX10_behindTest_114 ?_
          refine TGo.putI (t := 18) 24 24 (hT 0 (by decide)) rfl fpX10_291_10 dX10_behindTest_115 rfl rfl rfl ?_
          refine TGo.al0 dX10_behindTest_118 rfl ?_
          refine TGo.dup dX10_behindTest_119 rfl ?_
          refine TGo.getI (t := 18) 25 25 (hT 0 (by decide)) rfl fgX10_311_10 dX10_behindTest_120 rfl rfl rfl ?_
          refine TGo.toz _ ((u2_n (Or.inr (by decide))).trans (hz105.1 25 rfl)) ?_
          refine TGo.ic1 dX10_behindTest_123 ?_
          refine TGo.isub dX10_behindTest_124 ?_
          refine TGo.putI (t := 18) 25 25 (hT 0 (by decide)) rfl fpX10_311_10 dX10_behindTest_125 rfl rfl rfl ?_
          refine TGo.ic2 dX10_behindTest_128 ?_
          refine TGo.iret dX10_behindTest_129 rfl ?_
          refine leafR ((hz105.i rfl).i rfl) ?_
          unfold btZ clZ clZ1
          rw [if_neg (by assumption), if_neg (by assumption), if_neg (by assumption)]
          first | rw [if_pos (by assumption)] | rw [if_neg (by assumption)]
      · refine TGo.ic4 dX10_behindTest_84 ?_
        refine TGo.iret dX10_behindTest_85 rfl ?_
        refine leafR hz ?_
        unfold btZ
        rw [if_neg (by assumption), if_neg (by assumption), if_pos (by assumption)]
    · first | exact lX10_behindTest_and hT hz Y (by assumption) | exact lX10_behindTest_or hT hz Y (by assumption) (by assumption)
theorem rxF_t (test : Int) (n : Nat) (tu : Int) (z : ZT) : rxF test (n + 1) tu z = if z.1 14 = 0 ∧ tu ≠ 4 then rxF test n (xsZ test tu z).1 (xsZ test tu z).2 else z := rfl
set_option maxHeartbeats 4000000 in
theorem lX10_readExpression {E : ET} {sh : SHT} {nn : Nat × Nat} {T : Nat} {test : Int} (hT : MSh T sh) (ht : test = 0 ∨ test = 1) : ∀ (N n : Nat) (tu : Int) (z : ZT) (V : VT), n < N → PZ T V z → YW z (z.1 9) → z.1 15 = 0 ∨ z.1 15 = 1 → (0 ≤ tu ∧ tu ≤ 4) → (z.1 14 = 0 → tu ≠ 4 → 2 * (z.1 8 - z.1 9) + (if tu = 3 then 1 else 0) + 1 ≤ (n : Int)) → TGo E mX10_readExpression 7 20 [some (.ref T), some (.int (iI test)), some (.int (iI tu))] [] sh nn V (ZPN T sh nn (seZ 1 (rxF test (n + 1) tu z))) := by
  intro N
  induction N with
  | zero => intro n tu z V h; omega
  | succ N ih =>
    intro n tu z V hn hz Y h15 htu hm
    have hle := Y.le
    have hb14 := Y.2.2.1
    rw [rxF_t]
    refine TGo.al0 dX10_readExpression_20 rfl ?_
    refine TGo.getI (t := 18) 14 14 (hT 0 (by decide)) rfl fgX10_249_10 dX10_readExpression_21 rfl rfl rfl ?_
    refine TGo.toz _ (hz.1 14 rfl) ?_
    refine TGo.if_ne 76 dX10_readExpression_24 (by decide) (by omega) (fun h24 => ?_) (fun h24 => ?_)
    · rw [if_neg (show ¬ (z.1 14 = 0 ∧ tu ≠ 4) by omega)]
      refine TGo.al0 dX10_readExpression_76 rfl ?_
      refine TGo.ic1 dX10_readExpression_77 ?_
      refine TGo.cN (csV1 (y2 := mX10_settle) (t := 18) 2 rfl (hT 0 (by decide)) rfl rfl dX10_readExpression_78 q2250 q2252 qs66 okX10_settle npX10_settle rfl rfl) (kX10_settle hT hz (Y.sp (by omega)) (by omega)) (fun V78 hz78 => ?_)
      refine TGo.vret dX10_readExpression_81 rfl ?_
      exact ⟨rfl, rfl, rfl, hz78⟩
    · refine TGo.il2 dX10_readExpression_27 rfl ?_
      refine TGo.ic4 dX10_readExpression_28 ?_
      refine TGo.icmp_eq 76 dX10_readExpression_29 (by decide) (by omega) (fun h29 => ?_) (fun h29 => ?_)
      · rw [if_neg (show ¬ (z.1 14 = 0 ∧ tu ≠ 4) by omega)]
        refine TGo.al0 dX10_readExpression_76 rfl ?_
        refine TGo.ic1 dX10_readExpression_77 ?_
        refine TGo.cN (csV1 (y2 := mX10_settle) (t := 18) 2 rfl (hT 0 (by decide)) rfl rfl dX10_readExpression_78 q2250 q2252 qs66 okX10_settle npX10_settle rfl rfl) (kX10_settle hT hz (Y.sp (by omega)) (by omega)) (fun V78 hz78 => ?_)
        refine TGo.vret dX10_readExpression_81 rfl ?_
        exact ⟨rfl, rfl, rfl, hz78⟩
      · refine TGo.il2 dX10_readExpression_32 rfl ?_
        refine TGo.if_ne 43 dX10_readExpression_33 (by decide) (by omega) (fun h33 => ?_) (fun h33 => ?_)
        · refine TGo.il2 dX10_readExpression_43 rfl ?_
          refine TGo.ic1 dX10_readExpression_44 ?_
          refine TGo.icmp_ne 55 dX10_readExpression_45 (by decide) (by omega) (fun h45 => ?_) (fun h45 => ?_)
          · refine TGo.il2 dX10_readExpression_55 rfl ?_
            refine TGo.ic3 dX10_readExpression_56 ?_
            refine TGo.icmp_ne 68 dX10_readExpression_57 (by decide) (by omega) (fun h57 => ?_) (fun h57 => ?_)
            · refine TGo.al0 dX10_readExpression_68 rfl ?_
              refine TGo.cS (csV0 (y2 := mX10_behindTest) (t := 18) 4 rfl (hT 0 (by decide)) rfl rfl dX10_readExpression_69 q2265 q2267 qs69 okX10_behindTest npX10_behindTest rfl rfl) (kX10_behindTest hT hz Y) (fun v69 V69 h69 => ?_)
              obtain ⟨rfl, hz69⟩ := h69
              refine TGo.is2 dX10_readExpression_72 rfl rfl ?_
              refine TGo.goto 20 dX10_readExpression_73 (by decide) ?_
              have X := xsS (test := test) (tu := tu) Y (by omega)
              have h14 : z.1 14 = 0 := by omega
              have ht4 : tu ≠ 4 := by omega
              have hmm := hm h14 ht4
              have hif : (0 : Int) ≤ (if tu = 3 then 1 else 0) ∧ (if tu = 3 then (1 : Int) else 0) ≤ 1 := by split <;> omega
              obtain ⟨n, rfl⟩ : ∃ j, n = j + 1 := ⟨n - 1, by omega⟩
              rw [if_pos ⟨h14, ht4⟩]
              have h15' : (xsZ test tu z).2.1 15 = 0 ∨ (xsZ test tu z).2.1 15 = 1 := by rw [xs15]; exact h15
              have hme : (xsZ test tu z).2.1 14 = 0 → (xsZ test tu z).1 ≠ 4 → 2 * ((xsZ test tu z).2.1 8 - (xsZ test tu z).2.1 9) + (if (xsZ test tu z).1 = 3 then 1 else 0) + 1 ≤ (n : Int) := by
                intro a1 a2
                have X2 := X.2.2.2.2 a1 a2
                rw [X.2.1]
                by_cases c3 : (xsZ test tu z).1 = 3
                · have := X2.1 c3
                  rw [if_pos c3]; omega
                · rw [if_neg c3]
                  by_cases c4 : tu = 3
                  · rw [if_pos c4] at hmm; have := X.2.2.2.1; omega
                  · have := X2.2 c4; rw [if_neg c4] at hmm; omega
              have hx : xsZ test tu z = btZ z := by unfold xsZ; (repeat (first | rw [if_pos (by assumption)] | rw [if_neg (by omega)]))
              rw [hx] at X h15' hme ⊢
              exact ih n _ _ _ (by omega) hz69 X.1 h15' X.2.2.1 hme
            · refine TGo.al0 dX10_readExpression_60 rfl ?_
              refine TGo.il1 dX10_readExpression_61 rfl ?_
              refine TGo.cS (csV1 (y2 := mX10_behindSum) (t := 18) 4 rfl (hT 0 (by decide)) rfl rfl dX10_readExpression_62 q2243 q2245 qs65 okX10_behindSum npX10_behindSum rfl rfl) (kX10_behindSum hT hz Y ht) (fun v62 V62 h62 => ?_)
              obtain ⟨rfl, hz62⟩ := h62
              refine TGo.goto 72 dX10_readExpression_65 (by decide) ?_
              refine TGo.is2 dX10_readExpression_72 rfl rfl ?_
              refine TGo.goto 20 dX10_readExpression_73 (by decide) ?_
              have X := xsS (test := test) (tu := tu) Y (by omega)
              have h14 : z.1 14 = 0 := by omega
              have ht4 : tu ≠ 4 := by omega
              have hmm := hm h14 ht4
              have hif : (0 : Int) ≤ (if tu = 3 then 1 else 0) ∧ (if tu = 3 then (1 : Int) else 0) ≤ 1 := by split <;> omega
              obtain ⟨n, rfl⟩ : ∃ j, n = j + 1 := ⟨n - 1, by omega⟩
              rw [if_pos ⟨h14, ht4⟩]
              have h15' : (xsZ test tu z).2.1 15 = 0 ∨ (xsZ test tu z).2.1 15 = 1 := by rw [xs15]; exact h15
              have hme : (xsZ test tu z).2.1 14 = 0 → (xsZ test tu z).1 ≠ 4 → 2 * ((xsZ test tu z).2.1 8 - (xsZ test tu z).2.1 9) + (if (xsZ test tu z).1 = 3 then 1 else 0) + 1 ≤ (n : Int) := by
                intro a1 a2
                have X2 := X.2.2.2.2 a1 a2
                rw [X.2.1]
                by_cases c3 : (xsZ test tu z).1 = 3
                · have := X2.1 c3
                  rw [if_pos c3]; omega
                · rw [if_neg c3]
                  by_cases c4 : tu = 3
                  · rw [if_pos c4] at hmm; have := X.2.2.2.1; omega
                  · have := X2.2 c4; rw [if_neg c4] at hmm; omega
              have hx : xsZ test tu z = bsZ z test := by unfold xsZ; (repeat (first | rw [if_pos (by assumption)] | rw [if_neg (by omega)]))
              rw [hx] at X h15' hme ⊢
              exact ih n _ _ _ (by omega) hz62 X.1 h15' X.2.2.1 hme
          · refine TGo.al0 dX10_readExpression_48 rfl ?_
            refine TGo.cS (csV0 (y2 := mX10_readPart) (t := 18) 5 rfl (hT 0 (by decide)) rfl rfl dX10_readExpression_49 q2222 q2224 qs60 okX10_readPart npX10_readPart rfl rfl) (kX10_readPart hT hz Y h15) (fun v49 V49 h49 => ?_)
            obtain ⟨rfl, hz49⟩ := h49
            refine TGo.goto 72 dX10_readExpression_52 (by decide) ?_
            refine TGo.is2 dX10_readExpression_72 rfl rfl ?_
            refine TGo.goto 20 dX10_readExpression_73 (by decide) ?_
            have X := xsS (test := test) (tu := tu) Y (by omega)
            have h14 : z.1 14 = 0 := by omega
            have ht4 : tu ≠ 4 := by omega
            have hmm := hm h14 ht4
            have hif : (0 : Int) ≤ (if tu = 3 then 1 else 0) ∧ (if tu = 3 then (1 : Int) else 0) ≤ 1 := by split <;> omega
            obtain ⟨n, rfl⟩ : ∃ j, n = j + 1 := ⟨n - 1, by omega⟩
            rw [if_pos ⟨h14, ht4⟩]
            have h15' : (xsZ test tu z).2.1 15 = 0 ∨ (xsZ test tu z).2.1 15 = 1 := by rw [xs15]; exact h15
            have hme : (xsZ test tu z).2.1 14 = 0 → (xsZ test tu z).1 ≠ 4 → 2 * ((xsZ test tu z).2.1 8 - (xsZ test tu z).2.1 9) + (if (xsZ test tu z).1 = 3 then 1 else 0) + 1 ≤ (n : Int) := by
              intro a1 a2
              have X2 := X.2.2.2.2 a1 a2
              rw [X.2.1]
              by_cases c3 : (xsZ test tu z).1 = 3
              · have := X2.1 c3
                rw [if_pos c3]; omega
              · rw [if_neg c3]
                by_cases c4 : tu = 3
                · rw [if_pos c4] at hmm; have := X.2.2.2.1; omega
                · have := X2.2 c4; rw [if_neg c4] at hmm; omega
            have hx : xsZ test tu z = rpZ z := by unfold xsZ; (repeat (first | rw [if_pos (by assumption)] | rw [if_neg (by omega)]))
            rw [hx] at X h15' hme ⊢
            exact ih n _ _ _ (by omega) hz49 X.1 h15' X.2.2.1 hme
        · refine TGo.al0 dX10_readExpression_36 rfl ?_
          refine TGo.cS (csV0 (y2 := mX10_readPlain) (t := 18) 6 rfl (hT 0 (by decide)) rfl rfl dX10_readExpression_37 q2205 q2207 qs56 okX10_readPlain npX10_readPlain rfl rfl) (kX10_readPlain hT hz Y h15) (fun v37 V37 h37 => ?_)
          obtain ⟨rfl, hz37⟩ := h37
          refine TGo.goto 72 dX10_readExpression_40 (by decide) ?_
          refine TGo.is2 dX10_readExpression_72 rfl rfl ?_
          refine TGo.goto 20 dX10_readExpression_73 (by decide) ?_
          have X := xsS (test := test) (tu := tu) Y (by omega)
          have h14 : z.1 14 = 0 := by omega
          have ht4 : tu ≠ 4 := by omega
          have hmm := hm h14 ht4
          have hif : (0 : Int) ≤ (if tu = 3 then 1 else 0) ∧ (if tu = 3 then (1 : Int) else 0) ≤ 1 := by split <;> omega
          obtain ⟨n, rfl⟩ : ∃ j, n = j + 1 := ⟨n - 1, by omega⟩
          rw [if_pos ⟨h14, ht4⟩]
          have h15' : (xsZ test tu z).2.1 15 = 0 ∨ (xsZ test tu z).2.1 15 = 1 := by rw [xs15]; exact h15
          have hme : (xsZ test tu z).2.1 14 = 0 → (xsZ test tu z).1 ≠ 4 → 2 * ((xsZ test tu z).2.1 8 - (xsZ test tu z).2.1 9) + (if (xsZ test tu z).1 = 3 then 1 else 0) + 1 ≤ (n : Int) := by
            intro a1 a2
            have X2 := X.2.2.2.2 a1 a2
            rw [X.2.1]
            by_cases c3 : (xsZ test tu z).1 = 3
            · have := X2.1 c3
              rw [if_pos c3]; omega
            · rw [if_neg c3]
              by_cases c4 : tu = 3
              · rw [if_pos c4] at hmm; have := X.2.2.2.1; omega
              · have := X2.2 c4; rw [if_neg c4] at hmm; omega
          have hx : xsZ test tu z = plZ z := by unfold xsZ; (repeat (first | rw [if_pos (by assumption)] | rw [if_neg (by omega)]))
          rw [hx] at X h15' hme ⊢
          exact ih n _ _ _ (by omega) hz37 X.1 h15' X.2.2.1 hme
set_option maxHeartbeats 4000000 in
theorem kX10_readExpression {E : ET} {sh : SHT} {nn : Nat × Nat} {V : VT} {T : Nat} {z : ZT} {test : Int} (hT : MSh T sh) (hz : PZ T V z) (Y : YW z (z.1 9)) (h15 : z.1 15 = 0 ∨ z.1 15 = 1) (ht : test = 0 ∨ test = 1) : TN E mX10_readExpression 7 [.ref T, .int (iI test)] sh nn V (fun V1 => PZ T V1 (exZ test z)) := by
  have hb := Y.2.1.b Y.1
  have hle := Y.le
  have hib := Y.ib (by omega)
  refine TC.intro [some (.ref T), some (.int (iI test)), none] rfl ?_
  refine TGo.al0 dX10_readExpression_0 rfl ?_
  refine TGo.ic0 dX10_readExpression_1 ?_
  refine TGo.putI (t := 18) 24 24 (hT 0 (by decide)) rfl fpX10_291_10 dX10_readExpression_2 rfl rfl rfl ?_
  refine TGo.al0 dX10_readExpression_5 rfl ?_
  refine TGo.ic0 dX10_readExpression_6 ?_
  refine TGo.putI (t := 18) 25 25 (hT 0 (by decide)) rfl fpX10_311_10 dX10_readExpression_7 rfl rfl rfl ?_
  refine TGo.il1 dX10_readExpression_10 rfl ?_
  refine TGo.if_eq 18 dX10_readExpression_11 (by decide) (by omega) (fun h11 => ?_) (fun h11 => ?_)
  · refine TGo.ic1 dX10_readExpression_18 ?_
    refine TGo.is2 dX10_readExpression_19 rfl rfl ?_
    have Y0 : YW (zi (zi z 24 0) 25 0) ((zi (zi z 24 0) 25 0).1 9) := ⟨Y.1, Y.2.1, Y.2.2.1, ⟨⟨Y.2.2.2.1.1.1, Int.le_refl _, by show z.1 18 + 0 ≤ z.1 9; omega⟩, fun i q1 q2 => absurd (show i < 0 from q2) (by omega)⟩, Y.2.2.2.2.1, ⟨by show -z.1 9 ≤ 0; omega, by show (0 : Int) ≤ 8; decide⟩, Y.2.2.2.2.2.2⟩
    refine TGo.seq [some (.ref T), some (.int (iI test)), some (.int (iI (if test = 0 then 1 else 0)))] [] _ (by first | rw [if_pos (by assumption)]; rfl | rw [if_neg (by assumption)]; rfl) rfl rfl ?_
    exact lX10_readExpression hT ht 1000 999 _ _ _ (by omega) ((hz.i rfl).i rfl) Y0 h15 (by split <;> omega) (fun _ _ => by show 2 * (z.1 8 - z.1 9) + _ + 1 ≤ _; split <;> split <;> omega)
  · refine TGo.ic0 dX10_readExpression_14 ?_
    refine TGo.goto 19 dX10_readExpression_15 (by decide) ?_
    refine TGo.is2 dX10_readExpression_19 rfl rfl ?_
    have Y0 : YW (zi (zi z 24 0) 25 0) ((zi (zi z 24 0) 25 0).1 9) := ⟨Y.1, Y.2.1, Y.2.2.1, ⟨⟨Y.2.2.2.1.1.1, Int.le_refl _, by show z.1 18 + 0 ≤ z.1 9; omega⟩, fun i q1 q2 => absurd (show i < 0 from q2) (by omega)⟩, Y.2.2.2.2.1, ⟨by show -z.1 9 ≤ 0; omega, by show (0 : Int) ≤ 8; decide⟩, Y.2.2.2.2.2.2⟩
    refine TGo.seq [some (.ref T), some (.int (iI test)), some (.int (iI (if test = 0 then 1 else 0)))] [] _ (by first | rw [if_pos (by assumption)]; rfl | rw [if_neg (by assumption)]; rfl) rfl rfl ?_
    exact lX10_readExpression hT ht 1000 999 _ _ _ (by omega) ((hz.i rfl).i rfl) Y0 h15 (by split <;> omega) (fun _ _ => by show 2 * (z.1 8 - z.1 9) + _ + 1 ≤ _; split <;> split <;> omega)
