/-! THE MODEL: small methods -/
set_option maxRecDepth 100000
theorem leafP {T : Nat} {V : VT} {sh : SHT} {nn : Nat × Nat} {a b : Int} {z z' : ZT} (hp : PE T V z) (h : a = b) (hz : z = z') : ∃ v, (Sum.inl (some (Value.int (iI a))) : AO) = .inl (some v) ∧ sh = sh ∧ nn = nn ∧ (v = .int (iI b) ∧ PE T V z') := by subst h; subst hz; exact ⟨_, rfl, rfl, rfl, rfl, hp⟩
def wiZ (v lo hi : Int) : Int := if v < lo then lo else if hi < v then hi else v
/-- told: what is then -/
def zTell (z : ZT) (c : Int) : ZT := if c < 0 then za (zi z 1 c) 2 (-c) (z.2 2 (-c) + 1) else zi z 1 0
theorem zTell_n {z : ZT} {c : Int} (h : c < 0) : zTell z c = za (zi z 1 c) 2 (-c) (z.2 2 (-c) + 1) := if_pos h
theorem zTell_p {z : ZT} {c : Int} (h : 0 ≤ c) : zTell z c = zi z 1 0 := if_neg (by omega)
def aliveZ (f : Int → Int) (p : Int) : Prop := f (238 + 3 * p) ≤ f 7 ∧ f 7 < f (238 + 3 * p + 1)
def ofZ (c w : Int) : Int := if w = 0 then wZ c else nZ c
/-- how many rules of the first k are told -/
def toldZ (f : Int → Int) (a : Int) : Nat → Int
  | 0 => 0
  | k + 1 => toldZ f a k + if f (a + (k : Int)) = -1 then 0 else 1
theorem toldZ_le (f : Int → Int) (a : Int) (k : Nat) : 0 ≤ toldZ f a k ∧ toldZ f a k ≤ (k : Int) := by
  induction k with
  | zero => exact ⟨Int.le_refl _, Int.le_refl _⟩
  | succ k ih => rw [toldZ]; split <;> omega
set_option maxHeartbeats 4000000 in
theorem kX10_in {E : ET} {sh : SHT} {nn : Nat × Nat} {V : VT} {v lo hi : Int} (h0 : -9223372036854775808 ≤ v ∧ v ≤ 9223372036854775807) (h1 : -9223372036854775808 ≤ lo ∧ lo ≤ 9223372036854775807) (h2 : -9223372036854775808 ≤ hi ∧ hi ≤ 9223372036854775807) : TF E mX10_in 1 [.long (lI v), .long (lI lo), .long (lI hi)] sh nn V (.int (iI (bZ (lo ≤ v ∧ v ≤ hi)))) := by
  refine TC.intro [some (.long (lI v)), none, some (.long (lI lo)), none, some (.long (lI hi)), none] rfl ?_
  refine TGo.ll0 dX10_in_0 rfl ?_
  refine TGo.ll2 dX10_in_1 rfl ?_
  refine TGo.lc_lt 17 dX10_in_2 dX10_in_3 (by decide) (by omega) (fun h2 => ?_) (fun h2 => ?_)
  · refine TGo.ic0 dX10_in_17 ?_
    refine TGo.zret dX10_in_18 rfl (by first | exact Or.inl rfl | exact Or.inr rfl | exact bZ_or _ | assumption) ?_
    refine leafF ?_
    first | rfl | omega | exact (bZ_t (by omega)).symm | exact (bZ_f (by omega)).symm | exact bZ_iff (by omega)
  · refine TGo.ll0 dX10_in_6 rfl ?_
    refine TGo.ll dX10_in_7 rfl ?_
    refine TGo.lc_gt 17 dX10_in_9 dX10_in_10 (by decide) (by omega) (fun h9 => ?_) (fun h9 => ?_)
    · refine TGo.ic0 dX10_in_17 ?_
      refine TGo.zret dX10_in_18 rfl (by first | exact Or.inl rfl | exact Or.inr rfl | exact bZ_or _ | assumption) ?_
      refine leafF ?_
      first | rfl | omega | exact (bZ_t (by omega)).symm | exact (bZ_f (by omega)).symm | exact bZ_iff (by omega)
    · refine TGo.ic1 dX10_in_13 ?_
      refine TGo.goto 18 dX10_in_14 (by decide) ?_
      refine TGo.zret dX10_in_18 rfl (by first | exact Or.inl rfl | exact Or.inr rfl | exact bZ_or _ | assumption) ?_
      refine leafF ?_
      first | rfl | omega | exact (bZ_t (by omega)).symm | exact (bZ_f (by omega)).symm | exact bZ_iff (by omega)
set_option maxHeartbeats 4000000 in
theorem kX10_within {E : ET} {sh : SHT} {nn : Nat × Nat} {V : VT} {v lo hi : Int} (h0 : -9223372036854775808 ≤ v ∧ v ≤ 9223372036854775807) (h1 : R32 lo) (h2 : R32 hi) : TF E mX10_within 1 [.long (lI v), .int (iI lo), .int (iI hi)] sh nn V (.int (iI (wiZ v lo hi))) := by
  refine TC.intro [some (.long (lI v)), none, some (.int (iI lo)), some (.int (iI hi))] rfl ?_
  refine TGo.ll0 dX10_within_0 rfl ?_
  refine TGo.il2 dX10_within_1 rfl ?_
  refine TGo.i2l dX10_within_2 (by omega) ?_
  refine TGo.lc_ge 11 dX10_within_3 dX10_within_4 (by decide) (by omega) (fun h3 => ?_) (fun h3 => ?_)
  · refine TGo.ll0 dX10_within_11 rfl ?_
    refine TGo.il3 dX10_within_12 rfl ?_
    refine TGo.i2l dX10_within_13 (by omega) ?_
    refine TGo.lc_le 22 dX10_within_14 dX10_within_15 (by decide) (by omega) (fun h14 => ?_) (fun h14 => ?_)
    · refine TGo.ll0 dX10_within_22 rfl ?_
      refine TGo.l2i dX10_within_23 (by omega) ?_
      refine TGo.iret dX10_within_24 rfl ?_
      refine leafF ?_
      first | rfl | omega | exact (bZ_t (by omega)).symm | exact (bZ_f (by omega)).symm | exact bZ_iff (by omega) | (unfold wiZ; first | rfl | (repeat (first | rw [if_pos (by first | rfl | omega)] | rw [if_neg (by first | decide | omega)])); try first | rfl | omega)
    · refine TGo.il3 dX10_within_18 rfl ?_
      refine TGo.goto 24 dX10_within_19 (by decide) ?_
      refine TGo.iret dX10_within_24 rfl ?_
      refine leafF ?_
      first | rfl | omega | exact (bZ_t (by omega)).symm | exact (bZ_f (by omega)).symm | exact bZ_iff (by omega) | (unfold wiZ; first | rfl | (repeat (first | rw [if_pos (by first | rfl | omega)] | rw [if_neg (by first | decide | omega)])); try first | rfl | omega)
  · refine TGo.il2 dX10_within_7 rfl ?_
    refine TGo.goto 24 dX10_within_8 (by decide) ?_
    refine TGo.iret dX10_within_24 rfl ?_
    refine leafF ?_
    first | rfl | omega | exact (bZ_t (by omega)).symm | exact (bZ_f (by omega)).symm | exact bZ_iff (by omega) | (unfold wiZ; first | rfl | (repeat (first | rw [if_pos (by first | rfl | omega)] | rw [if_neg (by first | decide | omega)])); try first | rfl | omega)
set_option maxHeartbeats 4000000 in
theorem kX10_tell {E : ET} {sh : SHT} {nn : Nat × Nat} {V : VT} {T : Nat} {z : ZT} {c : Int} (hT : MSh T sh) (hz : PE T V z) (hc : -6 ≤ c ∧ c ≤ 2147483647) : TS E mX10_tell 1 [.ref T, .int (iI c)] sh nn V (fun v V1 => v = .int (iI c) ∧ PE T V1 (zTell z c)) := by
  refine TC.intro [some (.ref T), some (.int (iI c))] rfl ?_
  refine TGo.al0 dX10_tell_0 rfl ?_
  refine TGo.il1 dX10_tell_1 rfl ?_
  refine TGo.if_ge 9 dX10_tell_2 (by decide) (by omega) (fun h2 => ?_) (fun h2 => ?_)
  · refine TGo.ic0 dX10_tell_9 ?_
    refine TGo.putI (t := 18) 1 1 (hT 0 (by decide)) rfl fpX10_166_10 dX10_tell_10 rfl rfl rfl ?_
    refine TGo.il1 dX10_tell_13 rfl ?_
    refine TGo.if_ge 28 dX10_tell_14 (by decide) (by omega) (fun h14 => ?_) (fun h14 => ?_)
    · refine TGo.il1 dX10_tell_28 rfl ?_
      refine TGo.iret dX10_tell_29 rfl ?_
      refine leafP (hz.i rfl) ?_ ?_
      · first | rfl | omega
      · first | (exfalso; omega) | exact (zTell_p (by omega)).symm | exact (zTell_n (by omega)).symm | (rw [zTell_n (by omega)])
    · refine TGo.al0 dX10_tell_17 rfl ?_
      refine TGo.getS (t := 18) 2 2 (T + 1) (hT 0 (by decide)) rfl fgX10_7_10 dX10_tell_18 rfl rfl rfl ?_
      refine TGo.il1 dX10_tell_21 rfl ?_
      refine TGo.ineg dX10_tell_22 ?_
      refine TGo.dup2 dX10_tell_23 rfl rfl ?_
      refine TGo.iald dX10_tell_24 (hT 1 (by decide)) (by omega) rfl ?_
      refine TGo.toz _ ((u2_n (Or.inl (by omega))).trans (hz.2.1 2 (by decide) _)) ?_
      refine TGo.ic1 dX10_tell_25 ?_
      refine TGo.iadd dX10_tell_26 ?_
      refine TGo.iast dX10_tell_27 (hT 1 (by decide)) (by omega) rfl ?_
      refine TGo.il1 dX10_tell_28 rfl ?_
      refine TGo.iret dX10_tell_29 rfl ?_
      refine leafP ((hz.i rfl).a 2 rfl rfl) ?_ ?_
      · first | rfl | omega
      · first | (exfalso; omega) | exact (zTell_p (by omega)).symm | exact (zTell_n (by omega)).symm | (rw [zTell_n (by omega)])
  · refine TGo.il1 dX10_tell_5 rfl ?_
    refine TGo.goto 10 dX10_tell_6 (by decide) ?_
    refine TGo.putI (t := 18) 1 1 (hT 0 (by decide)) rfl fpX10_166_10 dX10_tell_10 rfl rfl rfl ?_
    refine TGo.il1 dX10_tell_13 rfl ?_
    refine TGo.if_ge 28 dX10_tell_14 (by decide) (by omega) (fun h14 => ?_) (fun h14 => ?_)
    · refine TGo.il1 dX10_tell_28 rfl ?_
      refine TGo.iret dX10_tell_29 rfl ?_
      refine leafP (hz.i rfl) ?_ ?_
      · first | rfl | omega
      · first | (exfalso; omega) | exact (zTell_p (by omega)).symm | exact (zTell_n (by omega)).symm | (rw [zTell_n (by omega)])
    · refine TGo.al0 dX10_tell_17 rfl ?_
      refine TGo.getS (t := 18) 2 2 (T + 1) (hT 0 (by decide)) rfl fgX10_7_10 dX10_tell_18 rfl rfl rfl ?_
      refine TGo.il1 dX10_tell_21 rfl ?_
      refine TGo.ineg dX10_tell_22 ?_
      refine TGo.dup2 dX10_tell_23 rfl rfl ?_
      refine TGo.iald dX10_tell_24 (hT 1 (by decide)) (by omega) rfl ?_
      refine TGo.toz _ ((u2_n (Or.inl (by omega))).trans (hz.2.1 2 (by decide) _)) ?_
      refine TGo.ic1 dX10_tell_25 ?_
      refine TGo.iadd dX10_tell_26 ?_
      refine TGo.iast dX10_tell_27 (hT 1 (by decide)) (by omega) rfl ?_
      refine TGo.il1 dX10_tell_28 rfl ?_
      refine TGo.iret dX10_tell_29 rfl ?_
      refine leafP ((hz.i rfl).a 2 rfl rfl) ?_ ?_
      · first | rfl | omega
      · first | (exfalso; omega) | exact (zTell_p (by omega)).symm | exact (zTell_n (by omega)).symm | (rw [zTell_n (by omega)])
set_option maxHeartbeats 4000000 in
theorem kX10_was {E : ET} {sh : SHT} {nn : Nat × Nat} {V : VT} {T : Nat} {z : ZT} {c : Int} (hT : MSh T sh) (hz : PE T V z) : TS E mX10_was 1 [.ref T, .int (iI c)] sh nn V (fun v V1 => v = .int (iI c) ∧ PE T V1 (zi z 1 0)) := by
  refine TC.intro [some (.ref T), some (.int (iI c))] rfl ?_
  refine TGo.al0 dX10_was_0 rfl ?_
  refine TGo.ic0 dX10_was_1 ?_
  refine TGo.putI (t := 18) 1 1 (hT 0 (by decide)) rfl fpX10_166_10 dX10_was_2 rfl rfl rfl ?_
  refine TGo.il1 dX10_was_5 rfl ?_
  refine TGo.iret dX10_was_6 rfl ?_
  refine leafP (hz.i rfl) ?_ ?_
  · first | rfl | omega | exact (bZ_t (by omega)).symm | exact (bZ_f (by omega)).symm | exact bZ_iff (by omega)
  · first | rfl
set_option maxHeartbeats 4000000 in
theorem kX10_isPart {E : ET} {sh : SHT} {nn : Nat × Nat} {V : VT} {T : Nat} {z : ZT} {p : Int} (hT : MSh T sh) (hz : PE T V z) (w0 : 0 ≤ z.2 3 0 ∧ z.2 3 0 ≤ 6) (hp : R32 p) : TF E mX10_isPart 2 [.ref T, .int (iI p)] sh nn V (.int (iI (bZ (0 ≤ p ∧ p < z.2 3 0)))) := by
  refine TC.intro [some (.ref T), some (.int (iI p))] rfl ?_
  refine TGo.il1 dX10_isPart_0 rfl ?_
  refine TGo.i2l dX10_isPart_1 (by omega) ?_
  refine TGo.lc0 dX10_isPart_2 ?_
  refine TGo.al0 dX10_isPart_3 rfl ?_
  refine TGo.getS (t := 18) 3 3 (T + 2) (hT 0 (by decide)) rfl fgX10_13_10 dX10_isPart_4 rfl rfl rfl ?_
  refine TGo.ic0 dX10_isPart_7 ?_
  refine TGo.iald dX10_isPart_8 (hT 2 (by decide)) (by omega) rfl ?_
  refine TGo.toz _ (hz.2.1 3 (by decide) _) ?_
  refine TGo.i2l dX10_isPart_9 (by omega) ?_
  refine TGo.lc1 dX10_isPart_10 ?_
  refine TGo.lsub dX10_isPart_11 ?_
  refine TGo.cF (csS3 (y2 := mX10_in) 1 rfl dX10_isPart_12 q2032 q2033 okX10_in npX10_in rfl rfl) (kX10_in (by omega) (by omega) (by omega)) ?_
  refine TGo.zret dX10_isPart_15 rfl (by first | exact Or.inl rfl | exact Or.inr rfl | exact bZ_or _ | assumption) ?_
  refine leafF ?_
  first | rfl | omega | exact (bZ_t (by omega)).symm | exact (bZ_f (by omega)).symm | exact bZ_iff (by omega)
set_option maxHeartbeats 4000000 in
theorem kX10_isPerson {E : ET} {sh : SHT} {nn : Nat × Nat} {V : VT} {T : Nat} {z : ZT} {p : Int} (hT : MSh T sh) (hz : PE T V z) (w1 : 0 ≤ z.2 3 1 ∧ z.2 3 1 ≤ 8) (hp : R32 p) : TF E mX10_isPerson 2 [.ref T, .int (iI p)] sh nn V (.int (iI (bZ (0 ≤ p ∧ p < z.2 3 1)))) := by
  refine TC.intro [some (.ref T), some (.int (iI p))] rfl ?_
  refine TGo.il1 dX10_isPerson_0 rfl ?_
  refine TGo.i2l dX10_isPerson_1 (by omega) ?_
  refine TGo.lc0 dX10_isPerson_2 ?_
  refine TGo.al0 dX10_isPerson_3 rfl ?_
  refine TGo.getS (t := 18) 3 3 (T + 2) (hT 0 (by decide)) rfl fgX10_13_10 dX10_isPerson_4 rfl rfl rfl ?_
  refine TGo.ic1 dX10_isPerson_7 ?_
  refine TGo.iald dX10_isPerson_8 (hT 2 (by decide)) (by omega) rfl ?_
  refine TGo.toz _ (hz.2.1 3 (by decide) _) ?_
  refine TGo.i2l dX10_isPerson_9 (by omega) ?_
  refine TGo.lc1 dX10_isPerson_10 ?_
  refine TGo.lsub dX10_isPerson_11 ?_
  refine TGo.cF (csS3 (y2 := mX10_in) 1 rfl dX10_isPerson_12 q2032 q2033 okX10_in npX10_in rfl rfl) (kX10_in (by omega) (by omega) (by omega)) ?_
  refine TGo.zret dX10_isPerson_15 rfl (by first | exact Or.inl rfl | exact Or.inr rfl | exact bZ_or _ | assumption) ?_
  refine leafF ?_
  first | rfl | omega | exact (bZ_t (by omega)).symm | exact (bZ_f (by omega)).symm | exact bZ_iff (by omega)
set_option maxHeartbeats 4000000 in
theorem kX10_isVersion {E : ET} {sh : SHT} {nn : Nat × Nat} {V : VT} {T : Nat} {z : ZT} {p : Int} (hT : MSh T sh) (hz : PE T V z) (w2 : 0 ≤ z.2 3 2 ∧ z.2 3 2 ≤ 12) (hp : R32 p) : TF E mX10_isVersion 2 [.ref T, .int (iI p)] sh nn V (.int (iI (bZ (0 ≤ p ∧ p < z.2 3 2)))) := by
  refine TC.intro [some (.ref T), some (.int (iI p))] rfl ?_
  refine TGo.il1 dX10_isVersion_0 rfl ?_
  refine TGo.i2l dX10_isVersion_1 (by omega) ?_
  refine TGo.lc0 dX10_isVersion_2 ?_
  refine TGo.al0 dX10_isVersion_3 rfl ?_
  refine TGo.getS (t := 18) 3 3 (T + 2) (hT 0 (by decide)) rfl fgX10_13_10 dX10_isVersion_4 rfl rfl rfl ?_
  refine TGo.ic2 dX10_isVersion_7 ?_
  refine TGo.iald dX10_isVersion_8 (hT 2 (by decide)) (by omega) rfl ?_
  refine TGo.toz _ (hz.2.1 3 (by decide) _) ?_
  refine TGo.i2l dX10_isVersion_9 (by omega) ?_
  refine TGo.lc1 dX10_isVersion_10 ?_
  refine TGo.lsub dX10_isVersion_11 ?_
  refine TGo.cF (csS3 (y2 := mX10_in) 1 rfl dX10_isVersion_12 q2032 q2033 okX10_in npX10_in rfl rfl) (kX10_in (by omega) (by omega) (by omega)) ?_
  refine TGo.zret dX10_isVersion_15 rfl (by first | exact Or.inl rfl | exact Or.inr rfl | exact bZ_or _ | assumption) ?_
  refine leafF ?_
  first | rfl | omega | exact (bZ_t (by omega)).symm | exact (bZ_f (by omega)).symm | exact bZ_iff (by omega)
set_option maxHeartbeats 4000000 in
theorem kX10_isPlace {E : ET} {sh : SHT} {nn : Nat × Nat} {V : VT} {a b : Int} (ha : R32 a) (hb : R32 b) : TF E mX10_isPlace 2 [.int (iI a), .int (iI b)] sh nn V (.int (iI (bZ ((0 ≤ a ∧ a ≤ 5) ∧ 0 ≤ b ∧ b ≤ 5)))) := by
  refine TC.intro [some (.int (iI a)), some (.int (iI b))] rfl ?_
  refine TGo.il0 dX10_isPlace_0 rfl ?_
  refine TGo.i2l dX10_isPlace_1 (by omega) ?_
  refine TGo.lc0 dX10_isPlace_2 ?_
  refine TGo.ldc2 5 dX10_isPlace_3 q2056 (by decide) ?_
  refine TGo.cF (csS3 (y2 := mX10_in) 1 rfl dX10_isPlace_6 q2032 q2033 okX10_in npX10_in rfl rfl) (kX10_in (by omega) (by omega) (by omega)) ?_
  refine TGo.ifb_eq 28 dX10_isPlace_9 (by decide) (fun h9 => ?_) (fun h9 => ?_)
  · refine TGo.ic0 dX10_isPlace_28 ?_
    refine TGo.zret dX10_isPlace_29 rfl (by first | exact Or.inl rfl | exact Or.inr rfl | exact bZ_or _ | assumption) ?_
    refine leafF ?_
    first | rfl | omega | exact (bZ_t (by omega)).symm | exact (bZ_f (by omega)).symm | exact bZ_iff (by omega)
  · refine TGo.il1 dX10_isPlace_12 rfl ?_
    refine TGo.i2l dX10_isPlace_13 (by omega) ?_
    refine TGo.lc0 dX10_isPlace_14 ?_
    refine TGo.ldc2 5 dX10_isPlace_15 q2056 (by decide) ?_
    refine TGo.cF (csS3 (y2 := mX10_in) 1 rfl dX10_isPlace_18 q2032 q2033 okX10_in npX10_in rfl rfl) (kX10_in (by omega) (by omega) (by omega)) ?_
    refine TGo.ifb_eq 28 dX10_isPlace_21 (by decide) (fun h21 => ?_) (fun h21 => ?_)
    · refine TGo.ic0 dX10_isPlace_28 ?_
      refine TGo.zret dX10_isPlace_29 rfl (by first | exact Or.inl rfl | exact Or.inr rfl | exact bZ_or _ | assumption) ?_
      refine leafF ?_
      first | rfl | omega | exact (bZ_t (by omega)).symm | exact (bZ_f (by omega)).symm | exact bZ_iff (by omega)
    · refine TGo.ic1 dX10_isPlace_24 ?_
      refine TGo.goto 29 dX10_isPlace_25 (by decide) ?_
      refine TGo.zret dX10_isPlace_29 rfl (by first | exact Or.inl rfl | exact Or.inr rfl | exact bZ_or _ | assumption) ?_
      refine leafF ?_
      first | rfl | omega | exact (bZ_t (by omega)).symm | exact (bZ_f (by omega)).symm | exact bZ_iff (by omega)
set_option maxHeartbeats 4000000 in
theorem kX10_isSaid {E : ET} {sh : SHT} {nn : Nat × Nat} {V : VT} {a : Int} (ha : R32 a) : TF E mX10_isSaid 2 [.int (iI a)] sh nn V (.int (iI (bZ (0 ≤ a ∧ a ≤ 9)))) := by
  refine TC.intro [some (.int (iI a))] rfl ?_
  refine TGo.il0 dX10_isSaid_0 rfl ?_
  refine TGo.i2l dX10_isSaid_1 (by omega) ?_
  refine TGo.lc0 dX10_isSaid_2 ?_
  refine TGo.ldc2 9 dX10_isSaid_3 q2060 (by decide) ?_
  refine TGo.cF (csS3 (y2 := mX10_in) 1 rfl dX10_isSaid_6 q2032 q2033 okX10_in npX10_in rfl rfl) (kX10_in (by omega) (by omega) (by omega)) ?_
  refine TGo.zret dX10_isSaid_9 rfl (by first | exact Or.inl rfl | exact Or.inr rfl | exact bZ_or _ | assumption) ?_
  refine leafF ?_
  first | rfl | omega | exact (bZ_t (by omega)).symm | exact (bZ_f (by omega)).symm | exact bZ_iff (by omega)
set_option maxHeartbeats 4000000 in
theorem kX10_born {E : ET} {sh : SHT} {nn : Nat × Nat} {V : VT} {T : Nat} {z : ZT} {p : Int} (hT : MSh T sh) (hz : PE T V z) (hp : 0 ≤ p ∧ p < 8) : TF E mX10_born 1 [.ref T, .int (iI p)] sh nn V (.int (iI (z.2 3 (238 + 3 * p)))) := by
  refine TC.intro [some (.ref T), some (.int (iI p))] rfl ?_
  refine TGo.al0 dX10_born_0 rfl ?_
  refine TGo.getS (t := 18) 3 3 (T + 2) (hT 0 (by decide)) rfl fgX10_13_10 dX10_born_1 rfl rfl rfl ?_
  refine TGo.sip 238 dX10_born_4 (by decide) ?_
  refine TGo.ic3 dX10_born_7 ?_
  refine TGo.il1 dX10_born_8 rfl ?_
  refine TGo.imul dX10_born_9 ?_
  refine TGo.iadd dX10_born_10 ?_
  refine TGo.iald dX10_born_11 (hT 2 (by decide)) (by omega) rfl ?_
  refine TGo.toz _ (hz.2.1 3 (by decide) _) ?_
  refine TGo.iret dX10_born_12 rfl ?_
  refine leafF ?_
  first | rfl | omega | exact (bZ_t (by omega)).symm | exact (bZ_f (by omega)).symm | exact bZ_iff (by omega)
set_option maxHeartbeats 4000000 in
theorem kX10_dead {E : ET} {sh : SHT} {nn : Nat × Nat} {V : VT} {T : Nat} {z : ZT} {p : Int} (hT : MSh T sh) (hz : PE T V z) (hp : 0 ≤ p ∧ p < 8) : TF E mX10_dead 1 [.ref T, .int (iI p)] sh nn V (.int (iI (z.2 3 (238 + 3 * p + 1)))) := by
  refine TC.intro [some (.ref T), some (.int (iI p))] rfl ?_
  refine TGo.al0 dX10_dead_0 rfl ?_
  refine TGo.getS (t := 18) 3 3 (T + 2) (hT 0 (by decide)) rfl fgX10_13_10 dX10_dead_1 rfl rfl rfl ?_
  refine TGo.sip 238 dX10_dead_4 (by decide) ?_
  refine TGo.ic3 dX10_dead_7 ?_
  refine TGo.il1 dX10_dead_8 rfl ?_
  refine TGo.imul dX10_dead_9 ?_
  refine TGo.iadd dX10_dead_10 ?_
  refine TGo.ic1 dX10_dead_11 ?_
  refine TGo.iadd dX10_dead_12 ?_
  refine TGo.iald dX10_dead_13 (hT 2 (by decide)) (by omega) rfl ?_
  refine TGo.toz _ (hz.2.1 3 (by decide) _) ?_
  refine TGo.iret dX10_dead_14 rfl ?_
  refine leafF ?_
  first | rfl | omega | exact (bZ_t (by omega)).symm | exact (bZ_f (by omega)).symm | exact bZ_iff (by omega)
set_option maxHeartbeats 4000000 in
theorem kX10_isAlive {E : ET} {sh : SHT} {nn : Nat × Nat} {V : VT} {T : Nat} {z : ZT} {p : Int} (hT : MSh T sh) (hz : PE T V z) (W : RWZ (z.2 3)) (hp : 0 ≤ p ∧ p < z.2 3 1) : TF E mX10_isAlive 2 [.ref T, .int (iI p)] sh nn V (.int (iI (bZ (z.2 3 (238 + 3 * p) ≤ z.2 3 7 ∧ z.2 3 7 < z.2 3 (238 + 3 * p + 1))))) := by
  have w1 := W.1.2.1
  have w7 := W.1.2.2.2.2.2.2.2.1
  have wp := W.2.2.2.1 p hp.1 hp.2
  refine TC.intro [some (.ref T), some (.int (iI p))] rfl ?_
  refine TGo.al0 dX10_isAlive_0 rfl ?_
  refine TGo.getS (t := 18) 3 3 (T + 2) (hT 0 (by decide)) rfl fgX10_13_10 dX10_isAlive_1 rfl rfl rfl ?_
  refine TGo.bip 7 dX10_isAlive_4 (by decide) ?_
  refine TGo.iald dX10_isAlive_6 (hT 2 (by decide)) (by omega) rfl ?_
  refine TGo.toz _ (hz.2.1 3 (by decide) _) ?_
  refine TGo.i2l dX10_isAlive_7 (by omega) ?_
  refine TGo.al0 dX10_isAlive_8 rfl ?_
  refine TGo.il1 dX10_isAlive_9 rfl ?_
  refine TGo.cF (csV1 (y2 := mX10_born) (t := 18) 1 rfl (hT 0 (by decide)) rfl rfl dX10_isAlive_10 q2113 q2115 qs45 okX10_born npX10_born rfl rfl) (kX10_born hT hz (by omega)) ?_
  refine TGo.i2l dX10_isAlive_13 (by omega) ?_
  refine TGo.al0 dX10_isAlive_14 rfl ?_
  refine TGo.il1 dX10_isAlive_15 rfl ?_
  refine TGo.cF (csV1 (y2 := mX10_dead) (t := 18) 1 rfl (hT 0 (by decide)) rfl rfl dX10_isAlive_16 q2125 q2127 qs47 okX10_dead npX10_dead rfl rfl) (kX10_dead hT hz (by omega)) ?_
  refine TGo.i2l dX10_isAlive_19 (by omega) ?_
  refine TGo.lc1 dX10_isAlive_20 ?_
  refine TGo.lsub dX10_isAlive_21 ?_
  refine TGo.cF (csS3 (y2 := mX10_in) 1 rfl dX10_isAlive_22 q2032 q2033 okX10_in npX10_in rfl rfl) (kX10_in (by omega) (by omega) (by omega)) ?_
  refine TGo.zret dX10_isAlive_25 rfl (by first | exact Or.inl rfl | exact Or.inr rfl | exact bZ_or _ | assumption) ?_
  refine leafF ?_
  first | rfl | omega | exact (bZ_t (by omega)).symm | exact (bZ_f (by omega)).symm | exact bZ_iff (by omega)
set_option maxHeartbeats 4000000 in
theorem kX10_wordOf {E : ET} {sh : SHT} {nn : Nat × Nat} {V : VT} {c : Int} (hc : cOK c) : TF E mX10_wordOf 1 [.int (iI c)] sh nn V (.int (iI (wZ c))) := by
  refine TC.intro [some (.int (iI c))] rfl ?_
  refine TGo.il0 dX10_wordOf_0 rfl ?_
  refine TGo.icm1 dX10_wordOf_1 ?_
  refine TGo.icmp_ne 9 dX10_wordOf_2 (by decide) (by omega) (fun h2 => ?_) (fun h2 => ?_)
  · refine TGo.il0 dX10_wordOf_9 rfl ?_
    refine TGo.bip 6 dX10_wordOf_10 (by decide) ?_
    refine TGo.idiv dX10_wordOf_12 (by omega) ?_
    refine TGo.iret dX10_wordOf_13 rfl ?_
    refine leafF ?_
    first | rfl | omega | exact (bZ_t (by omega)).symm | exact (bZ_f (by omega)).symm | exact bZ_iff (by omega) | (unfold wZ; first | rfl | (repeat (first | rw [if_pos (by first | rfl | omega)] | rw [if_neg (by first | decide | omega)])); try first | rfl | omega)
  · refine TGo.icm1 dX10_wordOf_5 ?_
    refine TGo.goto 13 dX10_wordOf_6 (by decide) ?_
    refine TGo.iret dX10_wordOf_13 rfl ?_
    refine leafF ?_
    first | rfl | omega | exact (bZ_t (by omega)).symm | exact (bZ_f (by omega)).symm | exact bZ_iff (by omega) | (unfold wZ; first | rfl | (repeat (first | rw [if_pos (by first | rfl | omega)] | rw [if_neg (by first | decide | omega)])); try first | rfl | omega)
set_option maxHeartbeats 4000000 in
theorem kX10_nextOf {E : ET} {sh : SHT} {nn : Nat × Nat} {V : VT} {c : Int} (hc : cOK c) : TF E mX10_nextOf 1 [.int (iI c)] sh nn V (.int (iI (nZ c))) := by
  refine TC.intro [some (.int (iI c))] rfl ?_
  refine TGo.il0 dX10_nextOf_0 rfl ?_
  refine TGo.icm1 dX10_nextOf_1 ?_
  refine TGo.icmp_ne 9 dX10_nextOf_2 (by decide) (by omega) (fun h2 => ?_) (fun h2 => ?_)
  · refine TGo.il0 dX10_nextOf_9 rfl ?_
    refine TGo.bip 6 dX10_nextOf_10 (by decide) ?_
    refine TGo.irem dX10_nextOf_12 (by omega) ?_
    refine TGo.iret dX10_nextOf_13 rfl ?_
    refine leafF ?_
    first | rfl | omega | exact (bZ_t (by omega)).symm | exact (bZ_f (by omega)).symm | exact bZ_iff (by omega) | (unfold nZ; first | rfl | (repeat (first | rw [if_pos (by first | rfl | omega)] | rw [if_neg (by first | decide | omega)])); try first | rfl | omega)
  · refine TGo.icm1 dX10_nextOf_5 ?_
    refine TGo.goto 13 dX10_nextOf_6 (by decide) ?_
    refine TGo.iret dX10_nextOf_13 rfl ?_
    refine leafF ?_
    first | rfl | omega | exact (bZ_t (by omega)).symm | exact (bZ_f (by omega)).symm | exact bZ_iff (by omega) | (unfold nZ; first | rfl | (repeat (first | rw [if_pos (by first | rfl | omega)] | rw [if_neg (by first | decide | omega)])); try first | rfl | omega)
set_option maxHeartbeats 4000000 in
theorem kX10_ofRule {E : ET} {sh : SHT} {nn : Nat × Nat} {V : VT} {c w : Int} (hc : cOK c) (hw : R32 w) : TF E mX10_ofRule 2 [.int (iI c), .int (iI w)] sh nn V (.int (iI (ofZ c w))) := by
  refine TC.intro [some (.int (iI c)), some (.int (iI w))] rfl ?_
  refine TGo.il1 dX10_ofRule_0 rfl ?_
  refine TGo.if_ne 11 dX10_ofRule_1 (by decide) (by omega) (fun h1 => ?_) (fun h1 => ?_)
  · refine TGo.il0 dX10_ofRule_11 rfl ?_
    refine TGo.cF (csS1 (y2 := mX10_nextOf) 1 rfl dX10_ofRule_12 q2087 q2088 okX10_nextOf npX10_nextOf rfl rfl) (kX10_nextOf (by omega)) ?_
    refine TGo.iret dX10_ofRule_15 rfl ?_
    refine leafF ?_
    first | rfl | omega | exact (bZ_t (by omega)).symm | exact (bZ_f (by omega)).symm | exact bZ_iff (by omega) | (unfold ofZ; first | rfl | (repeat (first | rw [if_pos (by first | rfl | omega)] | rw [if_neg (by first | decide | omega)])); try first | rfl | omega)
  · refine TGo.il0 dX10_ofRule_4 rfl ?_
    refine TGo.cF (csS1 (y2 := mX10_wordOf) 1 rfl dX10_ofRule_5 q2069 q2070 okX10_wordOf npX10_wordOf rfl rfl) (kX10_wordOf (by omega)) ?_
    refine TGo.goto 15 dX10_ofRule_8 (by decide) ?_
    refine TGo.iret dX10_ofRule_15 rfl ?_
    refine leafF ?_
    first | rfl | omega | exact (bZ_t (by omega)).symm | exact (bZ_f (by omega)).symm | exact bZ_iff (by omega) | (unfold ofZ; first | rfl | (repeat (first | rw [if_pos (by first | rfl | omega)] | rw [if_neg (by first | decide | omega)])); try first | rfl | omega)
set_option maxHeartbeats 4000000 in
theorem kX10_ruleOf {E : ET} {sh : SHT} {nn : Nat × Nat} {V : VT} {T : Nat} {z : ZT} {v a : Int} (hT : MSh T sh) (hz : PE T V z) (hv : 0 ≤ v ∧ v < 12) (ha : 0 ≤ a ∧ a < 36) : TF E mX10_ruleOf 1 [.ref T, .int (iI v), .int (iI a)] sh nn V (.int (iI (z.2 3 (298 + 36 * v + a)))) := by
  refine TC.intro [some (.ref T), some (.int (iI v)), some (.int (iI a))] rfl ?_
  refine TGo.al0 dX10_ruleOf_0 rfl ?_
  refine TGo.getS (t := 18) 3 3 (T + 2) (hT 0 (by decide)) rfl fgX10_13_10 dX10_ruleOf_1 rfl rfl rfl ?_
  refine TGo.sip 298 dX10_ruleOf_4 (by decide) ?_
  refine TGo.bip 36 dX10_ruleOf_7 (by decide) ?_
  refine TGo.il1 dX10_ruleOf_9 rfl ?_
  refine TGo.imul dX10_ruleOf_10 ?_
  refine TGo.iadd dX10_ruleOf_11 ?_
  refine TGo.il2 dX10_ruleOf_12 rfl ?_
  refine TGo.iadd dX10_ruleOf_13 ?_
  refine TGo.iald dX10_ruleOf_14 (hT 2 (by decide)) (by omega) rfl ?_
  refine TGo.toz _ (hz.2.1 3 (by decide) _) ?_
  refine TGo.iret dX10_ruleOf_15 rfl ?_
  refine leafF ?_
  first | rfl | omega | exact (bZ_t (by omega)).symm | exact (bZ_f (by omega)).symm | exact bZ_iff (by omega)
set_option maxHeartbeats 4000000 in
theorem kX10_changeRule {E : ET} {sh : SHT} {nn : Nat × Nat} {V : VT} {T : Nat} {z : ZT} {p a c : Int} (hT : MSh T sh) (hz : PE T V z) (hp : 0 ≤ p ∧ p < 6) (ha : 0 ≤ a ∧ a < 36) (hc : cOK c) (ho : cOK (z.2 3 (22 + 36 * p + a))) : TS E mX10_changeRule 2 [.ref T, .int (iI p), .int (iI a), .int (iI c)] sh nn V (fun v V1 => v = .int (iI (wZ (z.2 3 (22 + 36 * p + a)))) ∧ PE T V1 (zi (za z 3 (22 + 36 * p + a) c) 1 0)) := by
  have hw : -1 ≤ wZ (z.2 3 (22 + 36 * p + a)) ∧ wZ (z.2 3 (22 + 36 * p + a)) ≤ 9 := by unfold wZ; split <;> omega
  refine TC.intro [some (.ref T), some (.int (iI p)), some (.int (iI a)), some (.int (iI c)), none] rfl ?_
  refine TGo.al0 dX10_changeRule_0 rfl ?_
  refine TGo.getS (t := 18) 3 3 (T + 2) (hT 0 (by decide)) rfl fgX10_13_10 dX10_changeRule_1 rfl rfl rfl ?_
  refine TGo.bip 22 dX10_changeRule_4 (by decide) ?_
  refine TGo.bip 36 dX10_changeRule_6 (by decide) ?_
  refine TGo.il1 dX10_changeRule_8 rfl ?_
  refine TGo.imul dX10_changeRule_9 ?_
  refine TGo.iadd dX10_changeRule_10 ?_
  refine TGo.il2 dX10_changeRule_11 rfl ?_
  refine TGo.iadd dX10_changeRule_12 ?_
  refine TGo.iald dX10_changeRule_13 (hT 2 (by decide)) (by omega) rfl ?_
  refine TGo.toz _ (hz.2.1 3 (by decide) _) ?_
  refine TGo.is dX10_changeRule_14 rfl rfl ?_
  refine TGo.al0 dX10_changeRule_16 rfl ?_
  refine TGo.getS (t := 18) 3 3 (T + 2) (hT 0 (by decide)) rfl fgX10_13_10 dX10_changeRule_17 rfl rfl rfl ?_
  refine TGo.bip 22 dX10_changeRule_20 (by decide) ?_
  refine TGo.bip 36 dX10_changeRule_22 (by decide) ?_
  refine TGo.il1 dX10_changeRule_24 rfl ?_
  refine TGo.imul dX10_changeRule_25 ?_
  refine TGo.iadd dX10_changeRule_26 ?_
  refine TGo.il2 dX10_changeRule_27 rfl ?_
  refine TGo.iadd dX10_changeRule_28 ?_
  refine TGo.il3 dX10_changeRule_29 rfl ?_
  refine TGo.iast dX10_changeRule_30 (hT 2 (by decide)) (by omega) rfl ?_
  refine TGo.al0 dX10_changeRule_31 rfl ?_
  refine TGo.il dX10_changeRule_32 rfl ?_
  refine TGo.cF (csS1 (y2 := mX10_wordOf) 1 rfl dX10_changeRule_34 q2069 q2070 okX10_wordOf npX10_wordOf rfl rfl) (kX10_wordOf (by omega)) ?_
  refine TGo.cS (csV1 (y2 := mX10_was) (t := 18) 1 rfl (hT 0 (by decide)) rfl rfl dX10_changeRule_37 q2072 q2074 qs42 okX10_was npX10_was rfl rfl) (kX10_was hT (hz.a 3 rfl rfl)) (fun v37 V37 h37 => ?_)
  obtain ⟨rfl, hz37⟩ := h37
  refine TGo.iret dX10_changeRule_40 rfl ?_
  refine leafP hz37 ?_ ?_
  · first | rfl | omega | exact (bZ_t (by omega)).symm | exact (bZ_f (by omega)).symm | exact bZ_iff (by omega)
  · first | rfl
set_option maxHeartbeats 4000000 in
theorem kX10_together {E : ET} {sh : SHT} {nn : Nat × Nat} {V : VT} {T : Nat} {z : ZT} {a b : Int} (hT : MSh T sh) (hz : PE T V z) (W : RWZ (z.2 3)) (ha : 0 ≤ a ∧ a < z.2 3 1) (hb : 0 ≤ b ∧ b < z.2 3 1) : TF E mX10_together 2 [.ref T, .int (iI a), .int (iI b)] sh nn V (.int (iI (min (z.2 3 (238 + 3 * a + 1)) (z.2 3 (238 + 3 * b + 1)) - max (z.2 3 (238 + 3 * a)) (z.2 3 (238 + 3 * b))))) := by
  have w1 := W.1.2.1
  have wa := W.2.2.2.1 a ha.1 ha.2
  have wb := W.2.2.2.1 b hb.1 hb.2
  refine TC.intro [some (.ref T), some (.int (iI a)), some (.int (iI b)), none, none] rfl ?_
  refine TGo.al0 dX10_together_0 rfl ?_
  refine TGo.il1 dX10_together_1 rfl ?_
  refine TGo.cF (csV1 (y2 := mX10_born) (t := 18) 1 rfl (hT 0 (by decide)) rfl rfl dX10_together_2 q2113 q2115 qs45 okX10_born npX10_born rfl rfl) (kX10_born hT hz (by omega)) ?_
  refine TGo.al0 dX10_together_5 rfl ?_
  refine TGo.il2 dX10_together_6 rfl ?_
  refine TGo.cF (csV1 (y2 := mX10_born) (t := 18) 1 rfl (hT 0 (by decide)) rfl rfl dX10_together_7 q2113 q2115 qs45 okX10_born npX10_born rfl rfl) (kX10_born hT hz (by omega)) ?_
  refine TGo.icmp_le 21 dX10_together_10 (by decide) (by omega) (fun h10 => ?_) (fun h10 => ?_)
  · refine TGo.al0 dX10_together_21 rfl ?_
    refine TGo.il2 dX10_together_22 rfl ?_
    refine TGo.cF (csV1 (y2 := mX10_born) (t := 18) 1 rfl (hT 0 (by decide)) rfl rfl dX10_together_23 q2113 q2115 qs45 okX10_born npX10_born rfl rfl) (kX10_born hT hz (by omega)) ?_
    refine TGo.is3 dX10_together_26 rfl rfl ?_
    refine TGo.al0 dX10_together_27 rfl ?_
    refine TGo.il1 dX10_together_28 rfl ?_
    refine TGo.cF (csV1 (y2 := mX10_dead) (t := 18) 1 rfl (hT 0 (by decide)) rfl rfl dX10_together_29 q2125 q2127 qs47 okX10_dead npX10_dead rfl rfl) (kX10_dead hT hz (by omega)) ?_
    refine TGo.al0 dX10_together_32 rfl ?_
    refine TGo.il2 dX10_together_33 rfl ?_
    refine TGo.cF (csV1 (y2 := mX10_dead) (t := 18) 1 rfl (hT 0 (by decide)) rfl rfl dX10_together_34 q2125 q2127 qs47 okX10_dead npX10_dead rfl rfl) (kX10_dead hT hz (by omega)) ?_
    refine TGo.icmp_ge 48 dX10_together_37 (by decide) (by omega) (fun h37 => ?_) (fun h37 => ?_)
    · refine TGo.al0 dX10_together_48 rfl ?_
      refine TGo.il2 dX10_together_49 rfl ?_
      refine TGo.cF (csV1 (y2 := mX10_dead) (t := 18) 1 rfl (hT 0 (by decide)) rfl rfl dX10_together_50 q2125 q2127 qs47 okX10_dead npX10_dead rfl rfl) (kX10_dead hT hz (by omega)) ?_
      refine TGo.is dX10_together_53 rfl rfl ?_
      refine TGo.il dX10_together_55 rfl ?_
      refine TGo.il3 dX10_together_57 rfl ?_
      refine TGo.isub dX10_together_58 ?_
      refine TGo.iret dX10_together_59 rfl ?_
      refine leafF ?_
      first | rfl | omega | exact (bZ_t (by omega)).symm | exact (bZ_f (by omega)).symm | exact bZ_iff (by omega)
    · refine TGo.al0 dX10_together_40 rfl ?_
      refine TGo.il1 dX10_together_41 rfl ?_
      refine TGo.cF (csV1 (y2 := mX10_dead) (t := 18) 1 rfl (hT 0 (by decide)) rfl rfl dX10_together_42 q2125 q2127 qs47 okX10_dead npX10_dead rfl rfl) (kX10_dead hT hz (by omega)) ?_
      refine TGo.goto 53 dX10_together_45 (by decide) ?_
      refine TGo.is dX10_together_53 rfl rfl ?_
      refine TGo.il dX10_together_55 rfl ?_
      refine TGo.il3 dX10_together_57 rfl ?_
      refine TGo.isub dX10_together_58 ?_
      refine TGo.iret dX10_together_59 rfl ?_
      refine leafF ?_
      first | rfl | omega | exact (bZ_t (by omega)).symm | exact (bZ_f (by omega)).symm | exact bZ_iff (by omega)
  · refine TGo.al0 dX10_together_13 rfl ?_
    refine TGo.il1 dX10_together_14 rfl ?_
    refine TGo.cF (csV1 (y2 := mX10_born) (t := 18) 1 rfl (hT 0 (by decide)) rfl rfl dX10_together_15 q2113 q2115 qs45 okX10_born npX10_born rfl rfl) (kX10_born hT hz (by omega)) ?_
    refine TGo.goto 26 dX10_together_18 (by decide) ?_
    refine TGo.is3 dX10_together_26 rfl rfl ?_
    refine TGo.al0 dX10_together_27 rfl ?_
    refine TGo.il1 dX10_together_28 rfl ?_
    refine TGo.cF (csV1 (y2 := mX10_dead) (t := 18) 1 rfl (hT 0 (by decide)) rfl rfl dX10_together_29 q2125 q2127 qs47 okX10_dead npX10_dead rfl rfl) (kX10_dead hT hz (by omega)) ?_
    refine TGo.al0 dX10_together_32 rfl ?_
    refine TGo.il2 dX10_together_33 rfl ?_
    refine TGo.cF (csV1 (y2 := mX10_dead) (t := 18) 1 rfl (hT 0 (by decide)) rfl rfl dX10_together_34 q2125 q2127 qs47 okX10_dead npX10_dead rfl rfl) (kX10_dead hT hz (by omega)) ?_
    refine TGo.icmp_ge 48 dX10_together_37 (by decide) (by omega) (fun h37 => ?_) (fun h37 => ?_)
    · refine TGo.al0 dX10_together_48 rfl ?_
      refine TGo.il2 dX10_together_49 rfl ?_
      refine TGo.cF (csV1 (y2 := mX10_dead) (t := 18) 1 rfl (hT 0 (by decide)) rfl rfl dX10_together_50 q2125 q2127 qs47 okX10_dead npX10_dead rfl rfl) (kX10_dead hT hz (by omega)) ?_
      refine TGo.is dX10_together_53 rfl rfl ?_
      refine TGo.il dX10_together_55 rfl ?_
      refine TGo.il3 dX10_together_57 rfl ?_
      refine TGo.isub dX10_together_58 ?_
      refine TGo.iret dX10_together_59 rfl ?_
      refine leafF ?_
      first | rfl | omega | exact (bZ_t (by omega)).symm | exact (bZ_f (by omega)).symm | exact bZ_iff (by omega)
    · refine TGo.al0 dX10_together_40 rfl ?_
      refine TGo.il1 dX10_together_41 rfl ?_
      refine TGo.cF (csV1 (y2 := mX10_dead) (t := 18) 1 rfl (hT 0 (by decide)) rfl rfl dX10_together_42 q2125 q2127 qs47 okX10_dead npX10_dead rfl rfl) (kX10_dead hT hz (by omega)) ?_
      refine TGo.goto 53 dX10_together_45 (by decide) ?_
      refine TGo.is dX10_together_53 rfl rfl ?_
      refine TGo.il dX10_together_55 rfl ?_
      refine TGo.il3 dX10_together_57 rfl ?_
      refine TGo.isub dX10_together_58 ?_
      refine TGo.iret dX10_together_59 rfl ?_
      refine leafF ?_
      first | rfl | omega | exact (bZ_t (by omega)).symm | exact (bZ_f (by omega)).symm | exact bZ_iff (by omega)
set_option maxHeartbeats 4000000 in
theorem lX10_told {E : ET} {sh : SHT} {nn : Nat × Nat} {V : VT} {T : Nat} {z : ZT} {a : Int} (hT : MSh T sh) (hz : PE T V z) (ha : 0 ≤ a ∧ a ≤ 6000) (hc : ∀ r, 0 ≤ r → r < 36 → cOK (z.2 3 (a + r))) : ∀ (n j : Nat), 36 - j < n → j ≤ 36 → TGo E mX10_told 1 4 [some (.ref T), some (.int (iI a)), some (.int (iI (toldZ (z.2 3) a j))), some (.int (iI (((j : Nat) : Int))))] [] sh nn V (fun o sh' nn' V' => o = .inl (some (.int (iI (toldZ (z.2 3) a 36)))) ∧ sh' = sh ∧ nn' = nn ∧ V' = V) := by
  intro n
  induction n with
  | zero => intro j h; omega
  | succ n ih =>
    intro j hn hj
    have ht := toldZ_le (z.2 3) a j
    have hc1 := fun h => hc j (by omega) h
    refine TGo.il3 dX10_told_4 rfl ?_
    refine TGo.bip 36 dX10_told_5 (by decide) ?_
    refine TGo.icmp_ge 36 dX10_told_7 (by decide) (by omega) (fun h7 => ?_) (fun h7 => ?_)
    · refine TGo.il2 dX10_told_36 rfl ?_
      refine TGo.iret dX10_told_37 rfl ?_
      obtain rfl : j = 36 := by omega
      exact ⟨rfl, rfl, rfl, rfl⟩
    · refine TGo.il2 dX10_told_10 rfl ?_
      refine TGo.al0 dX10_told_11 rfl ?_
      refine TGo.getS (t := 18) 3 3 (T + 2) (hT 0 (by decide)) rfl fgX10_13_10 dX10_told_12 rfl rfl rfl ?_
      refine TGo.il1 dX10_told_15 rfl ?_
      refine TGo.il3 dX10_told_16 rfl ?_
      refine TGo.iadd dX10_told_17 ?_
      refine TGo.iald dX10_told_18 (hT 2 (by decide)) (by omega) rfl ?_
      refine TGo.toz _ (hz.2.1 3 (by decide) _) ?_
      refine TGo.icm1 dX10_told_19 ?_
      refine TGo.icmp_ne 27 dX10_told_20 (by decide) (by omega) (fun h20 => ?_) (fun h20 => ?_)
      · refine TGo.ic1 dX10_told_27 ?_
        refine TGo.iadd dX10_told_28 ?_
        refine TGo.is2 dX10_told_29 rfl rfl ?_
        refine TGo.iinc dX10_told_30 rfl rfl rfl ?_
        refine TGo.goto 4 dX10_told_33 (by decide) ?_
        exact TGo.seq [some (.ref T), some (.int (iI a)), some (.int (iI (toldZ (z.2 3) a (j + 1)))), some (.int (iI ((((j + 1) : Nat) : Int))))] [] _ (by rw [toldZ]; first | (rw [if_pos (by first | assumption | omega)]; rfl) | (rw [if_neg (by first | assumption | omega)]; rfl)) rfl rfl (ih (j + 1) (by omega) (by omega))
      · refine TGo.ic0 dX10_told_23 ?_
        refine TGo.goto 28 dX10_told_24 (by decide) ?_
        refine TGo.iadd dX10_told_28 ?_
        refine TGo.is2 dX10_told_29 rfl rfl ?_
        refine TGo.iinc dX10_told_30 rfl rfl rfl ?_
        refine TGo.goto 4 dX10_told_33 (by decide) ?_
        exact TGo.seq [some (.ref T), some (.int (iI a)), some (.int (iI (toldZ (z.2 3) a (j + 1)))), some (.int (iI ((((j + 1) : Nat) : Int))))] [] _ (by rw [toldZ]; first | (rw [if_pos (by first | assumption | omega)]; rfl) | (rw [if_neg (by first | assumption | omega)]; rfl)) rfl rfl (ih (j + 1) (by omega) (by omega))
set_option maxHeartbeats 4000000 in
theorem kX10_told {E : ET} {sh : SHT} {nn : Nat × Nat} {V : VT} {T : Nat} {z : ZT} {a : Int} (hT : MSh T sh) (hz : PE T V z) (ha : 0 ≤ a ∧ a ≤ 6000) (hc : ∀ r, 0 ≤ r → r < 36 → cOK (z.2 3 (a + r))) : TF E mX10_told 1 [.ref T, .int (iI a)] sh nn V (.int (iI (toldZ (z.2 3) a 36))) := by
  refine TC.intro [some (.ref T), some (.int (iI a)), none, none] rfl ?_
  refine TGo.ic0 dX10_told_0 ?_
  refine TGo.is2 dX10_told_1 rfl rfl ?_
  refine TGo.ic0 dX10_told_2 ?_
  refine TGo.is3 dX10_told_3 rfl rfl ?_
  exact lX10_told hT hz ha hc 37 0 (by omega) (by omega)
