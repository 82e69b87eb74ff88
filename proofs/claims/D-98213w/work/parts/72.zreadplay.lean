/-! THE MODEL: the parser reads a play -/
set_option maxRecDepth 100000
def nuZ (z : ZT) (lo hi : Int) : Int × ZT := (z.1 12, muZ z (bZ (z.1 11 = 2 ∧ lo ≤ z.1 12 ∧ z.1 12 ≤ hi)))
def rdZ (z : ZT) : Int × ZT := if wdA z 1497 then (-1, neZ z) else nuZ z 0 5
def ry1 (m : ZT) : ZT := zi m 16 (m.1 16 + 1)
def rq (c : Int) (z : ZT) : ZT := za (rdZ z).2 35 c (rdZ z).1
def ry2 (z : ZT) : ZT := muZ z (bZ (wdA z 52))
def ry3 (c : Int) (z : ZT) : ZT := if z.1 14 = 0 then rq (c + 1) z else za z 35 (c + 1) 0
def ry4 (c hu : Int) (z : ZT) : ZT := za (za (muZ z (bZ (hu ≠ 0 ∨ wdA z 19513))) 35 (c + 2) hu) 35 (c + 3) ((muZ z (bZ (hu ≠ 0 ∨ wdA z 19513))).1 18)
def ry5 (hu : Int) (z : ZT) : ZT := if z.1 14 = 0 ∧ hu = 0 then exZ 0 z else z
def ry6 (c : Int) (z : ZT) : ZT := za z 35 (c + 4) (z.1 18)
def ry7 (hu : Int) (z : ZT) : ZT := if z.1 14 = 0 ∧ hu = 0 ∧ wdA z 239 then exZ 0 (neZ z) else z
def ry8 (c : Int) (z : ZT) : ZT := za z 35 (c + 5) (z.1 18)
def ry9 (c : Int) (z : ZT) : ZT := za z 35 (c + 6) (z.1 18)
def ryE (c hu : Int) (z : ZT) : ZT := ry9 c (rl4 (ry8 c (ry7 hu (ry6 c (ry5 hu z)))))
def ryM (c : Int) (z : ZT) : ZT := ryE c (bZ (wdA z 284264)) (ry4 c (bZ (wdA z 284264)) z)
def rplX (m : ZT) : ZT := ryM (10 * m.1 16) (ry3 (10 * m.1 16) (ry2 (rq (10 * m.1 16) (ry1 m))))
def rplZ1 (m : ZT) : ZT := if m.1 14 = 0 then rplX m else m
def rplZ (z : ZT) : ZT := rplZ1 (muZ z (bZ (wdA z 302 ∧ z.1 16 < 12)))
/-- in order still, and no nearer to the start -/
def YG (z z' : ZT) : Prop := YV z' ∧ z.1 9 ≤ z'.1 9 ∧ z'.1 15 = z.1 15 ∧ z'.1 8 = z.1 8 ∧ ∀ k, (aOK k && !(k == 35)) = true → z'.2 k = z.2 k
theorem YG.rf {z : ZT} (Y : YV z) : YG z z := ⟨Y, Int.le_refl _, rfl, rfl, fun _ _ => rfl⟩
theorem YG.tr {z z1 z2 : ZT} (h : YG z z1) (h2 : YG z1 z2) : YG z z2 := ⟨h2.1, Int.le_trans h.2.1 h2.2.1, h2.2.2.1.trans h.2.2.1, h2.2.2.2.1.trans h.2.2.2.1, fun k hk => (h2.2.2.2.2 k hk).trans (h.2.2.2.2 k hk)⟩
theorem auxA {k : Nat} (hk : (aOK k && !(k == 35)) = true) : aOK k = true ∧ (k == 35) = false := by simpa using hk
theorem YG.sm {z z' : ZT} (Y : YV z') (h9 : z.1 9 ≤ z'.1 9) (S : Sm z z') : YG z z' := ⟨Y, h9, S.1 15 rfl, S.1 8 rfl, fun k hk => S.2 k (auxA hk).1⟩
theorem YG.a {z z' : ZT} {i v : Int} (h : YG z z') : YG z (za z' 35 i v) := ⟨h.1.a rfl, h.2.1, h.2.2.1, h.2.2.2.1, fun k hk => (za_2 (auxA hk).2).trans (h.2.2.2.2 k hk)⟩
theorem YG.m {z z' : ZT} {b : Int} (h : YG z z') : YG z (muZ z' b) := h.tr (.sm h.1.m.1 h.1.m.2 Sm.rf.mu)
theorem YG.n {z z' : ZT} (h : YG z z') : YG z (neZ z') := h.tr (.sm h.1.n.1 h.1.n.2.1 Sm.rf.ne)
theorem YG.e {z z' : ZT} {t : Int} (h : YG z z') : YG z (exZ t z') := h.tr (.sm (exY h.1).1 (exY h.1).2 Sm.ex)
theorem YG.rd {z z' : ZT} (h : YG z z') : YG z (rdZ z').2 := by
  unfold rdZ
  split
  · exact h.n
  · exact h.m
theorem YG.q {z z' : ZT} {c : Int} (h : YG z z') : YG z (rq c z') := h.rd.a
theorem YG.r3 {z z' : ZT} {c : Int} (h : YG z z') : YG z (ry3 c z') := by
  unfold ry3
  split
  · exact h.q
  · exact h.a
theorem YG.r4 {z z' : ZT} {c hu : Int} (h : YG z z') : YG z (ry4 c hu z') := (YG.a (YG.a (YG.m h)))
theorem YG.r5 {z z' : ZT} {hu : Int} (h : YG z z') : YG z (ry5 hu z') := by
  unfold ry5
  split
  · exact h.e
  · exact h
theorem YG.r7 {z z' : ZT} {hu : Int} (h : YG z z') : YG z (ry7 hu z') := by
  unfold ry7
  split
  · exact h.n.e
  · exact h
theorem YG.l4 {z z' : ZT} (h : YG z z') : YG z (rl4 z') := by
  unfold rl4
  split
  · exact h.n.e
  · exact h
theorem YG.rE {z z' : ZT} {c hu : Int} (h : YG z z') : YG z (ryE c hu z') := (YG.a (YG.l4 (YG.a (YG.r7 (YG.a (YG.r5 h))))))
theorem YG.r1 {m : ZT} (Y : YV m) (h : m.1 16 < 12) : YG m (ry1 m) := ⟨Y.o (fun k hk => if_neg (by simpa using hk)) rfl (by have := Y.b; show 0 ≤ m.1 16 + 1 ∧ m.1 16 + 1 ≤ 12; omega), Int.le_refl _, rfl, rfl, fun _ _ => rfl⟩
theorem rplG {z : ZT} (Y : YV z) : YG z (rplZ z) := by
  unfold rplZ rplZ1
  split
  · rename_i h
    obtain ⟨e1, e2, e3⟩ := muZ_ok h
    have hc : wdA z 302 ∧ z.1 16 < 12 := Classical.byContradiction (fun c => e2 (bZ_f c))
    have M : YG z (muZ z (bZ (wdA z 302 ∧ z.1 16 < 12))) := (YG.rf Y).m
    have h16 : (muZ z (bZ (wdA z 302 ∧ z.1 16 < 12))).1 16 < 12 := by rw [e3]; exact hc.2
    exact M.tr (YG.rE (YG.r4 (YG.r3 (YG.m (YG.q (YG.r1 M.1 h16))))))
  · exact (YG.rf Y).m
def plF : Nat → ZT → ZT
  | 0, z => z
  | n + 1, z => if z.1 14 = 0 ∧ sgA z 59 then plF n (rplZ (neZ z)) else z
set_option maxHeartbeats 4000000 in
theorem kX10_number {E : ET} {sh : SHT} {nn : Nat × Nat} {V : VT} {T : Nat} {z : ZT} {lo hi : Int} (hT : MSh T sh) (hz : PZ T V z) (Y : YT z) (hl : -9223372036854775808 ≤ lo ∧ lo ≤ 9223372036854775807) (hh : -9223372036854775808 ≤ hi ∧ hi ≤ 9223372036854775807) : TS E mX10_number 4 [.ref T, .long (lI lo), .long (lI hi)] sh nn V (fun v V1 => v = .int (iI (nuZ z lo hi).1) ∧ PZ T V1 (nuZ z lo hi).2) := by
  have hb := Y.2.1.b Y.1
  refine TC.intro [some (.ref T), some (.long (lI lo)), none, some (.long (lI hi)), none, none] rfl ?_
  refine TGo.al0 dX10_number_0 rfl ?_
  refine TGo.getJ (t := 18) 12 12 (hT 0 (by decide)) rfl fgX10_259_10 dX10_number_1 rfl rfl rfl ?_
  refine TGo.tol (z.1 12) hz.2.2.2 ?_
  refine TGo.l2i dX10_number_4 (by omega) ?_
  refine TGo.is dX10_number_5 rfl rfl ?_
  refine TGo.al0 dX10_number_7 rfl ?_
  refine TGo.al0 dX10_number_8 rfl ?_
  refine TGo.getI (t := 18) 11 11 (hT 0 (by decide)) rfl fgX10_269_10 dX10_number_9 rfl rfl rfl ?_
  refine TGo.toz _ (hz.1 11 rfl) ?_
  refine TGo.ic2 dX10_number_12 ?_
  refine TGo.icmp_ne 32 dX10_number_13 (by decide) (by omega) (fun h13 => ?_) (fun h13 => ?_)
  · refine TGo.ic0 dX10_number_32 ?_
    refine TGo.toz (bZ (z.1 11 = 2 ∧ lo ≤ z.1 12 ∧ z.1 12 ≤ hi)) (by first | exact (bZ_t ⟨by assumption, by assumption⟩).symm | exact (bZ_f (fun q => by first | exact absurd q.1 (by assumption) | exact absurd q.2 (by assumption))).symm) ?_
    refine TGo.cN (csV1 (y2 := mX10_must) (t := 18) 3 rfl (hT 0 (by decide)) rfl rfl dX10_number_33 q2197 q2199 qs54 okX10_must npX10_must rfl rfl) (kX10_mustT hT hz Y (by first | exact Or.inl rfl | exact Or.inr rfl | exact bZ_or _ | assumption)) (fun V33 hz33 => ?_)
    refine TGo.il dX10_number_36 rfl ?_
    refine TGo.iret dX10_number_38 rfl ?_
    exact leafR hz33 rfl
  · refine TGo.al0 dX10_number_16 rfl ?_
    refine TGo.getJ (t := 18) 12 12 (hT 0 (by decide)) rfl fgX10_259_10 dX10_number_17 rfl rfl rfl ?_
    refine TGo.tol (z.1 12) hz.2.2.2 ?_
    refine TGo.ll1 dX10_number_20 rfl ?_
    refine TGo.ll3 dX10_number_21 rfl ?_
    refine TGo.cF (csS3 (y2 := mX10_in) 1 rfl dX10_number_22 q2032 q2033 okX10_in npX10_in rfl rfl) (kX10_in (by omega) (by omega) (by omega)) ?_
    refine TGo.ifb_eq 32 dX10_number_25 (by decide) (fun h25 => ?_) (fun h25 => ?_)
    · refine TGo.ic0 dX10_number_32 ?_
      refine TGo.toz (bZ (z.1 11 = 2 ∧ lo ≤ z.1 12 ∧ z.1 12 ≤ hi)) (by first | exact (bZ_t ⟨by assumption, by assumption⟩).symm | exact (bZ_f (fun q => by first | exact absurd q.1 (by assumption) | exact absurd q.2 (by assumption))).symm) ?_
      refine TGo.cN (csV1 (y2 := mX10_must) (t := 18) 3 rfl (hT 0 (by decide)) rfl rfl dX10_number_33 q2197 q2199 qs54 okX10_must npX10_must rfl rfl) (kX10_mustT hT hz Y (by first | exact Or.inl rfl | exact Or.inr rfl | exact bZ_or _ | assumption)) (fun V33 hz33 => ?_)
      refine TGo.il dX10_number_36 rfl ?_
      refine TGo.iret dX10_number_38 rfl ?_
      exact leafR hz33 rfl
    · refine TGo.ic1 dX10_number_28 ?_
      refine TGo.goto 33 dX10_number_29 (by decide) ?_
      refine TGo.toz (bZ (z.1 11 = 2 ∧ lo ≤ z.1 12 ∧ z.1 12 ≤ hi)) (by first | exact (bZ_t ⟨by assumption, by assumption⟩).symm | exact (bZ_f (fun q => by first | exact absurd q.1 (by assumption) | exact absurd q.2 (by assumption))).symm) ?_
      refine TGo.cN (csV1 (y2 := mX10_must) (t := 18) 3 rfl (hT 0 (by decide)) rfl rfl dX10_number_33 q2197 q2199 qs54 okX10_must npX10_must rfl rfl) (kX10_mustT hT hz Y (by first | exact Or.inl rfl | exact Or.inr rfl | exact bZ_or _ | assumption)) (fun V33 hz33 => ?_)
      refine TGo.il dX10_number_36 rfl ?_
      refine TGo.iret dX10_number_38 rfl ?_
      exact leafR hz33 rfl
set_option maxHeartbeats 4000000 in
theorem kX10_readPlace {E : ET} {sh : SHT} {nn : Nat × Nat} {V : VT} {T : Nat} {z : ZT} (hT : MSh T sh) (hz : PZ T V z) (Y : YT z) : TS E mX10_readPlace 5 [.ref T] sh nn V (fun v V1 => v = .int (iI (rdZ z).1) ∧ PZ T V1 (rdZ z).2) := by
  have hb := Y.2.1.b Y.1
  have hle := Y.2.1.2
  refine TC.intro [some (.ref T)] rfl ?_
  refine TGo.al0 dX10_readPlace_0 rfl ?_
  refine TGo.ldc2 1497 dX10_readPlace_1 q2331 (by decide) ?_
  refine TGo.cF (csV1 (y2 := mX10_isWord) (t := 18) 1 rfl (hT 0 (by decide)) rfl rfl dX10_readPlace_4 q2191 q2193 qs53 okX10_isWord npX10_isWord rfl rfl) (qX10_isWordT hT hz Y (by omega)) ?_
  refine TGo.ifb_eq 16 dX10_readPlace_7 (by decide) (fun h7 => ?_) (fun h7 => ?_)
  · refine TGo.al0 dX10_readPlace_16 rfl ?_
    refine TGo.lc0 dX10_readPlace_17 ?_
    refine TGo.ldc2 5 dX10_readPlace_18 q2056 (by decide) ?_
    refine TGo.cS (csV2 (y2 := mX10_number) (t := 18) 4 rfl (hT 0 (by decide)) rfl rfl dX10_readPlace_21 q2332 q2334 qs80 okX10_number npX10_number rfl rfl) (kX10_number hT hz Y (by omega) (by omega)) (fun v21 V21 h21 => ?_)
    obtain ⟨rfl, hz21⟩ := h21
    refine TGo.iret dX10_readPlace_24 rfl ?_
    refine leafR hz21 ?_
    unfold rdZ
    rw [if_neg (by assumption)]
  · refine TGo.al0 dX10_readPlace_10 rfl ?_
    refine TGo.cN (csV0 (y2 := mX10_next) (t := 18) 2 rfl (hT 0 (by decide)) rfl rfl dX10_readPlace_11 q2170 q2172 qs51 okX10_next npX10_next rfl rfl) (kX10_next hT hz Y.1 (by omega)) (fun V11 hz11 => ?_)
    refine TGo.icm1 dX10_readPlace_14 ?_
    refine TGo.iret dX10_readPlace_15 rfl ?_
    refine leafR hz11 ?_
    unfold rdZ
    rw [if_pos (by assumption)]
set_option maxHeartbeats 4000000 in
theorem lX10_readPlay9 {E : ET} {sh : SHT} {nn : Nat × Nat} {T : Nat} {z : ZT} {V : VT} {c : Int} (hT : MSh T sh) (hz : PZ T V z) (hc : 0 ≤ c ∧ c ≤ 110) (hu : Int) (hhu : hu = 0 ∨ hu = 1) (Y : YV z) (h15 : z.1 15 = 0 ∨ z.1 15 = 1) : TGo E mX10_readPlay 8 254 [some (.ref T), some (.int (iI c)), some (.int (iI hu))] [] sh nn V (ZPN T sh nn (ry9 c z)) := by
  have hb := Y.b
  refine TGo.al0 dX10_readPlay_254 rfl ?_
  refine TGo.getS (t := 18) 35 35 (T + 16) (hT 0 (by decide)) rfl fgX10_85_10 dX10_readPlay_255 rfl rfl rfl ?_
  refine TGo.il1 dX10_readPlay_258 rfl ?_
  refine TGo.bip 6 dX10_readPlay_259 (by decide) ?_
  refine TGo.iadd dX10_readPlay_261 ?_
  refine TGo.al0 dX10_readPlay_262 rfl ?_
  refine TGo.getI (t := 18) 18 18 (hT 0 (by decide)) rfl fgX10_288_10 dX10_readPlay_263 rfl rfl rfl ?_
  refine TGo.toz _ (hz.1 18 rfl) ?_
  refine TGo.iast dX10_readPlay_266 (hT 16 (by decide)) (by omega) rfl ?_
  refine TGo.vret dX10_readPlay_267 rfl ?_
  first
  | (exfalso; omega)
  | (refine ⟨rfl, rfl, rfl, PZ.eq (hz.a 35 rfl rfl) ?_⟩
     unfold ry9
     (repeat (first | rw [if_pos (by first | rfl | assumption | omega)] | rw [if_neg (by first | decide | assumption | omega)]))
     (try first | rfl))
set_option maxHeartbeats 4000000 in
theorem lX10_readPlay8 {E : ET} {sh : SHT} {nn : Nat × Nat} {T : Nat} {z : ZT} {V : VT} {c : Int} (hT : MSh T sh) (hz : PZ T V z) (hc : 0 ≤ c ∧ c ≤ 110) (hu : Int) (hhu : hu = 0 ∨ hu = 1) (Y : YV z) (h15 : z.1 15 = 0 ∨ z.1 15 = 1) : TGo E mX10_readPlay 8 228 [some (.ref T), some (.int (iI c)), some (.int (iI hu))] [] sh nn V (ZPN T sh nn (ry9 c (rl4 z))) := by
  have hb := Y.b
  refine TGo.al0 dX10_readPlay_228 rfl ?_
  refine TGo.getI (t := 18) 14 14 (hT 0 (by decide)) rfl fgX10_249_10 dX10_readPlay_229 rfl rfl rfl ?_
  refine TGo.toz _ (hz.1 14 rfl) ?_
  refine TGo.if_ne 254 dX10_readPlay_232 (by decide) (by omega) (fun h232 => ?_) (fun h232 => ?_)
  · unfold rl4
    first
    | (rw [if_pos ⟨by omega, by assumption⟩]; exact lX10_readPlay9 hT hz hc hu hhu (exY Y.n.1).1 (by rw [Sm.ex.1 15 rfl, Sm.rf.ne.1 15 rfl]; exact h15))
    | (rw [if_neg (fun q => by first | exact absurd q.1 (by assumption) | exact absurd q.2 (by assumption) | omega)]; exact lX10_readPlay9 hT hz hc hu hhu Y h15)
  · refine TGo.al0 dX10_readPlay_235 rfl ?_
    refine TGo.ldc2 294 dX10_readPlay_236 q2271 (by decide) ?_
    refine TGo.cF (csV1 (y2 := mX10_isWord) (t := 18) 1 rfl (hT 0 (by decide)) rfl rfl dX10_readPlay_239 q2191 q2193 qs53 okX10_isWord npX10_isWord rfl rfl) (qX10_isWordT hT hz Y.yt (by omega)) ?_
    refine TGo.ifb_eq 254 dX10_readPlay_242 (by decide) (fun h242 => ?_) (fun h242 => ?_)
    · unfold rl4
      first
      | (rw [if_pos ⟨by omega, by assumption⟩]; exact lX10_readPlay9 hT hz hc hu hhu (exY Y.n.1).1 (by rw [Sm.ex.1 15 rfl, Sm.rf.ne.1 15 rfl]; exact h15))
      | (rw [if_neg (fun q => by first | exact absurd q.1 (by assumption) | exact absurd q.2 (by assumption) | omega)]; exact lX10_readPlay9 hT hz hc hu hhu Y h15)
    · refine TGo.al0 dX10_readPlay_245 rfl ?_
      refine TGo.cN (csV0 (y2 := mX10_next) (t := 18) 2 rfl (hT 0 (by decide)) rfl rfl dX10_readPlay_246 q2170 q2172 qs51 okX10_next npX10_next rfl rfl) (kX10_next hT hz Y.yt.1 (by omega)) (fun V246 hz246 => ?_)
      refine TGo.al0 dX10_readPlay_249 rfl ?_
      refine TGo.ic1 dX10_readPlay_250 ?_
      refine TGo.cN (csV1 (y2 := mX10_readExpression) (t := 18) 7 rfl (hT 0 (by decide)) rfl rfl dX10_readPlay_251 q2201 q2203 qs55 okX10_readExpression npX10_readExpression rfl rfl) (kX10_readExprV hT hz246 Y.n.1 h15 (by first | exact Or.inl rfl | exact Or.inr rfl)) (fun V251 hz251 => ?_)
      unfold rl4
      first
      | (rw [if_pos ⟨by omega, by assumption⟩]; exact lX10_readPlay9 hT hz251 hc hu hhu (exY Y.n.1).1 (by rw [Sm.ex.1 15 rfl, Sm.rf.ne.1 15 rfl]; exact h15))
      | (rw [if_neg (fun q => by first | exact absurd q.1 (by assumption) | exact absurd q.2 (by assumption) | omega)]; exact lX10_readPlay9 hT hz251 hc hu hhu Y h15)
set_option maxHeartbeats 4000000 in
theorem lX10_readPlay7 {E : ET} {sh : SHT} {nn : Nat × Nat} {T : Nat} {z : ZT} {V : VT} {c : Int} (hT : MSh T sh) (hz : PZ T V z) (hc : 0 ≤ c ∧ c ≤ 110) (hu : Int) (hhu : hu = 0 ∨ hu = 1) (Y : YV z) (h15 : z.1 15 = 0 ∨ z.1 15 = 1) : TGo E mX10_readPlay 8 216 [some (.ref T), some (.int (iI c)), some (.int (iI hu))] [] sh nn V (ZPN T sh nn (ry9 c (rl4 (ry8 c z)))) := by
  have hb := Y.b
  refine TGo.al0 dX10_readPlay_216 rfl ?_
  refine TGo.getS (t := 18) 35 35 (T + 16) (hT 0 (by decide)) rfl fgX10_85_10 dX10_readPlay_217 rfl rfl rfl ?_
  refine TGo.il1 dX10_readPlay_220 rfl ?_
  refine TGo.ic5 dX10_readPlay_221 ?_
  refine TGo.iadd dX10_readPlay_222 ?_
  refine TGo.al0 dX10_readPlay_223 rfl ?_
  refine TGo.getI (t := 18) 18 18 (hT 0 (by decide)) rfl fgX10_288_10 dX10_readPlay_224 rfl rfl rfl ?_
  refine TGo.toz _ (hz.1 18 rfl) ?_
  refine TGo.iast dX10_readPlay_227 (hT 16 (by decide)) (by omega) rfl ?_
  exact lX10_readPlay8 hT (hz.a 35 rfl rfl) hc hu hhu (Y.a rfl) h15
set_option maxHeartbeats 4000000 in
theorem lX10_readPlay6 {E : ET} {sh : SHT} {nn : Nat × Nat} {T : Nat} {z : ZT} {V : VT} {c : Int} (hT : MSh T sh) (hz : PZ T V z) (hc : 0 ≤ c ∧ c ≤ 110) (hu : Int) (hhu : hu = 0 ∨ hu = 1) (Y : YV z) (h15 : z.1 15 = 0 ∨ z.1 15 = 1) : TGo E mX10_readPlay 8 186 [some (.ref T), some (.int (iI c)), some (.int (iI hu))] [] sh nn V (ZPN T sh nn (ry9 c (rl4 (ry8 c (ry7 hu z))))) := by
  have hb := Y.b
  refine TGo.al0 dX10_readPlay_186 rfl ?_
  refine TGo.getI (t := 18) 14 14 (hT 0 (by decide)) rfl fgX10_249_10 dX10_readPlay_187 rfl rfl rfl ?_
  refine TGo.toz _ (hz.1 14 rfl) ?_
  refine TGo.if_ne 216 dX10_readPlay_190 (by decide) (by omega) (fun h190 => ?_) (fun h190 => ?_)
  · unfold ry7
    first
    | (rw [if_pos ⟨by omega, by omega, by assumption⟩]; exact lX10_readPlay7 hT hz hc hu hhu (exY Y.n.1).1 (by rw [Sm.ex.1 15 rfl, Sm.rf.ne.1 15 rfl]; exact h15))
    | (rw [if_neg (fun q => by have q1 := q.1; have q2 := q.2.1; have q3 := q.2.2; first | omega | exact absurd q3 (by assumption))]; exact lX10_readPlay7 hT hz hc hu hhu Y h15)
  · refine TGo.il2 dX10_readPlay_193 rfl ?_
    refine TGo.if_ne 216 dX10_readPlay_194 (by decide) (by omega) (fun h194 => ?_) (fun h194 => ?_)
    · unfold ry7
      first
      | (rw [if_pos ⟨by omega, by omega, by assumption⟩]; exact lX10_readPlay7 hT hz hc hu hhu (exY Y.n.1).1 (by rw [Sm.ex.1 15 rfl, Sm.rf.ne.1 15 rfl]; exact h15))
      | (rw [if_neg (fun q => by have q1 := q.1; have q2 := q.2.1; have q3 := q.2.2; first | omega | exact absurd q3 (by assumption))]; exact lX10_readPlay7 hT hz hc hu hhu Y h15)
    · refine TGo.al0 dX10_readPlay_197 rfl ?_
      refine TGo.ldc2 239 dX10_readPlay_198 q2339 (by decide) ?_
      refine TGo.cF (csV1 (y2 := mX10_isWord) (t := 18) 1 rfl (hT 0 (by decide)) rfl rfl dX10_readPlay_201 q2191 q2193 qs53 okX10_isWord npX10_isWord rfl rfl) (qX10_isWordT hT hz Y.yt (by omega)) ?_
      refine TGo.ifb_eq 216 dX10_readPlay_204 (by decide) (fun h204 => ?_) (fun h204 => ?_)
      · unfold ry7
        first
        | (rw [if_pos ⟨by omega, by omega, by assumption⟩]; exact lX10_readPlay7 hT hz hc hu hhu (exY Y.n.1).1 (by rw [Sm.ex.1 15 rfl, Sm.rf.ne.1 15 rfl]; exact h15))
        | (rw [if_neg (fun q => by have q1 := q.1; have q2 := q.2.1; have q3 := q.2.2; first | omega | exact absurd q3 (by assumption))]; exact lX10_readPlay7 hT hz hc hu hhu Y h15)
      · refine TGo.al0 dX10_readPlay_207 rfl ?_
        refine TGo.cN (csV0 (y2 := mX10_next) (t := 18) 2 rfl (hT 0 (by decide)) rfl rfl dX10_readPlay_208 q2170 q2172 qs51 okX10_next npX10_next rfl rfl) (kX10_next hT hz Y.yt.1 (by omega)) (fun V208 hz208 => ?_)
        refine TGo.al0 dX10_readPlay_211 rfl ?_
        refine TGo.ic0 dX10_readPlay_212 ?_
        refine TGo.cN (csV1 (y2 := mX10_readExpression) (t := 18) 7 rfl (hT 0 (by decide)) rfl rfl dX10_readPlay_213 q2201 q2203 qs55 okX10_readExpression npX10_readExpression rfl rfl) (kX10_readExprV hT hz208 Y.n.1 h15 (by first | exact Or.inl rfl | exact Or.inr rfl)) (fun V213 hz213 => ?_)
        unfold ry7
        first
        | (rw [if_pos ⟨by omega, by omega, by assumption⟩]; exact lX10_readPlay7 hT hz213 hc hu hhu (exY Y.n.1).1 (by rw [Sm.ex.1 15 rfl, Sm.rf.ne.1 15 rfl]; exact h15))
        | (rw [if_neg (fun q => by have q1 := q.1; have q2 := q.2.1; have q3 := q.2.2; first | omega | exact absurd q3 (by assumption))]; exact lX10_readPlay7 hT hz213 hc hu hhu Y h15)
set_option maxHeartbeats 4000000 in
theorem lX10_readPlay5 {E : ET} {sh : SHT} {nn : Nat × Nat} {T : Nat} {z : ZT} {V : VT} {c : Int} (hT : MSh T sh) (hz : PZ T V z) (hc : 0 ≤ c ∧ c ≤ 110) (hu : Int) (hhu : hu = 0 ∨ hu = 1) (Y : YV z) (h15 : z.1 15 = 0 ∨ z.1 15 = 1) : TGo E mX10_readPlay 8 174 [some (.ref T), some (.int (iI c)), some (.int (iI hu))] [] sh nn V (ZPN T sh nn (ry9 c (rl4 (ry8 c (ry7 hu (ry6 c z)))))) := by
  have hb := Y.b
  refine TGo.al0 dX10_readPlay_174 rfl ?_
  refine TGo.getS (t := 18) 35 35 (T + 16) (hT 0 (by decide)) rfl fgX10_85_10 dX10_readPlay_175 rfl rfl rfl ?_
  refine TGo.il1 dX10_readPlay_178 rfl ?_
  refine TGo.ic4 dX10_readPlay_179 ?_
  refine TGo.iadd dX10_readPlay_180 ?_
  refine TGo.al0 dX10_readPlay_181 rfl ?_
  refine TGo.getI (t := 18) 18 18 (hT 0 (by decide)) rfl fgX10_288_10 dX10_readPlay_182 rfl rfl rfl ?_
  refine TGo.toz _ (hz.1 18 rfl) ?_
  refine TGo.iast dX10_readPlay_185 (hT 16 (by decide)) (by omega) rfl ?_
  exact lX10_readPlay6 hT (hz.a 35 rfl rfl) hc hu hhu (Y.a rfl) h15
set_option maxHeartbeats 4000000 in
theorem lX10_readPlay4 {E : ET} {sh : SHT} {nn : Nat × Nat} {T : Nat} {z : ZT} {V : VT} {c : Int} (hT : MSh T sh) (hz : PZ T V z) (hc : 0 ≤ c ∧ c ≤ 110) (hu : Int) (hhu : hu = 0 ∨ hu = 1) (Y : YV z) (h15 : z.1 15 = 0 ∨ z.1 15 = 1) : TGo E mX10_readPlay 8 158 [some (.ref T), some (.int (iI c)), some (.int (iI hu))] [] sh nn V (ZPN T sh nn (ryE c hu z)) := by
  have hb := Y.b
  refine TGo.al0 dX10_readPlay_158 rfl ?_
  refine TGo.getI (t := 18) 14 14 (hT 0 (by decide)) rfl fgX10_249_10 dX10_readPlay_159 rfl rfl rfl ?_
  refine TGo.toz _ (hz.1 14 rfl) ?_
  refine TGo.if_ne 174 dX10_readPlay_162 (by decide) (by omega) (fun h162 => ?_) (fun h162 => ?_)
  · unfold ryE ry5
    first
    | (rw [if_pos ⟨by omega, by omega⟩]; exact lX10_readPlay5 hT hz hc hu hhu (exY Y).1 (by rw [Sm.ex.1 15 rfl]; exact h15))
    | (rw [if_neg (by omega)]; exact lX10_readPlay5 hT hz hc hu hhu Y h15)
  · refine TGo.il2 dX10_readPlay_165 rfl ?_
    refine TGo.if_ne 174 dX10_readPlay_166 (by decide) (by omega) (fun h166 => ?_) (fun h166 => ?_)
    · unfold ryE ry5
      first
      | (rw [if_pos ⟨by omega, by omega⟩]; exact lX10_readPlay5 hT hz hc hu hhu (exY Y).1 (by rw [Sm.ex.1 15 rfl]; exact h15))
      | (rw [if_neg (by omega)]; exact lX10_readPlay5 hT hz hc hu hhu Y h15)
    · refine TGo.al0 dX10_readPlay_169 rfl ?_
      refine TGo.ic0 dX10_readPlay_170 ?_
      refine TGo.cN (csV1 (y2 := mX10_readExpression) (t := 18) 7 rfl (hT 0 (by decide)) rfl rfl dX10_readPlay_171 q2201 q2203 qs55 okX10_readExpression npX10_readExpression rfl rfl) (kX10_readExprV hT hz Y h15 (by first | exact Or.inl rfl | exact Or.inr rfl)) (fun V171 hz171 => ?_)
      unfold ryE ry5
      first
      | (rw [if_pos ⟨by omega, by omega⟩]; exact lX10_readPlay5 hT hz171 hc hu hhu (exY Y).1 (by rw [Sm.ex.1 15 rfl]; exact h15))
      | (rw [if_neg (by omega)]; exact lX10_readPlay5 hT hz171 hc hu hhu Y h15)
set_option maxHeartbeats 4000000 in
theorem lX10_readPlay3 {E : ET} {sh : SHT} {nn : Nat × Nat} {T : Nat} {z : ZT} {V : VT} {c : Int} (hT : MSh T sh) (hz : PZ T V z) (hc : 0 ≤ c ∧ c ≤ 110) (Y : YV z) (h15 : z.1 15 = 0 ∨ z.1 15 = 1) : TGo E mX10_readPlay 8 98 [some (.ref T), some (.int (iI c)), none] [] sh nn V (ZPN T sh nn (ryM c z)) := by
  have hb := Y.b
  have hbz := bZ_or (wdA z 284264)
  refine TGo.al0 dX10_readPlay_98 rfl ?_
  refine TGo.ldc2 284264 dX10_readPlay_99 q2337 (by decide) ?_
  refine TGo.cF (csV1 (y2 := mX10_isWord) (t := 18) 1 rfl (hT 0 (by decide)) rfl rfl dX10_readPlay_102 q2191 q2193 qs53 okX10_isWord npX10_isWord rfl rfl) (qX10_isWordT hT hz Y.yt (by omega)) ?_
  refine TGo.is2 dX10_readPlay_105 rfl rfl ?_
  refine TGo.al0 dX10_readPlay_106 rfl ?_
  refine TGo.il2 dX10_readPlay_107 rfl ?_
  refine TGo.ifb_ne 121 dX10_readPlay_108 (by decide) (fun h108 => ?_) (fun h108 => ?_)
  · refine TGo.ic1 dX10_readPlay_121 ?_
    refine TGo.goto 126 dX10_readPlay_122 (by decide) ?_
    refine TGo.toz (bZ (bZ (wdA z 284264) ≠ 0 ∨ wdA z 19513)) (by first | exact (bZ_t (Or.inl (by rw [bZ_t (by assumption)]; decide))).symm | exact (bZ_t (Or.inr (by assumption))).symm | exact (bZ_f (fun q => by rcases q with q | q; exact q (bZ_f (by assumption)); exact absurd q (by assumption))).symm) ?_
    refine TGo.cN (csV1 (y2 := mX10_must) (t := 18) 3 rfl (hT 0 (by decide)) rfl rfl dX10_readPlay_126 q2197 q2199 qs54 okX10_must npX10_must rfl rfl) (kX10_mustT hT hz Y.yt (by first | exact Or.inl rfl | exact Or.inr rfl | exact bZ_or _ | assumption)) (fun V126 hz126 => ?_)
    refine TGo.al0 dX10_readPlay_129 rfl ?_
    refine TGo.getS (t := 18) 35 35 (T + 16) (hT 0 (by decide)) rfl fgX10_85_10 dX10_readPlay_130 rfl rfl rfl ?_
    refine TGo.il1 dX10_readPlay_133 rfl ?_
    refine TGo.ic2 dX10_readPlay_134 ?_
    refine TGo.iadd dX10_readPlay_135 ?_
    refine TGo.il2 dX10_readPlay_136 rfl ?_
    refine TGo.ifb_eq 144 dX10_readPlay_137 (by decide) (fun h137 => ?_) (fun h137 => ?_)
    · refine TGo.ic0 dX10_readPlay_144 ?_
      refine TGo.toz (bZ (wdA z 284264)) (by first | exact (bZ_t (by assumption)).symm | exact (bZ_f (by assumption)).symm) ?_
      refine TGo.iast dX10_readPlay_145 (hT 16 (by decide)) (by omega) rfl ?_
      refine TGo.al0 dX10_readPlay_146 rfl ?_
      refine TGo.getS (t := 18) 35 35 (T + 16) (hT 0 (by decide)) rfl fgX10_85_10 dX10_readPlay_147 rfl rfl rfl ?_
      refine TGo.il1 dX10_readPlay_150 rfl ?_
      refine TGo.ic3 dX10_readPlay_151 ?_
      refine TGo.iadd dX10_readPlay_152 ?_
      refine TGo.al0 dX10_readPlay_153 rfl ?_
      refine TGo.getI (t := 18) 18 18 (hT 0 (by decide)) rfl fgX10_288_10 dX10_readPlay_154 rfl rfl rfl ?_
      refine TGo.toz _ ((u2_n (Or.inl (by omega))).trans (hz126.1 18 rfl)) ?_
      refine TGo.iast dX10_readPlay_157 (hT 16 (by decide)) (by omega) rfl ?_
      exact lX10_readPlay4 hT ((hz126.a 35 rfl rfl).a 35 rfl rfl) hc _ hbz (((Y.m).1.a rfl).a rfl) (by rw [show (za (za (muZ z (bZ (bZ (wdA z 284264) ≠ 0 ∨ wdA z 19513))) 35 (c + 2) (bZ (wdA z 284264))) 35 (c + 3) ((muZ z (bZ (bZ (wdA z 284264) ≠ 0 ∨ wdA z 19513))).1 18)).1 15 = z.1 15 from Sm.rf.mu.1 15 rfl]; exact h15)
    · refine TGo.ic1 dX10_readPlay_140 ?_
      refine TGo.goto 145 dX10_readPlay_141 (by decide) ?_
      refine TGo.toz (bZ (wdA z 284264)) (by first | exact (bZ_t (by assumption)).symm | exact (bZ_f (by assumption)).symm) ?_
      refine TGo.iast dX10_readPlay_145 (hT 16 (by decide)) (by omega) rfl ?_
      refine TGo.al0 dX10_readPlay_146 rfl ?_
      refine TGo.getS (t := 18) 35 35 (T + 16) (hT 0 (by decide)) rfl fgX10_85_10 dX10_readPlay_147 rfl rfl rfl ?_
      refine TGo.il1 dX10_readPlay_150 rfl ?_
      refine TGo.ic3 dX10_readPlay_151 ?_
      refine TGo.iadd dX10_readPlay_152 ?_
      refine TGo.al0 dX10_readPlay_153 rfl ?_
      refine TGo.getI (t := 18) 18 18 (hT 0 (by decide)) rfl fgX10_288_10 dX10_readPlay_154 rfl rfl rfl ?_
      refine TGo.toz _ ((u2_n (Or.inl (by omega))).trans (hz126.1 18 rfl)) ?_
      refine TGo.iast dX10_readPlay_157 (hT 16 (by decide)) (by omega) rfl ?_
      exact lX10_readPlay4 hT ((hz126.a 35 rfl rfl).a 35 rfl rfl) hc _ hbz (((Y.m).1.a rfl).a rfl) (by rw [show (za (za (muZ z (bZ (bZ (wdA z 284264) ≠ 0 ∨ wdA z 19513))) 35 (c + 2) (bZ (wdA z 284264))) 35 (c + 3) ((muZ z (bZ (bZ (wdA z 284264) ≠ 0 ∨ wdA z 19513))).1 18)).1 15 = z.1 15 from Sm.rf.mu.1 15 rfl]; exact h15)
  · refine TGo.al0 dX10_readPlay_111 rfl ?_
    refine TGo.ldc2 19513 dX10_readPlay_112 q2338 (by decide) ?_
    refine TGo.cF (csV1 (y2 := mX10_isWord) (t := 18) 1 rfl (hT 0 (by decide)) rfl rfl dX10_readPlay_115 q2191 q2193 qs53 okX10_isWord npX10_isWord rfl rfl) (qX10_isWordT hT hz Y.yt (by omega)) ?_
    refine TGo.ifb_eq 125 dX10_readPlay_118 (by decide) (fun h118 => ?_) (fun h118 => ?_)
    · refine TGo.ic0 dX10_readPlay_125 ?_
      refine TGo.toz (bZ (bZ (wdA z 284264) ≠ 0 ∨ wdA z 19513)) (by first | exact (bZ_t (Or.inl (by rw [bZ_t (by assumption)]; decide))).symm | exact (bZ_t (Or.inr (by assumption))).symm | exact (bZ_f (fun q => by rcases q with q | q; exact q (bZ_f (by assumption)); exact absurd q (by assumption))).symm) ?_
      refine TGo.cN (csV1 (y2 := mX10_must) (t := 18) 3 rfl (hT 0 (by decide)) rfl rfl dX10_readPlay_126 q2197 q2199 qs54 okX10_must npX10_must rfl rfl) (kX10_mustT hT hz Y.yt (by first | exact Or.inl rfl | exact Or.inr rfl | exact bZ_or _ | assumption)) (fun V126 hz126 => ?_)
      refine TGo.al0 dX10_readPlay_129 rfl ?_
      refine TGo.getS (t := 18) 35 35 (T + 16) (hT 0 (by decide)) rfl fgX10_85_10 dX10_readPlay_130 rfl rfl rfl ?_
      refine TGo.il1 dX10_readPlay_133 rfl ?_
      refine TGo.ic2 dX10_readPlay_134 ?_
      refine TGo.iadd dX10_readPlay_135 ?_
      refine TGo.il2 dX10_readPlay_136 rfl ?_
      refine TGo.ifb_eq 144 dX10_readPlay_137 (by decide) (fun h137 => ?_) (fun h137 => ?_)
      · refine TGo.ic0 dX10_readPlay_144 ?_
        refine TGo.toz (bZ (wdA z 284264)) (by first | exact (bZ_t (by assumption)).symm | exact (bZ_f (by assumption)).symm) ?_
        refine TGo.iast dX10_readPlay_145 (hT 16 (by decide)) (by omega) rfl ?_
        refine TGo.al0 dX10_readPlay_146 rfl ?_
        refine TGo.getS (t := 18) 35 35 (T + 16) (hT 0 (by decide)) rfl fgX10_85_10 dX10_readPlay_147 rfl rfl rfl ?_
        refine TGo.il1 dX10_readPlay_150 rfl ?_
        refine TGo.ic3 dX10_readPlay_151 ?_
        refine TGo.iadd dX10_readPlay_152 ?_
        refine TGo.al0 dX10_readPlay_153 rfl ?_
        refine TGo.getI (t := 18) 18 18 (hT 0 (by decide)) rfl fgX10_288_10 dX10_readPlay_154 rfl rfl rfl ?_
        refine TGo.toz _ ((u2_n (Or.inl (by omega))).trans (hz126.1 18 rfl)) ?_
        refine TGo.iast dX10_readPlay_157 (hT 16 (by decide)) (by omega) rfl ?_
        exact lX10_readPlay4 hT ((hz126.a 35 rfl rfl).a 35 rfl rfl) hc _ hbz (((Y.m).1.a rfl).a rfl) (by rw [show (za (za (muZ z (bZ (bZ (wdA z 284264) ≠ 0 ∨ wdA z 19513))) 35 (c + 2) (bZ (wdA z 284264))) 35 (c + 3) ((muZ z (bZ (bZ (wdA z 284264) ≠ 0 ∨ wdA z 19513))).1 18)).1 15 = z.1 15 from Sm.rf.mu.1 15 rfl]; exact h15)
      · refine TGo.ic1 dX10_readPlay_140 ?_
        refine TGo.goto 145 dX10_readPlay_141 (by decide) ?_
        refine TGo.toz (bZ (wdA z 284264)) (by first | exact (bZ_t (by assumption)).symm | exact (bZ_f (by assumption)).symm) ?_
        refine TGo.iast dX10_readPlay_145 (hT 16 (by decide)) (by omega) rfl ?_
        refine TGo.al0 dX10_readPlay_146 rfl ?_
        refine TGo.getS (t := 18) 35 35 (T + 16) (hT 0 (by decide)) rfl fgX10_85_10 dX10_readPlay_147 rfl rfl rfl ?_
        refine TGo.il1 dX10_readPlay_150 rfl ?_
        refine TGo.ic3 dX10_readPlay_151 ?_
        refine TGo.iadd dX10_readPlay_152 ?_
        refine TGo.al0 dX10_readPlay_153 rfl ?_
        refine TGo.getI (t := 18) 18 18 (hT 0 (by decide)) rfl fgX10_288_10 dX10_readPlay_154 rfl rfl rfl ?_
        refine TGo.toz _ ((u2_n (Or.inl (by omega))).trans (hz126.1 18 rfl)) ?_
        refine TGo.iast dX10_readPlay_157 (hT 16 (by decide)) (by omega) rfl ?_
        exact lX10_readPlay4 hT ((hz126.a 35 rfl rfl).a 35 rfl rfl) hc _ hbz (((Y.m).1.a rfl).a rfl) (by rw [show (za (za (muZ z (bZ (bZ (wdA z 284264) ≠ 0 ∨ wdA z 19513))) 35 (c + 2) (bZ (wdA z 284264))) 35 (c + 3) ((muZ z (bZ (bZ (wdA z 284264) ≠ 0 ∨ wdA z 19513))).1 18)).1 15 = z.1 15 from Sm.rf.mu.1 15 rfl]; exact h15)
    · refine TGo.ic1 dX10_readPlay_121 ?_
      refine TGo.goto 126 dX10_readPlay_122 (by decide) ?_
      refine TGo.toz (bZ (bZ (wdA z 284264) ≠ 0 ∨ wdA z 19513)) (by first | exact (bZ_t (Or.inl (by rw [bZ_t (by assumption)]; decide))).symm | exact (bZ_t (Or.inr (by assumption))).symm | exact (bZ_f (fun q => by rcases q with q | q; exact q (bZ_f (by assumption)); exact absurd q (by assumption))).symm) ?_
      refine TGo.cN (csV1 (y2 := mX10_must) (t := 18) 3 rfl (hT 0 (by decide)) rfl rfl dX10_readPlay_126 q2197 q2199 qs54 okX10_must npX10_must rfl rfl) (kX10_mustT hT hz Y.yt (by first | exact Or.inl rfl | exact Or.inr rfl | exact bZ_or _ | assumption)) (fun V126 hz126 => ?_)
      refine TGo.al0 dX10_readPlay_129 rfl ?_
      refine TGo.getS (t := 18) 35 35 (T + 16) (hT 0 (by decide)) rfl fgX10_85_10 dX10_readPlay_130 rfl rfl rfl ?_
      refine TGo.il1 dX10_readPlay_133 rfl ?_
      refine TGo.ic2 dX10_readPlay_134 ?_
      refine TGo.iadd dX10_readPlay_135 ?_
      refine TGo.il2 dX10_readPlay_136 rfl ?_
      refine TGo.ifb_eq 144 dX10_readPlay_137 (by decide) (fun h137 => ?_) (fun h137 => ?_)
      · refine TGo.ic0 dX10_readPlay_144 ?_
        refine TGo.toz (bZ (wdA z 284264)) (by first | exact (bZ_t (by assumption)).symm | exact (bZ_f (by assumption)).symm) ?_
        refine TGo.iast dX10_readPlay_145 (hT 16 (by decide)) (by omega) rfl ?_
        refine TGo.al0 dX10_readPlay_146 rfl ?_
        refine TGo.getS (t := 18) 35 35 (T + 16) (hT 0 (by decide)) rfl fgX10_85_10 dX10_readPlay_147 rfl rfl rfl ?_
        refine TGo.il1 dX10_readPlay_150 rfl ?_
        refine TGo.ic3 dX10_readPlay_151 ?_
        refine TGo.iadd dX10_readPlay_152 ?_
        refine TGo.al0 dX10_readPlay_153 rfl ?_
        refine TGo.getI (t := 18) 18 18 (hT 0 (by decide)) rfl fgX10_288_10 dX10_readPlay_154 rfl rfl rfl ?_
        refine TGo.toz _ ((u2_n (Or.inl (by omega))).trans (hz126.1 18 rfl)) ?_
        refine TGo.iast dX10_readPlay_157 (hT 16 (by decide)) (by omega) rfl ?_
        exact lX10_readPlay4 hT ((hz126.a 35 rfl rfl).a 35 rfl rfl) hc _ hbz (((Y.m).1.a rfl).a rfl) (by rw [show (za (za (muZ z (bZ (bZ (wdA z 284264) ≠ 0 ∨ wdA z 19513))) 35 (c + 2) (bZ (wdA z 284264))) 35 (c + 3) ((muZ z (bZ (bZ (wdA z 284264) ≠ 0 ∨ wdA z 19513))).1 18)).1 15 = z.1 15 from Sm.rf.mu.1 15 rfl]; exact h15)
      · refine TGo.ic1 dX10_readPlay_140 ?_
        refine TGo.goto 145 dX10_readPlay_141 (by decide) ?_
        refine TGo.toz (bZ (wdA z 284264)) (by first | exact (bZ_t (by assumption)).symm | exact (bZ_f (by assumption)).symm) ?_
        refine TGo.iast dX10_readPlay_145 (hT 16 (by decide)) (by omega) rfl ?_
        refine TGo.al0 dX10_readPlay_146 rfl ?_
        refine TGo.getS (t := 18) 35 35 (T + 16) (hT 0 (by decide)) rfl fgX10_85_10 dX10_readPlay_147 rfl rfl rfl ?_
        refine TGo.il1 dX10_readPlay_150 rfl ?_
        refine TGo.ic3 dX10_readPlay_151 ?_
        refine TGo.iadd dX10_readPlay_152 ?_
        refine TGo.al0 dX10_readPlay_153 rfl ?_
        refine TGo.getI (t := 18) 18 18 (hT 0 (by decide)) rfl fgX10_288_10 dX10_readPlay_154 rfl rfl rfl ?_
        refine TGo.toz _ ((u2_n (Or.inl (by omega))).trans (hz126.1 18 rfl)) ?_
        refine TGo.iast dX10_readPlay_157 (hT 16 (by decide)) (by omega) rfl ?_
        exact lX10_readPlay4 hT ((hz126.a 35 rfl rfl).a 35 rfl rfl) hc _ hbz (((Y.m).1.a rfl).a rfl) (by rw [show (za (za (muZ z (bZ (bZ (wdA z 284264) ≠ 0 ∨ wdA z 19513))) 35 (c + 2) (bZ (wdA z 284264))) 35 (c + 3) ((muZ z (bZ (bZ (wdA z 284264) ≠ 0 ∨ wdA z 19513))).1 18)).1 15 = z.1 15 from Sm.rf.mu.1 15 rfl]; exact h15)
set_option maxHeartbeats 4000000 in
theorem lX10_readPlay2 {E : ET} {sh : SHT} {nn : Nat × Nat} {T : Nat} {z : ZT} {V : VT} {c : Int} (hT : MSh T sh) (hz : PZ T V z) (hc : 0 ≤ c ∧ c ≤ 110) (Y : YV z) (h15 : z.1 15 = 0 ∨ z.1 15 = 1) : TGo E mX10_readPlay 8 64 [some (.ref T), some (.int (iI c)), none] [] sh nn V (ZPN T sh nn (ryM c (ry3 c (ry2 z)))) := by
  have hb := Y.b
  have hM := Y.m (b := bZ (wdA z 52))
  have hMb := hM.1.b
  refine TGo.al0 dX10_readPlay_64 rfl ?_
  refine TGo.al0 dX10_readPlay_65 rfl ?_
  refine TGo.ldc2 52 dX10_readPlay_66 q2336 (by decide) ?_
  refine TGo.cF (csV1 (y2 := mX10_isWord) (t := 18) 1 rfl (hT 0 (by decide)) rfl rfl dX10_readPlay_69 q2191 q2193 qs53 okX10_isWord npX10_isWord rfl rfl) (qX10_isWordT hT hz Y.yt (by omega)) ?_
  refine TGo.cN (csV1 (y2 := mX10_must) (t := 18) 3 rfl (hT 0 (by decide)) rfl rfl dX10_readPlay_72 q2197 q2199 qs54 okX10_must npX10_must rfl rfl) (kX10_mustT hT hz Y.yt (by first | exact Or.inl rfl | exact Or.inr rfl | exact bZ_or _ | assumption)) (fun V72 hz72 => ?_)
  refine TGo.al0 dX10_readPlay_75 rfl ?_
  refine TGo.getS (t := 18) 35 35 (T + 16) (hT 0 (by decide)) rfl fgX10_85_10 dX10_readPlay_76 rfl rfl rfl ?_
  refine TGo.il1 dX10_readPlay_79 rfl ?_
  refine TGo.ic1 dX10_readPlay_80 ?_
  refine TGo.iadd dX10_readPlay_81 ?_
  refine TGo.al0 dX10_readPlay_82 rfl ?_
  refine TGo.getI (t := 18) 14 14 (hT 0 (by decide)) rfl fgX10_249_10 dX10_readPlay_83 rfl rfl rfl ?_
  refine TGo.toz _ (hz72.1 14 rfl) ?_
  refine TGo.if_eq 93 dX10_readPlay_86 (by decide) (by omega) (fun h86 => ?_) (fun h86 => ?_)
  · refine TGo.al0 dX10_readPlay_93 rfl ?_
    refine TGo.cS (csV0 (y2 := mX10_readPlace) (t := 18) 5 rfl (hT 0 (by decide)) rfl rfl dX10_readPlay_94 q2327 q2329 qs79 okX10_readPlace npX10_readPlace rfl rfl) (kX10_readPlace hT hz72 hM.1.yt) (fun v94 V94 h94 => ?_)
    obtain ⟨rfl, hz94⟩ := h94
    refine TGo.iast dX10_readPlay_97 (hT 16 (by decide)) (by omega) rfl ?_
    unfold ry3
    have e15 : (ry2 z).1 15 = z.1 15 := Sm.rf.mu.1 15 rfl
    have M : YV (ry2 z) := Y.m.1
    have Q : YG (ry2 z) (rq (c + 1) (ry2 z)) := YG.q (YG.rf M)
    first
    | (rw [if_pos (show (ry2 z).1 14 = 0 by assumption)]; exact lX10_readPlay3 hT (hz94.a 35 rfl rfl) hc Q.1 (by rw [Q.2.2.1, e15]; exact h15))
    | (rw [if_neg (show ¬ (ry2 z).1 14 = 0 by assumption)]; exact lX10_readPlay3 hT (hz94.a 35 rfl rfl) hc (M.a rfl) (by rw [show (za (ry2 z) 35 (c + 1) 0).1 15 = z.1 15 from e15]; exact h15))
  · refine TGo.ic0 dX10_readPlay_89 ?_
    refine TGo.goto 97 dX10_readPlay_90 (by decide) ?_
    refine TGo.iast dX10_readPlay_97 (hT 16 (by decide)) (by omega) rfl ?_
    unfold ry3
    have e15 : (ry2 z).1 15 = z.1 15 := Sm.rf.mu.1 15 rfl
    have M : YV (ry2 z) := Y.m.1
    have Q : YG (ry2 z) (rq (c + 1) (ry2 z)) := YG.q (YG.rf M)
    first
    | (rw [if_pos (show (ry2 z).1 14 = 0 by assumption)]; exact lX10_readPlay3 hT (hz72.a 35 rfl rfl) hc Q.1 (by rw [Q.2.2.1, e15]; exact h15))
    | (rw [if_neg (show ¬ (ry2 z).1 14 = 0 by assumption)]; exact lX10_readPlay3 hT (hz72.a 35 rfl rfl) hc (M.a rfl) (by rw [show (za (ry2 z) 35 (c + 1) 0).1 15 = z.1 15 from e15]; exact h15))
set_option maxHeartbeats 4000000 in
theorem lX10_readPlay1 {E : ET} {sh : SHT} {nn : Nat × Nat} {T : Nat} {z : ZT} {V : VT} (hT : MSh T sh) (hz : PZ T V z) (Y : YV z) (h15 : z.1 15 = 0 ∨ z.1 15 = 1) (h12 : z.1 16 < 12) : TGo E mX10_readPlay 8 36 [some (.ref T), none, none] [] sh nn V (ZPN T sh nn (rplX z)) := by
  have hb := Y.b
  have R := YG.r1 Y h12
  have Q := YG.q (c := 10 * z.1 16) R
  refine TGo.bip 10 dX10_readPlay_36 (by decide) ?_
  refine TGo.al0 dX10_readPlay_38 rfl ?_
  refine TGo.getI (t := 18) 16 16 (hT 0 (by decide)) rfl fgX10_374_10 dX10_readPlay_39 rfl rfl rfl ?_
  refine TGo.toz _ (hz.1 16 rfl) ?_
  refine TGo.imul dX10_readPlay_42 ?_
  refine TGo.is1 dX10_readPlay_43 rfl rfl ?_
  refine TGo.al0 dX10_readPlay_44 rfl ?_
  refine TGo.dup dX10_readPlay_45 rfl ?_
  refine TGo.getI (t := 18) 16 16 (hT 0 (by decide)) rfl fgX10_374_10 dX10_readPlay_46 rfl rfl rfl ?_
  refine TGo.toz _ (hz.1 16 rfl) ?_
  refine TGo.ic1 dX10_readPlay_49 ?_
  refine TGo.iadd dX10_readPlay_50 ?_
  refine TGo.putI (t := 18) 16 16 (hT 0 (by decide)) rfl fpX10_374_10 dX10_readPlay_51 rfl rfl rfl ?_
  refine TGo.al0 dX10_readPlay_54 rfl ?_
  refine TGo.getS (t := 18) 35 35 (T + 16) (hT 0 (by decide)) rfl fgX10_85_10 dX10_readPlay_55 rfl rfl rfl ?_
  refine TGo.il1 dX10_readPlay_58 rfl ?_
  refine TGo.al0 dX10_readPlay_59 rfl ?_
  refine TGo.cS (csV0 (y2 := mX10_readPlace) (t := 18) 5 rfl (hT 0 (by decide)) rfl rfl dX10_readPlay_60 q2327 q2329 qs79 okX10_readPlace npX10_readPlace rfl rfl) (kX10_readPlace hT (z := ry1 z) (hz.i rfl) R.1.yt) (fun v60 V60 h60 => ?_)
  obtain ⟨rfl, hz60⟩ := h60
  refine TGo.iast dX10_readPlay_63 (hT 16 (by decide)) (by omega) rfl ?_
  exact lX10_readPlay2 (c := 10 * z.1 16) hT (hz60.a 35 rfl rfl) (by omega) Q.1 (by rw [Q.2.2.1]; exact h15)
set_option maxHeartbeats 4000000 in
theorem kX10_readPlay {E : ET} {sh : SHT} {nn : Nat × Nat} {V : VT} {T : Nat} {z : ZT} (hT : MSh T sh) (hz : PZ T V z) (Y : YV z) (h15 : z.1 15 = 0 ∨ z.1 15 = 1) : TN E mX10_readPlay 8 [.ref T] sh nn V (fun V1 => PZ T V1 (rplZ z)) := by
  have hb := Y.b
  have M := Y.m (b := bZ (wdA z 302 ∧ z.1 16 < 12))
  have Mb := M.1.b
  have S15 : (muZ z (bZ (wdA z 302 ∧ z.1 16 < 12))).1 15 = z.1 15 := Sm.rf.mu.1 15 rfl
  have S16 : (muZ z (bZ (wdA z 302 ∧ z.1 16 < 12))).1 16 = z.1 16 := Sm.rf.mu.1 16 rfl
  refine TC.intro [some (.ref T), none, none] rfl ?_
  refine TGo.al0 dX10_readPlay_0 rfl ?_
  refine TGo.al0 dX10_readPlay_1 rfl ?_
  refine TGo.ldc2 302 dX10_readPlay_2 q2326 (by decide) ?_
  refine TGo.cF (csV1 (y2 := mX10_isWord) (t := 18) 1 rfl (hT 0 (by decide)) rfl rfl dX10_readPlay_5 q2191 q2193 qs53 okX10_isWord npX10_isWord rfl rfl) (qX10_isWordT hT hz Y.yt (by omega)) ?_
  refine TGo.ifb_eq 24 dX10_readPlay_8 (by decide) (fun h8 => ?_) (fun h8 => ?_)
  · refine TGo.ic0 dX10_readPlay_24 ?_
    refine TGo.toz (bZ (wdA z 302 ∧ z.1 16 < 12)) (by first | exact (bZ_t ⟨by assumption, by assumption⟩).symm | exact (bZ_f (fun q => by first | exact absurd q.1 (by assumption) | exact absurd q.2 (by omega))).symm) ?_
    refine TGo.cN (csV1 (y2 := mX10_must) (t := 18) 3 rfl (hT 0 (by decide)) rfl rfl dX10_readPlay_25 q2197 q2199 qs54 okX10_must npX10_must rfl rfl) (kX10_mustT hT hz Y.yt (by first | exact Or.inl rfl | exact Or.inr rfl | exact bZ_or _ | assumption)) (fun V25 hz25 => ?_)
    refine TGo.al0 dX10_readPlay_28 rfl ?_
    refine TGo.getI (t := 18) 14 14 (hT 0 (by decide)) rfl fgX10_249_10 dX10_readPlay_29 rfl rfl rfl ?_
    refine TGo.toz _ (hz25.1 14 rfl) ?_
    refine TGo.if_eq 36 dX10_readPlay_32 (by decide) (by omega) (fun h32 => ?_) (fun h32 => ?_)
    · unfold rplZ rplZ1
      rw [if_pos (show (muZ z (bZ (wdA z 302 ∧ z.1 16 < 12))).1 14 = 0 by omega)]
      obtain ⟨e1, e2, e3⟩ := muZ_ok (z := z) (b := bZ (wdA z 302 ∧ z.1 16 < 12)) (by omega)
      have hc : wdA z 302 ∧ z.1 16 < 12 := Classical.byContradiction (fun c => e2 (bZ_f c))
      exact lX10_readPlay1 hT hz25 M.1 (by rw [S15]; exact h15) (by omega)
    · refine TGo.vret dX10_readPlay_35 rfl ?_
      first
      | (exfalso; omega)
      | (refine ⟨rfl, rfl, rfl, PZ.eq hz25 ?_⟩
         unfold rplZ rplZ1
         (repeat (first | rw [if_pos (by first | rfl | assumption | omega)] | rw [if_neg (by first | decide | assumption | omega)]))
         (try first | rfl))
  · refine TGo.al0 dX10_readPlay_11 rfl ?_
    refine TGo.getI (t := 18) 16 16 (hT 0 (by decide)) rfl fgX10_374_10 dX10_readPlay_12 rfl rfl rfl ?_
    refine TGo.toz _ (hz.1 16 rfl) ?_
    refine TGo.bip 12 dX10_readPlay_15 (by decide) ?_
    refine TGo.icmp_ge 24 dX10_readPlay_17 (by decide) (by omega) (fun h17 => ?_) (fun h17 => ?_)
    · refine TGo.ic0 dX10_readPlay_24 ?_
      refine TGo.toz (bZ (wdA z 302 ∧ z.1 16 < 12)) (by first | exact (bZ_t ⟨by assumption, by assumption⟩).symm | exact (bZ_f (fun q => by first | exact absurd q.1 (by assumption) | exact absurd q.2 (by omega))).symm) ?_
      refine TGo.cN (csV1 (y2 := mX10_must) (t := 18) 3 rfl (hT 0 (by decide)) rfl rfl dX10_readPlay_25 q2197 q2199 qs54 okX10_must npX10_must rfl rfl) (kX10_mustT hT hz Y.yt (by first | exact Or.inl rfl | exact Or.inr rfl | exact bZ_or _ | assumption)) (fun V25 hz25 => ?_)
      refine TGo.al0 dX10_readPlay_28 rfl ?_
      refine TGo.getI (t := 18) 14 14 (hT 0 (by decide)) rfl fgX10_249_10 dX10_readPlay_29 rfl rfl rfl ?_
      refine TGo.toz _ (hz25.1 14 rfl) ?_
      refine TGo.if_eq 36 dX10_readPlay_32 (by decide) (by omega) (fun h32 => ?_) (fun h32 => ?_)
      · unfold rplZ rplZ1
        rw [if_pos (show (muZ z (bZ (wdA z 302 ∧ z.1 16 < 12))).1 14 = 0 by omega)]
        obtain ⟨e1, e2, e3⟩ := muZ_ok (z := z) (b := bZ (wdA z 302 ∧ z.1 16 < 12)) (by omega)
        have hc : wdA z 302 ∧ z.1 16 < 12 := Classical.byContradiction (fun c => e2 (bZ_f c))
        exact lX10_readPlay1 hT hz25 M.1 (by rw [S15]; exact h15) (by omega)
      · refine TGo.vret dX10_readPlay_35 rfl ?_
        first
        | (exfalso; omega)
        | (refine ⟨rfl, rfl, rfl, PZ.eq hz25 ?_⟩
           unfold rplZ rplZ1
           (repeat (first | rw [if_pos (by first | rfl | assumption | omega)] | rw [if_neg (by first | decide | assumption | omega)]))
           (try first | rfl))
    · refine TGo.ic1 dX10_readPlay_20 ?_
      refine TGo.goto 25 dX10_readPlay_21 (by decide) ?_
      refine TGo.toz (bZ (wdA z 302 ∧ z.1 16 < 12)) (by first | exact (bZ_t ⟨by assumption, by assumption⟩).symm | exact (bZ_f (fun q => by first | exact absurd q.1 (by assumption) | exact absurd q.2 (by omega))).symm) ?_
      refine TGo.cN (csV1 (y2 := mX10_must) (t := 18) 3 rfl (hT 0 (by decide)) rfl rfl dX10_readPlay_25 q2197 q2199 qs54 okX10_must npX10_must rfl rfl) (kX10_mustT hT hz Y.yt (by first | exact Or.inl rfl | exact Or.inr rfl | exact bZ_or _ | assumption)) (fun V25 hz25 => ?_)
      refine TGo.al0 dX10_readPlay_28 rfl ?_
      refine TGo.getI (t := 18) 14 14 (hT 0 (by decide)) rfl fgX10_249_10 dX10_readPlay_29 rfl rfl rfl ?_
      refine TGo.toz _ (hz25.1 14 rfl) ?_
      refine TGo.if_eq 36 dX10_readPlay_32 (by decide) (by omega) (fun h32 => ?_) (fun h32 => ?_)
      · unfold rplZ rplZ1
        rw [if_pos (show (muZ z (bZ (wdA z 302 ∧ z.1 16 < 12))).1 14 = 0 by omega)]
        obtain ⟨e1, e2, e3⟩ := muZ_ok (z := z) (b := bZ (wdA z 302 ∧ z.1 16 < 12)) (by omega)
        have hc : wdA z 302 ∧ z.1 16 < 12 := Classical.byContradiction (fun c => e2 (bZ_f c))
        exact lX10_readPlay1 hT hz25 M.1 (by rw [S15]; exact h15) (by omega)
      · refine TGo.vret dX10_readPlay_35 rfl ?_
        first
        | (exfalso; omega)
        | (refine ⟨rfl, rfl, rfl, PZ.eq hz25 ?_⟩
           unfold rplZ rplZ1
           (repeat (first | rw [if_pos (by first | rfl | assumption | omega)] | rw [if_neg (by first | decide | assumption | omega)]))
           (try first | rfl))
