/-! X: century -/
set_option maxRecDepth 100000
/-- what a century may write -/
def FrY (B : Nat) (V V' : VT) : Prop := (∀ a, a ≠ B → (∀ i, (34 ≤ i ∧ i < 69) → a ≠ B + i) → V'.1 a = V.1 a ∧ V'.2.1 a = V.2.1 a ∧ V'.2.2 a = V.2.2 a) ∧ (∀ k, k ≠ 20 → k ≠ 21 → V'.1 B k = V.1 B k) ∧ V'.2.1 B = V.2.1 B ∧ V'.2.2 B = V.2.2 B
theorem FrY.rf {B : Nat} {V : VT} : FrY B V V := ⟨fun _ _ _ => ⟨rfl, rfl, rfl⟩, fun _ _ _ => rfl, rfl, rfl⟩
theorem FrY.i {B : Nat} {V V' : VT} {k v : Int} (h : FrY B V V') (i : Nat) (hi : 34 ≤ i ∧ i < 69) : FrY B V (vI V' (B + i) k v) := ⟨fun a ha h2 => ⟨(u2_a (h2 i hi)).trans (h.1 a ha h2).1, (h.1 a ha h2).2⟩, fun j j1 j2 => (u2_n (Or.inl (by omega))).trans (h.2.1 j j1 j2), h.2.2⟩
theorem FrY.b {B : Nat} {V V' : VT} {k v : Int} (h : FrY B V V') (hk : k = 20 ∨ k = 21) : FrY B V (vI V' B k v) := ⟨fun a ha h2 => ⟨(u2_a ha).trans (h.1 a ha h2).1, (h.1 a ha h2).2⟩, fun j j1 j2 => (u2_n (Or.inr (by omega))).trans (h.2.1 j j1 j2), h.2.2⟩
theorem FrY.f {B : Nat} {V V1 V' : VT} (h : FrY B V V1) (h2 : ∀ b, b ≠ B + 66 → b ≠ B + 67 → V'.1 b = V1.1 b ∧ V'.2.1 b = V1.2.1 b ∧ V'.2.2 b = V1.2.2 b) : FrY B V V' := by
  have q := h2 B (by omega) (by omega)
  refine ⟨fun a ha h3 => ?_, fun j j1 j2 => by rw [q.1]; exact h.2.1 j j1 j2, q.2.1.trans h.2.2.1, q.2.2.trans h.2.2.2⟩
  have w := h2 a (h3 66 (by omega)) (h3 67 (by omega))
  have w2 := h.1 a ha h3
  exact ⟨w.1.trans w2.1, w.2.1.trans w2.2.1, w.2.2.trans w2.2.2⟩
theorem FrY.t {B : Nat} {V V1 V' : VT} (h : FrY B V V1) (h2 : F36 B V1 V') : FrY B V V' := ⟨fun a ha h3 => ⟨by rw [h2.1]; exact (h.1 a ha h3).1, (h2.2.1 a (h3 36 (by omega))).trans (h.1 a ha h3).2.1, by rw [h2.2.2]; exact (h.1 a ha h3).2.2⟩, fun j j1 j2 => by rw [h2.1]; exact h.2.1 j j1 j2, (h2.2.1 B (by omega)).trans h.2.2.1, by rw [h2.2.2]; exact h.2.2.2⟩
theorem FrY.x {B : Nat} {V V' : VT} (h : FrY B V V') : FrX B V V' := fun a ha => h.1 a (fun e => ha 0 rfl e) (fun i hi => ha i (by
  have key : ∀ j : Nat, j < 69 → 34 ≤ j → xWr j = true := by decide
  exact key i hi.2 hi.1))
theorem XR.cen {ow : Nat → Nat} {sh : SHT} {nn : Nat × Nat} {V V' : VT} {B : Nat} {z : ZT} {d pu : Int → Int} (h : XR ow sh nn V B z) (hf : FrY B V V') (h20 : V'.1 B 20 = z.2 3 1) (hd : ∀ r, 0 ≤ r → r < 36 → V'.1 (B + 66) r = wZ (d r)) (hp : ∀ p, 0 ≤ p → p < 8 → V'.1 (B + 68) p = pu p) : XR ow sh nn V' B (zC z d pu) := by
  have e3 : (zC z d pu).2 3 = z.2 3 := by unfold zC; rw [zA_2 rfl, zA_2 rfl]; rfl
  have e4 : (zC z d pu).2 4 = z.2 4 := by unfold zC; rw [zA_2 rfl, zA_2 rfl]; rfl
  have e5 : (zC z d pu).2 5 = z.2 5 := by unfold zC; rw [zA_2 rfl, zA_2 rfl]; rfl
  refine h.wr0 hf.x ?_ e3 e4 e5
  obtain ⟨⟨n1, n2, n3, n4, n5, n6, n7⟩, s1, s2, s3, s4⟩ := h.2.2.1
  have q : ∀ i, 0 < i → i < 34 → V'.1 (B + i) = V.1 (B + i) ∧ V'.2.2 (B + i) = V.2.2 (B + i) := fun i h0 h1 => by
    have w := hf.1 (B + i) (by omega) (fun j hj => by omega)
    exact ⟨w.1, w.2.2⟩
  refine ⟨⟨fun p hp => (congrFun (q 3 (by omega) (by omega)).2 _).trans (n1 p hp), ?_, fun i i0 i1 => ?_, fun i i0 i1 => ?_, fun i i0 i1 => ?_, fun i i0 i1 => ?_, fun p hp6 hpq r r0 r1 => ?_⟩, ⟨?_, ?_, ?_, ?_, ?_⟩, fun k k0 k1 => ?_, fun i i0 i1 => ?_, fun _ => ⟨fun r r0 r1 => ?_, fun p p0 p1 => ?_⟩⟩
  · rw [(q 2 (by omega) (by omega)).1, e3]; exact n2
  · rw [e3]; exact (congrFun (q 22 (by omega) (by omega)).1 i).trans (n3 i i0 i1)
  · rw [e3]; exact (congrFun (q 23 (by omega) (by omega)).1 i).trans (n4 i i0 i1)
  · rw [e3]; exact (congrFun (q 24 (by omega) (by omega)).1 i).trans (n5 i i0 i1)
  · rw [e3]; exact (congrFun (q 25 (by omega) (by omega)).1 i).trans (n6 i i0 i1)
  · rw [e3] at hpq
    have w := n7 p hp6 hpq r r0 r1
    show _ = wZ ((zC z d pu).2 3 (22 + 36 * p + r)) ∧ ((zC z d pu).2 3 (22 + 36 * p + r) ≠ -1 → _ = nZ ((zC z d pu).2 3 (22 + 36 * p + r)))
    rw [e3]
    rw [show B + 2 + 2 + 3 * p + 1 = B + (5 + 3 * p) by omega, show B + 2 + 2 + 3 * p + 2 = B + (6 + 3 * p) by omega] at w ⊢
    rw [(q (5 + 3 * p) (by omega) (by omega)).1, (q (6 + 3 * p) (by omega) (by omega)).1]; exact w
  · exact (hf.2.1 0 (by decide) (by decide)).trans s1.1
  · exact (hf.2.1 5 (by decide) (by decide)).trans s1.2.1
  · exact (hf.2.1 6 (by decide) (by decide)).trans s1.2.2.1
  · exact (hf.2.1 7 (by decide) (by decide)).trans s1.2.2.2.1
  · rw [h20]; rfl
  · have e2 : (zC z d pu).2 2 = z.2 2 := by unfold zC; rw [zA_2 rfl, zA_2 rfl]; rfl
    rw [e2]; exact (congrFun (q 1 (by omega) (by omega)).1 k).trans (s2 k k0 k1)
  · have e7 : (zC z d pu).2 7 = z.2 7 := by unfold zC; rw [zA_2 rfl, zA_2 rfl]; rfl
    rw [e7]; exact (congrFun (q 33 (by omega) (by omega)).1 i).trans (s3 i i0 i1)
  · have e72 : (zC z d pu).2 72 = d := by unfold zC; rw [zA_2 rfl, zA_s]
    rw [e72]; exact hd r r0 r1
  · have e73 : (zC z d pu).2 73 = pu := by unfold zC; rw [zA_s]
    rw [e73]; exact hp p p0 p1
/-- in a century -/
def CeV (B : Nat) (V0 V : VT) (z : ZT) (s : Int) (d pu : Int → Int) : Prop := FrY B V0 V ∧ V.1 B 20 = z.2 3 1 ∧ V.1 B 21 = s ∧ ScV V (B + 65) d ∧ ∀ p, 0 ≤ p → p < 8 → V.1 (B + 68) p = pu p
theorem CeV.r {ow : Nat → Nat} {sh : SHT} {nn : Nat × Nat} {V V' : VT} {B : Nat} {z : ZT} {s : Int} {d pu : Int → Int} (c : CeV B V V' z s d pu) (h : XR ow sh nn V B z) : XR ow sh nn V' B (zC z d pu) := h.cen c.1 c.2.1 (fun r r0 r1 => (c.2.2.2.1 r r0 r1).1) c.2.2.2.2
theorem CeV.d {B : Nat} {V V' : VT} {z : ZT} {s s' : Int} {d pu : Int → Int} (c : CeV B V V' z s d pu) : CeV B V (vI V' B 21 s') z s' d pu := ⟨c.1.b (Or.inr rfl), (u2_n (Or.inr (by decide))).trans c.2.1, u2_s, c.2.2.2.1.i1 (by omega) (by omega), fun p p0 p1 => (u2_n (Or.inl (by omega))).trans (c.2.2.2.2 p p0 p1)⟩
theorem CeV.t {B : Nat} {V V1 V' : VT} {z : ZT} {s : Int} {d pu : Int → Int} (c : CeV B V V1 z s d pu) (h : F36 B V1 V') : CeV B V V' z s d pu := by
  obtain ⟨c1, c2, c3, c4, c5⟩ := c
  refine ⟨c1.t h, ?_, ?_, fun r r0 r1 => ?_, fun p p0 p1 => ?_⟩
  · rw [h.1]; exact c2
  · rw [h.1]; exact c3
  · rw [h.1]; exact c4 r r0 r1
  · rw [h.1]; exact c5 p p0 p1
theorem CeV.p {B : Nat} {V V' : VT} {z : ZT} {s k v : Int} {d pu : Int → Int} (c : CeV B V V' z s d pu) : CeV B V (vI V' (B + 68) k v) z s d (zu pu k v) := ⟨c.1.i 68 (by omega), (u2_n (Or.inl (by omega))).trans c.2.1, (u2_n (Or.inl (by omega))).trans c.2.2.1, c.2.2.2.1.i1 (by omega) (by omega), fun p p0 p1 => by
  by_cases e : p = k
  · rw [e, zu_s]; exact u2_s
  · rw [zu_n e]; exact (u2_n (Or.inr e)).trans (c.2.2.2.2 p p0 p1)⟩
theorem CeV.w {B : Nat} {V V' : VT} {z : ZT} {s k v : Int} {d pu : Int → Int} (c : CeV B V V' z s d pu) (hk : 0 ≤ k ∧ k < 36) (hd : 0 ≤ d k ∧ d k < 60) (hv : v = (wZ (d k) + 1) % 10) : CeV B V (vI V' (B + 66) k v) z s (zu d k ((d k + 6) % 60)) pu := by
  obtain ⟨c1, c2, c3, c4, c5⟩ := c
  refine ⟨c1.i 66 (by omega), (u2_n (Or.inl (by omega))).trans c2, (u2_n (Or.inl (by omega))).trans c3, fun r r0 r1 => ?_, fun p p0 p1 => (u2_n (Or.inl (by omega))).trans (c5 p p0 p1)⟩
  show u2 V'.1 (B + 66) k v (B + 65 + 1) r = wZ (zu d k ((d k + 6) % 60) r) ∧ (zu d k ((d k + 6) % 60) r ≠ -1 → u2 V'.1 (B + 66) k v (B + 65 + 2) r = nZ (zu d k ((d k + 6) % 60) r))
  have q := c4 r r0 r1
  rw [u2_n (Or.inl (show B + 65 + 2 ≠ B + 66 by omega))]
  by_cases e : r = k
  · rw [e] at q ⊢
    rw [zu_s]
    refine ⟨?_, fun _ => ?_⟩
    · refine (u2_s : u2 V'.1 (B + 66) k v (B + 66) k = v).trans ?_
      rw [hv]
      unfold wZ
      rw [if_neg (by omega), if_neg (by omega)]; omega
    · rw [q.2 (by omega)]
      unfold nZ
      rw [if_neg (by omega), if_neg (by omega)]; omega
  · rw [zu_n e, u2_n (Or.inr e)]; exact q
/-- what a century keeps of a script -/
def DgZ (d g : Int → Int) : Prop := ∀ r, 0 ≤ r → r < 36 → cOK (d r) ∧ (d r = -1 ↔ g r = -1) ∧ nZ (d r) = nZ (g r)
theorem ciZ_n {sl : Int} {S : Int × (Int → Int)} {g : Int → Int} (h : DgZ S.2 g) : ∀ k : Nat, k ≤ 36 → DgZ (ciZ sl S k).2 g := by
  intro k
  induction k with
  | zero => intro _; exact h
  | succ k ih =>
    intro hk
    have q := ih (by omega)
    rw [ciZ]
    split
    · exact q
    · rename_i hh
      split
      · intro r r0 r1
        show cOK (zu _ _ _ r) ∧ (zu _ _ _ r = -1 ↔ _) ∧ nZ (zu _ _ _ r) = _
        by_cases e : r = (k : Int)
        · rw [e, zu_s]
          have w := q (k : Int) (by omega) (by omega)
          have wc : -1 ≤ (ciZ sl S k).2 (k : Int) ∧ (ciZ sl S k).2 (k : Int) < 60 := w.1
          refine ⟨by unfold cOK; omega, by have := w.2.1; omega, ?_⟩
          rw [← w.2.2]
          unfold nZ
          rw [if_neg (by omega), if_neg (by omega)]; omega
        · rw [zu_n e]; exact q r r0 r1
      · exact q
theorem coZ_n {f : Int → Int} {a : Int} {S : (Int × (Int → Int)) × (Int → Int)} {g : Int → Int} (h : DgZ S.1.2 g) : ∀ k : Nat, DgZ (coZ f a S k).1.2 g := by
  intro k
  induction k with
  | zero => exact h
  | succ k ih =>
    rw [coZ]
    exact ciZ_n (S := (drZ (coZ f a S k).1.1, (coZ f a S k).1.2)) ih 36 (Nat.le_refl _)
theorem DgZ.eq {d g : Int → Int} (h : DgZ d g) (hg : ∀ r, 0 ≤ r → r < 36 → cOK (g r)) {r : Int} (h0 : 0 ≤ r) (h1 : r < 36) : wZ (d r) = wZ (g r) ↔ d r = g r := by
  have q := h r h0 h1
  exact ⟨fun e => (cOK_in q.1 (hg r h0 h1)).mp ⟨e, q.2.2⟩, fun e => by rw [e]⟩
set_option maxHeartbeats 4000000 in
theorem kX0_draw {E : ET} {sh : SHT} {nn : Nat × Nat} {V : VT} {B : Nat} {s : Int} {n : Int} (hB : XSh B sh) (e21 : V.1 B 21 = s) (hs : 0 ≤ s ∧ s < 1000003) (hn : 1 ≤ n ∧ n ≤ 100) : TW E mX0_draw 1 [.ref B, .int (iI n)] sh nn V (some (.int (iI (drZ s % n)))) (vI V B 21 (drZ s)) := by
  have hd := drZ_in s
  have hm1 := Int.emod_nonneg (drZ s) (show n ≠ 0 by omega)
  refine TC.intro [some (.ref B), some (.int (iI n))] rfl ?_
  refine TGo.al0 dX0_draw_0 rfl ?_
  refine TGo.al0 dX0_draw_1 rfl ?_
  refine TGo.getI (t := 8) 21 21 (hB 0 (by decide)) rfl fgX0_494_0 dX0_draw_2 rfl rfl rfl ?_
  refine TGo.toz _ (e21) ?_
  refine TGo.i2l dX0_draw_5 (by omega) ?_
  refine TGo.ldc2 1103 dX0_draw_6 q1766 (by decide) ?_
  refine TGo.lmul dX0_draw_9 ?_
  refine TGo.ldc2 12345 dX0_draw_10 q1767 (by decide) ?_
  refine TGo.ladd dX0_draw_13 ?_
  refine TGo.ldc2 1000003 dX0_draw_14 q1768 (by decide) ?_
  refine TGo.lrem dX0_draw_17 (by omega) (by omega) ?_
  refine TGo.tol (drZ s) (by unfold drZ; rw [Int.tmod_eq_emod_of_nonneg (by omega)]) ?_
  refine TGo.l2i dX0_draw_18 (by omega) ?_
  refine TGo.putI (t := 8) 21 21 (hB 0 (by decide)) rfl fpX0_494_0 dX0_draw_19 rfl rfl rfl ?_
  refine TGo.al0 dX0_draw_22 rfl ?_
  refine TGo.getI (t := 8) 21 21 (hB 0 (by decide)) rfl fgX0_494_0 dX0_draw_23 rfl rfl rfl ?_
  refine TGo.toz _ (u2_s) ?_
  refine TGo.il1 dX0_draw_26 rfl ?_
  refine TGo.irem dX0_draw_27 (by omega) ?_
  refine TGo.iret dX0_draw_28 rfl ?_
  exact ⟨rfl, rfl, rfl, rfl⟩
set_option maxHeartbeats 4000000 in
theorem eX0_century {E : ET} {sh : SHT} {nn : Nat × Nat} {B : Nat} {ow : Nat → Nat} {z : ZT} {V0 : VT} {sd a m s : Int} {D PU : Int → Int} {x6 x7 : Option Value} (hR0 : XR ow sh nn V0 B z) (W : RWZ (z.2 3)) (ha : 0 ≤ a ∧ a < z.2 3 0) (hD : DgZ D (fun r => z.2 3 (22 + 36 * a + r))) : ∀ (n j : Nat) (V : VT), 36 - j < n → j ≤ 36 → CeV B V0 V z s D PU → TGo E mX0_century 213 228 [some (.ref B), some (.int (iI sd)), some (.int (iI a)), some (.int (iI m)), some (.int (iI (cnoZ D (fun r => z.2 3 (22 + 36 * a + r)) (j)))), some (.int (iI (((j) : Nat) : Int))), x6, x7] [] sh nn V (XP B nn (cnoZ D (fun r => z.2 3 (22 + 36 * a + r)) 36, zi (zC z D PU) 1 0)) := by
  intro n
  induction n with
  | zero => intro j V h; omega
  | succ n ih =>
    intro j V hn hj hz
    have hR := hz.r hR0
    obtain ⟨hB, how, hc, -⟩ := id hR
    have w0 := W.1.1
    have hcn := cnoZ_in D (fun r => z.2 3 (22 + 36 * a + r)) j
    have hSa : ScS sh (B + (4 + 3 * a.toNat)) := hB.sc (by omega)
    have hsa : ScV V (B + (4 + 3 * a.toNat)) (fun r => z.2 3 (22 + 36 * a + r)) := by
      have q := hc.scr (p := a.toNat) (by omega) (show ((a.toNat : Nat) : Int) < z.2 3 0 by omega)
      rw [Int.toNat_of_nonneg (by omega)] at q
      exact q
    have hdq := fun (q : (j : Int) < 36) => hD.eq (fun r r0 r1 => W.2.2.1 a r (by omega) (by omega) r0 r1) (show 0 ≤ (j : Int) by omega) q
    refine TGo.il dX0_century_228 rfl ?_
    refine TGo.bip 36 dX0_century_230 (by decide) ?_
    refine TGo.icmp_ge 279 dX0_century_232 (by decide) (by omega) (fun h232 => ?_) (fun h232 => ?_)
    · refine TGo.al0 dX0_century_279 rfl ?_
      refine TGo.il dX0_century_280 rfl ?_
      refine TGo.cS (csV1 (y2 := mX0_done) (t := 8) 1 rfl (hB 0 (by decide)) rfl rfl dX0_century_282 q695 q697 qs3 okX0_done npX0_done rfl rfl) (kX0_done hB hc) (fun v282 V282 h282 => ?_)
      obtain ⟨rfl, hc282, hf282⟩ := h282
      refine TGo.iret dX0_century_285 rfl ?_
      obtain rfl : j = 36 := by omega
      exact ⟨rfl, ⟨_, hR.wr0 hf282 hc282 rfl rfl rfl⟩, ⟨Nat.le_refl _, by omega⟩, Nat.le_refl _, by omega⟩
    · have hwg := wZ_r (W.2.2.1 a (j : Int) (by omega) (by omega) (by omega) (by omega))
      have hwd := wZ_r (hD (j : Int) (by omega) (by omega)).1
      refine TGo.il dX0_century_235 rfl ?_
      refine TGo.al0 dX0_century_237 rfl ?_
      refine TGo.getS (t := 8) 18 18 (B + 65) (hB 0 (by decide)) rfl fgX0_92_0 dX0_century_238 rfl rfl rfl ?_
      refine TGo.getS (t := 10) 0 0 (B + 66) (hB 65 (by decide)) rfl fgX0_187_2 dX0_century_241 rfl rfl rfl ?_
      refine TGo.il dX0_century_244 rfl ?_
      refine TGo.iald dX0_century_246 (hB 66 (by decide)) (by omega) rfl ?_
      refine TGo.toz _ ((hz.2.2.2.1 _ (by omega) (by omega)).1) ?_
      refine TGo.al0 dX0_century_247 rfl ?_
      refine TGo.getS (t := 8) 2 2 (B + 2) (hB 0 (by decide)) rfl fgX0_16_0 dX0_century_248 rfl rfl rfl ?_
      refine TGo.getS (t := 9) 0 0 (B + 3) (hB 2 (by decide)) rfl fgX0_170_1 dX0_century_251 rfl rfl rfl ?_
      refine TGo.il2 dX0_century_254 rfl ?_
      refine TGo.aaldSq (B + (4 + 3 * a.toNat)) dX0_century_255 (hB 3 (by decide)) (by omega) rfl (hc.srf (by omega)) ?_
      refine TGo.getS (t := 10) 0 0 ((B + (4 + 3 * a.toNat)) + 1) hSa.1 rfl fgX0_187_2 dX0_century_256 rfl rfl rfl ?_
      refine TGo.il dX0_century_259 rfl ?_
      refine TGo.iald dX0_century_261 hSa.2.1 (by omega) rfl ?_
      refine TGo.toz _ ((show _ = wZ (z.2 3 (22 + 36 * a + (j : Int))) from (hsa _ (by omega) (by omega)).1)) ?_
      refine TGo.icmp_ne 269 dX0_century_262 (by decide) (by omega) (fun h262 => ?_) (fun h262 => ?_)
      · refine TGo.ic1 dX0_century_269 ?_
        refine TGo.iadd dX0_century_270 ?_
        refine TGo.is dX0_century_271 rfl rfl ?_
        refine TGo.iinc dX0_century_273 rfl rfl rfl ?_
        refine TGo.goto 228 dX0_century_276 (by decide) ?_
        exact TGo.seq [some (.ref B), some (.int (iI sd)), some (.int (iI a)), some (.int (iI m)), some (.int (iI (cnoZ D (fun r => z.2 3 (22 + 36 * a + r)) ((j + 1))))), some (.int (iI ((((j + 1)) : Nat) : Int))), x6, x7] [] _ (by rw [cnoZ]; first | (rw [if_pos ((hdq (by omega)).mp (by assumption))]; rfl) | (rw [if_neg (fun q => absurd ((hdq (by omega)).mpr q) (by assumption))]; rfl)) rfl rfl (ih (j + 1) _ (by omega) (by omega) hz)
      · refine TGo.ic0 dX0_century_265 ?_
        refine TGo.goto 270 dX0_century_266 (by decide) ?_
        refine TGo.iadd dX0_century_270 ?_
        refine TGo.is dX0_century_271 rfl rfl ?_
        refine TGo.iinc dX0_century_273 rfl rfl rfl ?_
        refine TGo.goto 228 dX0_century_276 (by decide) ?_
        exact TGo.seq [some (.ref B), some (.int (iI sd)), some (.int (iI a)), some (.int (iI m)), some (.int (iI (cnoZ D (fun r => z.2 3 (22 + 36 * a + r)) ((j + 1))))), some (.int (iI ((((j + 1)) : Nat) : Int))), x6, x7] [] _ (by rw [cnoZ]; first | (rw [if_pos ((hdq (by omega)).mp (by assumption))]; rfl) | (rw [if_neg (fun q => absurd ((hdq (by omega)).mpr q) (by assumption))]; rfl)) rfl rfl (ih (j + 1) _ (by omega) (by omega) hz)
set_option maxHeartbeats 4000000 in
theorem iX0_century {E : ET} {sh : SHT} {nn : Nat × Nat} {B : Nat} {ow : Nat → Nat} {z : ZT} {V0 : VT} {sd a m k0 p sl : Int} {S : Int × (Int → Int)} {pu : Int → Int} {Q : AO → SHT → Nat × Nat → VT → Prop} (hB : XSh B sh) (hS : 0 ≤ S.1 ∧ S.1 < 1000003) (hd : ∀ r, 0 ≤ r → r < 36 → cOK (S.2 r)) (hsl : 0 ≤ sl ∧ sl ≤ 100) (K : ∀ V : VT, CeV B V0 V z (ciZ sl S 36).1 (ciZ sl S 36).2 pu → TGo E mX0_century 213 216 [some (.ref B), some (.int (iI sd)), some (.int (iI a)), some (.int (iI m)), some (.int (iI k0)), some (.int (iI p)), some (.int (iI sl)), some (.int (iI (((36) : Nat) : Int)))] [] sh nn V Q) : ∀ (n j : Nat) (V : VT), 36 - j < n → j ≤ 36 → CeV B V0 V z (ciZ sl S (j)).1 (ciZ sl S (j)).2 pu → TGo E mX0_century 213 155 [some (.ref B), some (.int (iI sd)), some (.int (iI a)), some (.int (iI m)), some (.int (iI k0)), some (.int (iI p)), some (.int (iI sl)), some (.int (iI (((j) : Nat) : Int)))] [] sh nn V Q := by
  intro n
  induction n with
  | zero => intro j V h; omega
  | succ n ih =>
    intro j V hn hj hz
    have hci := ciZ_s (sl := sl) hS hd j
    have hF : ScS sh (B + 65) := ⟨hB 65 (by decide), hB 66 (by decide), hB 67 (by decide)⟩
    refine TGo.il dX0_century_155 rfl ?_
    refine TGo.bip 36 dX0_century_157 (by decide) ?_
    refine TGo.icmp_ge 216 dX0_century_159 (by decide) (by omega) (fun h159 => ?_) (fun h159 => ?_)
    · obtain rfl : j = 36 := by omega
      exact K V hz
    · have hcj := hci.2 (j : Int) (by omega) (by omega)
      have hcb : -1 ≤ (ciZ sl S (j)).2 (j : Int) ∧ (ciZ sl S (j)).2 (j : Int) < 60 := hcj
      have hcw := wZ_r hcj
      refine TGo.al0 dX0_century_162 rfl ?_
      refine TGo.getS (t := 8) 18 18 (B + 65) (hB 0 (by decide)) rfl fgX0_92_0 dX0_century_163 rfl rfl rfl ?_
      refine TGo.il dX0_century_166 rfl ?_
      refine TGo.cF (csV1 (y2 := mX2_isHole) (t := 10) 1 rfl (hB 65 (by decide)) rfl rfl dX0_century_168 q1518 q745 q746 okX2_isHole npX2_isHole rfl rfl) (kX2_isHole hF hz.2.2.2.1 (by omega) hcj) ?_
      refine TGo.ifb_ne 210 dX0_century_171 (by decide) (fun h171 => ?_) (fun h171 => ?_)
      · refine TGo.iinc dX0_century_210 rfl rfl rfl ?_
        refine TGo.goto 155 dX0_century_213 (by decide) ?_
        exact TGo.seq [some (.ref B), some (.int (iI sd)), some (.int (iI a)), some (.int (iI m)), some (.int (iI k0)), some (.int (iI p)), some (.int (iI sl)), some (.int (iI ((((j + 1)) : Nat) : Int)))] [] _ (rfl) rfl rfl (ih (j + 1) _ (by omega) (by omega) (by rw [ciZ, if_pos (by assumption)]; exact hz))
      · have hm := Int.emod_lt_of_pos (drZ (ciZ sl S (j)).1) (show (0 : Int) < 100 by omega)
        have hm0 := Int.emod_nonneg (drZ (ciZ sl S (j)).1) (show (100 : Int) ≠ 0 by omega)
        refine TGo.al0 dX0_century_174 rfl ?_
        refine TGo.bip 100 dX0_century_175 (by decide) ?_
        refine TGo.cW (csV1 (y2 := mX0_draw) (t := 8) 1 rfl (hB 0 (by decide)) rfl rfl dX0_century_177 q1762 q1764 qs38 okX0_draw npX0_draw rfl rfl) (kX0_draw hB hz.2.2.1 hci.1 (by omega)) ?_
        
        refine TGo.il dX0_century_180 rfl ?_
        refine TGo.icmp_ge 210 dX0_century_182 (by decide) (by omega) (fun h182 => ?_) (fun h182 => ?_)
        · refine TGo.iinc dX0_century_210 rfl rfl rfl ?_
          refine TGo.goto 155 dX0_century_213 (by decide) ?_
          exact TGo.seq [some (.ref B), some (.int (iI sd)), some (.int (iI a)), some (.int (iI m)), some (.int (iI k0)), some (.int (iI p)), some (.int (iI sl)), some (.int (iI ((((j + 1)) : Nat) : Int)))] [] _ (rfl) rfl rfl (ih (j + 1) _ (by omega) (by omega) (by rw [ciZ, if_neg (by omega), if_neg (by omega)]; exact hz.d))
        · refine TGo.al0 dX0_century_185 rfl ?_
          refine TGo.getS (t := 8) 18 18 (B + 65) (hB 0 (by decide)) rfl fgX0_92_0 dX0_century_186 rfl rfl rfl ?_
          refine TGo.getS (t := 10) 0 0 (B + 66) (hB 65 (by decide)) rfl fgX0_187_2 dX0_century_189 rfl rfl rfl ?_
          refine TGo.il dX0_century_192 rfl ?_
          refine TGo.al0 dX0_century_194 rfl ?_
          refine TGo.getS (t := 8) 18 18 (B + 65) (hB 0 (by decide)) rfl fgX0_92_0 dX0_century_195 rfl rfl rfl ?_
          refine TGo.getS (t := 10) 0 0 (B + 66) (hB 65 (by decide)) rfl fgX0_187_2 dX0_century_198 rfl rfl rfl ?_
          refine TGo.il dX0_century_201 rfl ?_
          refine TGo.iald dX0_century_203 (hB 66 (by decide)) (by omega) rfl ?_
          refine TGo.toz _ ((u2_n (Or.inl (by omega))).trans ((hz.2.2.2.1 _ (by omega) (by omega)).1)) ?_
          refine TGo.ic1 dX0_century_204 ?_
          refine TGo.iadd dX0_century_205 ?_
          refine TGo.bip 10 dX0_century_206 (by decide) ?_
          refine TGo.irem dX0_century_208 (by omega) ?_
          refine TGo.iast dX0_century_209 (hB 66 (by decide)) (by omega) rfl ?_
          refine TGo.iinc dX0_century_210 rfl rfl rfl ?_
          refine TGo.goto 155 dX0_century_213 (by decide) ?_
          exact TGo.seq [some (.ref B), some (.int (iI sd)), some (.int (iI a)), some (.int (iI m)), some (.int (iI k0)), some (.int (iI p)), some (.int (iI sl)), some (.int (iI ((((j + 1)) : Nat) : Int)))] [] _ (rfl) rfl rfl (ih (j + 1) _ (by omega) (by omega) (by rw [ciZ, if_neg (by omega), if_pos (by omega)]; exact (hz.d).w (by omega) (by omega) rfl))
set_option maxHeartbeats 4000000 in
theorem lX0_century {E : ET} {sh : SHT} {nn : Nat × Nat} {B : Nat} {ow : Nat → Nat} {z : ZT} {V0 : VT} {sd a : Int} {m M : Nat} {S : (Int × (Int → Int)) × (Int → Int)} (hR0 : XR ow sh nn V0 B z) (W : RWZ (z.2 3)) (WL : LawsZ (z.2 3)) (ha : 0 ≤ a ∧ a < z.2 3 0) (hm : m ≤ 100) (hM0 : z.2 3 1 ≤ 0 → M = 0) (hM1 : 0 < z.2 3 1 → M = m) (hS : 0 ≤ S.1.1 ∧ S.1.1 < 1000003) (hd : ∀ r, 0 ≤ r → r < 36 → cOK (S.1.2 r)) (hD : DgZ S.1.2 (fun r => z.2 3 (22 + 36 * a + r))) : ∀ (n j : Nat) (V : VT) (x5 x6 x7 : Option Value), M - j < n → j ≤ M → CeV B V0 V z (coZ (z.2 3) a S (j)).1.1 (coZ (z.2 3) a S (j)).1.2 (coZ (z.2 3) a S (j)).2 → TGo E mX0_century 213 104 [some (.ref B), some (.int (iI sd)), some (.int (iI a)), some (.int (iI (m : Int))), some (.int (iI (((j) : Nat) : Int))), x5, x6, x7] [] sh nn V (XP B nn (cnoZ (coZ (z.2 3) a S (M)).1.2 (fun r => z.2 3 (22 + 36 * a + r)) 36, zi (zC z (coZ (z.2 3) a S (M)).1.2 (coZ (z.2 3) a S (M)).2) 1 0)) := by
  intro n
  induction n with
  | zero => intro j V x5 x6 x7 h; omega
  | succ n ih =>
    intro j V x5 x6 x7 hn hj hz
    have hB := hR0.1
    have w0 := W.1.1
    have w1 := W.1.2.1
    have w7 := W.1.2.2.2.2.2.2.2.1
    have hco := coZ_s (f := z.2 3) (a := a) hS hd j
    refine TGo.il dX0_century_104 rfl ?_
    refine TGo.il3 dX0_century_106 rfl ?_
    refine TGo.icmp_ge 222 dX0_century_107 (by decide) (by omega) (fun h107 => ?_) (fun h107 => ?_)
    · obtain rfl : j = M := by omega
      refine TGo.ic0 dX0_century_222 ?_
      refine TGo.is dX0_century_223 rfl rfl ?_
      refine TGo.ic0 dX0_century_225 ?_
      refine TGo.is dX0_century_226 rfl rfl ?_
      exact eX0_century (D := (coZ (z.2 3) a S (j)).1.2) (PU := (coZ (z.2 3) a S (j)).2) hR0 W ha (coZ_n hD j) 37 0 V (by omega) (by omega) hz
    · refine TGo.al0 dX0_century_110 rfl ?_
      refine TGo.getI (t := 8) 20 20 (hB 0 (by decide)) rfl fgX0_98_0 dX0_century_111 rfl rfl rfl ?_
      refine TGo.toz _ (hz.2.1) ?_
      refine TGo.if_le 222 dX0_century_114 (by decide) (by omega) (fun h114 => ?_) (fun h114 => ?_)
      · obtain rfl : j = M := by omega
        refine TGo.ic0 dX0_century_222 ?_
        refine TGo.is dX0_century_223 rfl rfl ?_
        refine TGo.ic0 dX0_century_225 ?_
        refine TGo.is dX0_century_226 rfl rfl ?_
        exact eX0_century (D := (coZ (z.2 3) a S (j)).1.2) (PU := (coZ (z.2 3) a S (j)).2) hR0 W ha (coZ_n hD j) 37 0 V (by omega) (by omega) hz
      · have hmp := Int.emod_lt_of_pos (drZ (coZ (z.2 3) a S (j)).1.1) (show (0 : Int) < z.2 3 1 by omega)
        have hmp0 := Int.emod_nonneg (drZ (coZ (z.2 3) a S (j)).1.1) (show z.2 3 1 ≠ 0 by omega)
        refine TGo.al0 dX0_century_117 rfl ?_
        refine TGo.al0 dX0_century_118 rfl ?_
        refine TGo.getI (t := 8) 20 20 (hB 0 (by decide)) rfl fgX0_98_0 dX0_century_119 rfl rfl rfl ?_
        refine TGo.toz _ (hz.2.1) ?_
        refine TGo.cW (csV1 (y2 := mX0_draw) (t := 8) 1 rfl (hB 0 (by decide)) rfl rfl dX0_century_122 q1762 q1764 qs38 okX0_draw npX0_draw rfl rfl) (kX0_draw hB hz.2.2.1 hco.1 (by omega)) ?_
        
        refine TGo.is dX0_century_125 rfl rfl ?_
        refine TGo.al0 dX0_century_127 rfl ?_
        refine TGo.getS (t := 8) 19 19 (B + 68) (hB 0 (by decide)) rfl fgX0_95_0 dX0_century_128 rfl rfl rfl ?_
        refine TGo.il dX0_century_131 rfl ?_
        refine TGo.dup2 dX0_century_133 rfl rfl ?_
        refine TGo.iald dX0_century_134 (hB 68 (by decide)) (by omega) rfl ?_
        refine TGo.toz _ ((u2_n (Or.inl (by omega))).trans (hz.2.2.2.2 _ (by omega) (by omega))) ?_
        refine TGo.ic1 dX0_century_135 ?_
        refine TGo.iadd dX0_century_136 ?_
        refine TGo.iast dX0_century_137 (hB 68 (by decide)) (by omega) rfl ?_
        have hcp := (hz.d (s' := drZ (coZ (z.2 3) a S (j)).1.1)).p (k := (drZ (coZ (z.2 3) a S (j)).1.1 % z.2 3 1)) (v := (coZ (z.2 3) a S (j)).2 (drZ (coZ (z.2 3) a S (j)).1.1 % z.2 3 1) + 1)
        have hR138 := hcp.r hR0
        obtain ⟨-, -, hc138, -⟩ := id hR138
        refine TGo.al0 dX0_century_138 rfl ?_
        refine TGo.il dX0_century_139 rfl ?_
        refine TGo.il2 dX0_century_141 rfl ?_
        refine TGo.icm1 dX0_century_142 ?_
        refine TGo.al0 dX0_century_143 rfl ?_
        refine TGo.cF (csV0 (y2 := mX0_year) (t := 8) 1 rfl (hB 0 (by decide)) rfl rfl dX0_century_144 q827 q829 qs8 okX0_year npX0_year rfl rfl) (kX0_year hB hc138) ?_
        refine TGo.toz (z.2 3 7) rfl ?_
        refine TGo.cS (csV4 (y2 := mX0_slips) (t := 8) 212 rfl (hB 0 (by decide)) rfl rfl dX0_century_147 q1409 q1411 qs13 okX0_slips npX0_slips rfl rfl) (kX0_slips hR138 W WL (show 0 ≤ (drZ (coZ (z.2 3) a S (j)).1.1 % z.2 3 1) ∧ (drZ (coZ (z.2 3) a S (j)).1.1 % z.2 3 1) < z.2 3 1 from ⟨hmp0, hmp⟩) (by omega) (by omega) (by omega)) (fun v147 V147 h147 => ?_)
        obtain ⟨rfl, hR147, hF147⟩ := h147
        have hz147 := hcp.t hF147
        refine TGo.toz (slipZ (z.2 3) (drZ (coZ (z.2 3) a S (j)).1.1 % z.2 3 1) a (-1) (z.2 3 7)) rfl ?_
        refine TGo.is dX0_century_150 rfl rfl ?_
        refine TGo.ic0 dX0_century_152 ?_
        refine TGo.is dX0_century_153 rfl rfl ?_
        have ez : (coZ (z.2 3) a S ((j + 1))) = (ciZ (slipZ (z.2 3) (drZ (coZ (z.2 3) a S (j)).1.1 % z.2 3 1) a (-1) (z.2 3 7)) (drZ (coZ (z.2 3) a S (j)).1.1, (coZ (z.2 3) a S (j)).1.2) 36, zu (coZ (z.2 3) a S (j)).2 (drZ (coZ (z.2 3) a S (j)).1.1 % z.2 3 1) ((coZ (z.2 3) a S (j)).2 (drZ (coZ (z.2 3) a S (j)).1.1 % z.2 3 1) + 1)) := rfl
        have hsl := slipZ_r (z.2 3) (drZ (coZ (z.2 3) a S (j)).1.1 % z.2 3 1) a (-1) (z.2 3 7)
        exact TGo.seq [some (.ref B), some (.int (iI sd)), some (.int (iI a)), some (.int (iI (m : Int))), some (.int (iI (j : Int))), some (.int (iI (drZ (coZ (z.2 3) a S (j)).1.1 % z.2 3 1))), some (.int (iI (slipZ (z.2 3) (drZ (coZ (z.2 3) a S (j)).1.1 % z.2 3 1) a (-1) (z.2 3 7)))), some (.int (iI (((0) : Nat) : Int)))] [] _ rfl rfl rfl (iX0_century (ow := ow) (S := (drZ (coZ (z.2 3) a S (j)).1.1, (coZ (z.2 3) a S (j)).1.2)) hB (drZ_in _) hco.2 hsl (fun V1 hz1 => by
          refine TGo.iinc dX0_century_216 rfl rfl rfl ?_
          refine TGo.goto 104 dX0_century_219 (by decide) ?_
          exact ih (j + 1) V1 _ _ _ (by omega) (by omega) (by rw [ez]; exact hz1)) 37 0 _ (by omega) (by omega) hz147)
set_option maxHeartbeats 4000000 in
theorem zX0_century {E : ET} {sh : SHT} {nn : Nat × Nat} {B : Nat} {ow : Nat → Nat} {z : ZT} {V0 : VT} {sd a : Int} {m M : Nat} (hR0 : XR ow sh nn V0 B z) (W : RWZ (z.2 3)) (WL : LawsZ (z.2 3)) (ha : 0 ≤ a ∧ a < z.2 3 0) (hm : m ≤ 100) (hM0 : z.2 3 1 ≤ 0 → M = 0) (hM1 : 0 < z.2 3 1 → M = m) (hsd : 0 ≤ sd ∧ sd ≤ 1000000) : ∀ (n j : Nat) (V : VT), 8 - j < n → j ≤ 8 → FrY B V0 V → (V.1 B 20 = z.2 3 1 ∧ V.1 B 21 = sd ∧ ∀ p, 0 ≤ p → p < (j : Int) → V.1 (B + 68) p = 0) → TGo E mX0_century 213 64 [some (.ref B), some (.int (iI sd)), some (.int (iI a)), some (.int (iI (m : Int))), some (.int (iI (((j) : Nat) : Int))), none, none, none] [] sh nn V (XP B nn (cnoZ (coZ (z.2 3) a ((sd, (fun i => if 0 ≤ i ∧ i < ((36 : Nat) : Int) then z.2 3 (22 + 36 * a + i) else z.2 72 i)), (fun i => if 0 ≤ i ∧ i < ((8 : Nat) : Int) then 0 else z.2 73 i)) M).1.2 (fun r => z.2 3 (22 + 36 * a + r)) 36, zi (zC z (coZ (z.2 3) a ((sd, (fun i => if 0 ≤ i ∧ i < ((36 : Nat) : Int) then z.2 3 (22 + 36 * a + i) else z.2 72 i)), (fun i => if 0 ≤ i ∧ i < ((8 : Nat) : Int) then 0 else z.2 73 i)) M).1.2 (coZ (z.2 3) a ((sd, (fun i => if 0 ≤ i ∧ i < ((36 : Nat) : Int) then z.2 3 (22 + 36 * a + i) else z.2 72 i)), (fun i => if 0 ≤ i ∧ i < ((8 : Nat) : Int) then 0 else z.2 73 i)) M).2) 1 0)) := by
  intro n
  induction n with
  | zero => intro j V h; omega
  | succ n ih =>
    intro j V hn hj hz hx
    obtain ⟨hB, how, hc0, -⟩ := id hR0
    have w0 := W.1.1
    have w1 := W.1.2.1
    have hSa : ScS sh (B + (4 + 3 * a.toNat)) := hB.sc (by omega)
    have hF : ScS sh (B + 65) := ⟨hB 65 (by decide), hB 66 (by decide), hB 67 (by decide)⟩
    have hsa : ScV V (B + (4 + 3 * a.toNat)) (fun r => z.2 3 (22 + 36 * a + r)) := by
      have q := hc0.scr (p := a.toNat) (by omega) (by omega)
      rw [Int.toNat_of_nonneg (by omega)] at q
      intro r r0 r1
      rw [(hz.1 _ (by omega) (fun i hi => by omega)).1, (hz.1 _ (by omega) (fun i hi => by omega)).1]; exact q r r0 r1
    have hsr : V.2.2 (B + 3) a = some (B + (4 + 3 * a.toNat)) := by rw [(hz.1 (B + 3) (by omega) (fun i hi => by omega)).2.2]; exact hc0.srf (by omega)
    refine TGo.il dX0_century_64 rfl ?_
    refine TGo.bip 8 dX0_century_66 (by decide) ?_
    refine TGo.icmp_ge 85 dX0_century_68 (by decide) (by omega) (fun h68 => ?_) (fun h68 => ?_)
    · refine TGo.al0 dX0_century_85 rfl ?_
      refine TGo.getS (t := 8) 18 18 (B + 65) (hB 0 (by decide)) rfl fgX0_92_0 dX0_century_86 rfl rfl rfl ?_
      refine TGo.al0 dX0_century_89 rfl ?_
      refine TGo.getS (t := 8) 2 2 (B + 2) (hB 0 (by decide)) rfl fgX0_16_0 dX0_century_90 rfl rfl rfl ?_
      refine TGo.getS (t := 9) 0 0 (B + 3) (hB 2 (by decide)) rfl fgX0_170_1 dX0_century_93 rfl rfl rfl ?_
      refine TGo.il2 dX0_century_96 rfl ?_
      refine TGo.aaldSq (B + (4 + 3 * a.toNat)) dX0_century_97 (hB 3 (by decide)) (by omega) rfl hsr ?_
      refine TGo.cN (csV1 (y2 := mX2_takes) (t := 10) 1 rfl (hB 65 (by decide)) rfl rfl dX0_century_98 q1594 q610 q611 okX2_takes npX2_takes rfl rfl) (kX2_takes hF hSa (by omega)) (fun V98 h98 => ?_)
      obtain rfl : j = 8 := by omega
      have hg : ∀ r, 0 ≤ r → r < 36 → (fun i => if 0 ≤ i ∧ i < ((36 : Nat) : Int) then z.2 3 (22 + 36 * a + i) else z.2 72 i) r = z.2 3 (22 + 36 * a + r) := fun r r0 r1 => if_pos (by omega)
      have hck : ∀ r, 0 ≤ r → r < 36 → cOK ((fun i => if 0 ≤ i ∧ i < ((36 : Nat) : Int) then z.2 3 (22 + 36 * a + i) else z.2 72 i) r) := fun r r0 r1 => by rw [hg r r0 r1]; exact W.2.2.1 a r (by omega) (by omega) r0 r1
      have hDg : DgZ (fun i => if 0 ≤ i ∧ i < ((36 : Nat) : Int) then z.2 3 (22 + 36 * a + i) else z.2 72 i) (fun r => z.2 3 (22 + 36 * a + r)) := fun r r0 r1 => ⟨hck r r0 r1, by rw [hg r r0 r1], by rw [hg r r0 r1]⟩
      refine TGo.ic0 dX0_century_101 ?_
      refine TGo.is dX0_century_102 rfl rfl ?_
      refine lX0_century (S := ((sd, (fun i => if 0 ≤ i ∧ i < ((36 : Nat) : Int) then z.2 3 (22 + 36 * a + i) else z.2 72 i)), (fun i => if 0 ≤ i ∧ i < ((8 : Nat) : Int) then 0 else z.2 73 i))) hR0 W WL ha hm hM0 hM1 (show 0 ≤ sd ∧ sd < 1000003 by omega) hck hDg (M + 1) 0 _ _ _ _ (by omega) (by omega) ⟨hz.f h98.1, ?_, ?_, (h98.2 _ hsa).cg hg, fun p p0 p1 => ?_⟩
      · rw [(h98.1 B (by omega) (by omega)).1]; exact hx.1
      · rw [(h98.1 B (by omega) (by omega)).1]; exact hx.2.1
      · rw [(h98.1 (B + 68) (by omega) (by omega)).1, hx.2.2 p p0 (by omega)]; exact (if_pos (by omega)).symm
    · refine TGo.al0 dX0_century_71 rfl ?_
      refine TGo.getS (t := 8) 19 19 (B + 68) (hB 0 (by decide)) rfl fgX0_95_0 dX0_century_72 rfl rfl rfl ?_
      refine TGo.il dX0_century_75 rfl ?_
      refine TGo.ic0 dX0_century_77 ?_
      refine TGo.iast dX0_century_78 (hB 68 (by decide)) (by omega) rfl ?_
      refine TGo.iinc dX0_century_79 rfl rfl rfl ?_
      refine TGo.goto 64 dX0_century_82 (by decide) ?_
      exact TGo.seq [some (.ref B), some (.int (iI sd)), some (.int (iI a)), some (.int (iI (m : Int))), some (.int (iI ((((j + 1)) : Nat) : Int))), none, none, none] [] _ (rfl) rfl rfl (ih (j + 1) _ (by omega) (by omega) (hz.i 68 (by omega)) ⟨(u2_n (Or.inl (by omega))).trans hx.1, (u2_n (Or.inl (by omega))).trans hx.2.1, fun r h0 h1 => by
        by_cases e : r = (j : Int)
        · rw [e]; exact u2_s
        · exact (u2_n (Or.inr e)).trans (hx.2.2 r h0 (by omega))⟩)
set_option maxHeartbeats 4000000 in
theorem kX0_century {E : ET} {sh : SHT} {nn : Nat × Nat} {V : VT} {B : Nat} {ow : Nat → Nat} {z : ZT} {sd a n : Int} (hR : XR ow sh nn V B z) (W : RWZ (z.2 3)) (WL : LawsZ (z.2 3)) (rsd : R32 sd) (ra : R32 a) (rn : R32 n) : TC E mX0_century 213 [.ref B, .int (iI sd), .int (iI a), .int (iI n)] sh nn V (XP B nn (zp_century z sd a n)) := by
  obtain ⟨hB, -, hc, -⟩ := id hR
  have w0 := W.1.1
  have w1 := W.1.2.1
  obtain ⟨ap, av, al, cp, cv, cl, gp, gv, gl, hne, ⟨hp1, hp2⟩, ⟨hv1, hv2⟩, hl1, hl2⟩ := id hR.2.2.2.1
  refine TC.intro [some (.ref B), some (.int (iI sd)), some (.int (iI a)), some (.int (iI n)), none, none, none, none] rfl ?_
  refine TGo.il1 dX0_century_0 rfl ?_
  refine TGo.ic0 dX0_century_1 ?_
  refine TGo.ldcw 1000000 dX0_century_2 q1761 (by decide) ?_
  refine TGo.cF (csS3 (y2 := mX0_in) 1 rfl dX0_century_5 q598 q599 okX0_in npX0_in rfl rfl) (kX0_in (by omega) (by omega) (by omega)) ?_
  refine TGo.ifb_eq 21 dX0_century_8 (by decide) (fun h8 => ?_) (fun h8 => ?_)
  · refine TGo.al0 dX0_century_21 rfl ?_
    refine TGo.icm1 dX0_century_22 ?_
    refine TGo.cS (csV1 (y2 := mX0_refuse) (t := 8) 1 rfl (hB 0 (by decide)) rfl rfl dX0_century_23 q601 q603 qs1 okX0_refuse npX0_refuse rfl rfl) (kX0_refuse hB hc (by omega)) (fun v23 V23 h23 => ?_)
    obtain ⟨rfl, hc23, hf23⟩ := h23
    refine TGo.iret dX0_century_26 rfl ?_
    first
    | (exfalso; omega)
    | (refine hR.leaf W (FrX.rf.tr hf23) hc23 ((zTell_2 rfl).trans rfl) ((zTell_2 rfl).trans rfl) (StA.rf.tell) ?_
       unfold zp_century
       (repeat (first | rw [if_pos (by first | rfl | assumption | omega)] | rw [if_neg (by first | decide | assumption | omega)]))
       (try first | rfl))
  · refine TGo.il3 dX0_century_11 rfl ?_
    refine TGo.ic0 dX0_century_12 ?_
    refine TGo.bip 100 dX0_century_13 (by decide) ?_
    refine TGo.cF (csS3 (y2 := mX0_in) 1 rfl dX0_century_15 q598 q599 okX0_in npX0_in rfl rfl) (kX0_in (by omega) (by omega) (by omega)) ?_
    refine TGo.ifb_ne 27 dX0_century_18 (by decide) (fun h18 => ?_) (fun h18 => ?_)
    · refine TGo.al0 dX0_century_27 rfl ?_
      refine TGo.il2 dX0_century_28 rfl ?_
      refine TGo.cF (csV1 (y2 := mX0_isPart) (t := 8) 2 rfl (hB 0 (by decide)) rfl rfl dX0_century_29 q721 q723 qs4 okX0_isPart npX0_isPart rfl rfl) (kX0_isPart hB hc w0 (by omega)) ?_
      refine TGo.ifb_ne 42 dX0_century_32 (by decide) (fun h32 => ?_) (fun h32 => ?_)
      · refine TGo.al0 dX0_century_42 rfl ?_
        refine TGo.il1 dX0_century_43 rfl ?_
        refine TGo.putI (t := 8) 21 21 (hB 0 (by decide)) rfl fpX0_494_0 dX0_century_44 rfl rfl rfl ?_
        refine TGo.al0 dX0_century_47 rfl ?_
        refine TGo.al0 dX0_century_48 rfl ?_
        refine TGo.getS (t := 8) 2 2 (B + 2) (hB 0 (by decide)) rfl fgX0_16_0 dX0_century_49 rfl rfl rfl ?_
        refine TGo.getS (t := 9) 5 5 (B + 26) (hB 2 (by decide)) rfl fgX0_126_1 dX0_century_52 rfl rfl rfl ?_
        refine TGo.cF (csV0 (y2 := mJ2_size) (t := 20) 1 rfl (hB 26 (by decide)) rfl rfl dX0_century_55 q756 q757 q758 okJ2_size npJ2_size rfl rfl) (kJ2_size (hp1.1.keep (fun _ _ => rfl) (congrFun (u2_a (show B + 26 ≠ B by omega)) 2) rfl rfl)) ?_
        refine TGo.toz (z.2 3 1) (Int.toNat_of_nonneg (by omega)) ?_
        refine TGo.putI (t := 8) 20 20 (hB 0 (by decide)) rfl fpX0_98_0 dX0_century_58 rfl rfl rfl ?_
        refine TGo.ic0 dX0_century_61 ?_
        refine TGo.is dX0_century_62 rfl rfl ?_
        first
        | (exfalso; omega)
        | (obtain ⟨m, hm⟩ : ∃ m : Nat, n = (m : Int) := ⟨n.toNat, by omega⟩
           subst hm
           obtain ⟨M, hM⟩ : ∃ M : Nat, M = (if 0 < z.2 3 1 then m else 0) := ⟨_, rfl⟩
           have ec : ceZ z sd a (m : Int) = coZ (z.2 3) a ((sd, (fun i => if 0 ≤ i ∧ i < ((36 : Nat) : Int) then z.2 3 (22 + 36 * a + i) else z.2 72 i)), (fun i => if 0 ≤ i ∧ i < ((8 : Nat) : Int) then 0 else z.2 73 i)) M := by unfold ceZ; rw [hM, Int.toNat_natCast]
           refine (zX0_century (V0 := V) (M := M) hR W WL (by omega) (by omega) (fun q => by rw [hM, if_neg (by omega)]) (fun q => by rw [hM, if_pos q]) (by omega) 9 0 _ (by omega) (by omega) ((FrY.rf.b (Or.inr rfl)).b (Or.inl rfl)) ⟨u2_s, (u2_n (Or.inr (by decide))).trans u2_s, fun p p0 p1 => by omega⟩).mono ?_
           intro o sh' nn' V' hq
           unfold zp_century
           rw [if_neg (by omega), if_neg (by omega), ec, zT0 (by have := (cnoZ_in (coZ (z.2 3) a ((sd, (fun i => if 0 ≤ i ∧ i < ((36 : Nat) : Int) then z.2 3 (22 + 36 * a + i) else z.2 72 i)), (fun i => if 0 ≤ i ∧ i < ((8 : Nat) : Int) then 0 else z.2 73 i)) M).1.2 (fun r => z.2 3 (22 + 36 * a + r)) 36).1; omega)]
           exact hq)
      · refine TGo.al0 dX0_century_35 rfl ?_
        refine TGo.bip (-2) dX0_century_36 (by decide) ?_
        refine TGo.cS (csV1 (y2 := mX0_refuse) (t := 8) 1 rfl (hB 0 (by decide)) rfl rfl dX0_century_38 q601 q603 qs1 okX0_refuse npX0_refuse rfl rfl) (kX0_refuse hB hc (by omega)) (fun v38 V38 h38 => ?_)
        obtain ⟨rfl, hc38, hf38⟩ := h38
        refine TGo.iret dX0_century_41 rfl ?_
        first
        | (exfalso; omega)
        | (refine hR.leaf W (FrX.rf.tr hf38) hc38 ((zTell_2 rfl).trans rfl) ((zTell_2 rfl).trans rfl) (StA.rf.tell) ?_
           unfold zp_century
           (repeat (first | rw [if_pos (by first | rfl | assumption | omega)] | rw [if_neg (by first | decide | assumption | omega)]))
           (try first | rfl))
    · refine TGo.al0 dX0_century_21 rfl ?_
      refine TGo.icm1 dX0_century_22 ?_
      refine TGo.cS (csV1 (y2 := mX0_refuse) (t := 8) 1 rfl (hB 0 (by decide)) rfl rfl dX0_century_23 q601 q603 qs1 okX0_refuse npX0_refuse rfl rfl) (kX0_refuse hB hc (by omega)) (fun v23 V23 h23 => ?_)
      obtain ⟨rfl, hc23, hf23⟩ := h23
      refine TGo.iret dX0_century_26 rfl ?_
      first
      | (exfalso; omega)
      | (refine hR.leaf W (FrX.rf.tr hf23) hc23 ((zTell_2 rfl).trans rfl) ((zTell_2 rfl).trans rfl) (StA.rf.tell) ?_
         unfold zp_century
         (repeat (first | rw [if_pos (by first | rfl | assumption | omega)] | rw [if_neg (by first | decide | assumption | omega)]))
         (try first | rfl))
