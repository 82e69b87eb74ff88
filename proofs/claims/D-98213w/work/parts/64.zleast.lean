/-! THE MODEL: the fewest states -/
set_option maxRecDepth 100000
/-- bits of words -/
def obZ (a w : Int) : Int := if a / ((2 ^ w.toNat : Nat) : Int) % 2 = 1 then a else a + ((2 ^ w.toNat : Nat) : Int)
theorem or_bit2 : ∀ a : Nat, a < 1024 → (∀ k : Nat, k < 10 → (a ||| 2 ^ k = if a / 2 ^ k % 2 = 1 then a else a + 2 ^ k) ∧ (a ||| 2 ^ k) < 1024) ∧ a ||| 1023 = 1023 := by decide +kernel
theorem iI_ob {a : Int} {k : Int} (h : 0 ≤ a ∧ a < 1024) (hk : 0 ≤ k ∧ k < 10) : iI a ||| (iI 1 <<< (iI k &&& 31)) = iI (obZ a k) ∧ (0 ≤ obZ a k ∧ obZ a k < 1024) := by
  obtain ⟨n, rfl⟩ := iI_get h.1
  have hn : n < 1024 := by omega
  have e : iI k = iI ((k.toNat : Nat) : Int) := by rw [show ((k.toNat : Nat) : Int) = k by omega]
  have h1 := (or_bit2 n hn).1 k.toNat (by omega)
  have e2 : obZ (n : Int) k = ((n ||| 2 ^ k.toNat : Nat) : Int) := by
    unfold obZ
    rw [h1.1]
    have e3 : (n : Int) / ((2 ^ k.toNat : Nat) : Int) % 2 = ((n / 2 ^ k.toNat % 2 : Nat) : Int) := rfl
    rw [e3]
    by_cases q : n / 2 ^ k.toNat % 2 = 1
    · rw [if_pos (by omega), if_pos q]
    · rw [if_neg (by omega), if_neg q]; rfl
  rw [e2]
  refine ⟨?_, by omega, by omega⟩
  rw [e, iI_shl (by omega), iI_nat, nI_or]
  rfl
theorem iI_oa {a : Int} (h : 0 ≤ a ∧ a < 1024) : iI a ||| iI 1023 = iI 1023 := by
  obtain ⟨n, rfl⟩ := iI_get h.1
  have h1 := (or_bit2 n (by omega)).2
  rw [show (1023 : Int) = ((1023 : Nat) : Int) from rfl, iI_nat, iI_nat, nI_or, h1]
/-- deeds of the r-th row, of the first k, behind those of o -/
def oiZ (f : Int → Int) (r : Int) (S : (Int → Int) × Int) : Nat → (Int → Int) × Int
  | 0 => S
  | k + 1 => if f (742 + 3 * (k : Int)) = r then (zu (oiZ f r S k).1 (oiZ f r S k).2 (742 + 3 * (k : Int)), (oiZ f r S k).2 + 1) else oiZ f r S k
def oaZ (f : Int → Int) (n : Nat) : Nat → (Int → Int) × Int
  | 0 => (fun _ => 0, 0)
  | r + 1 => oiZ f (r : Int) (oaZ f n r) n
def odZ (f : Int → Int) : Int → Int := (oaZ f (f 6).toNat 4).1
def ctZ (f : Int → Int) (r : Int) : Nat → Int
  | 0 => 0
  | k + 1 => ctZ f r k + if f (742 + 3 * (k : Int)) = r then 1 else 0
theorem ctZ_b (f : Int → Int) (r : Int) : ∀ k : Nat, 0 ≤ ctZ f r k := by
  intro k
  induction k with
  | zero => exact Int.le_refl _
  | succ k ih => rw [ctZ]; split <;> omega
theorem ctZ_s {f : Int → Int} : ∀ k : Nat, (∀ i : Int, 0 ≤ i → i < k → 0 ≤ f (742 + 3 * i) ∧ f (742 + 3 * i) < 4) → ctZ f 0 k + ctZ f 1 k + ctZ f 2 k + ctZ f 3 k = k := by
  intro k
  induction k with
  | zero => intro _; rfl
  | succ k ih =>
    intro h
    have h1 := ih (fun i h0 h1 => h i h0 (by omega))
    have h2 := h (k : Int) (by omega) (by omega)
    rw [ctZ, ctZ, ctZ, ctZ]
    (repeat' split) <;> omega
/-- the first n of o are places of deeds -/
def OIn (N : Nat) (S : (Int → Int) × Int) : Prop := 0 ≤ S.2 ∧ ∀ i, 0 ≤ i → i < S.2 → ∃ k : Int, 0 ≤ k ∧ k < N ∧ S.1 i = 742 + 3 * k
theorem oiZ_in {f : Int → Int} {r : Int} {N : Nat} {S : (Int → Int) × Int} (h : OIn N S) : ∀ k : Nat, k ≤ N → OIn N (oiZ f r S k) ∧ (oiZ f r S k).2 = S.2 + ctZ f r k := by
  intro k
  induction k with
  | zero => intro _; exact ⟨h, (Int.add_zero _).symm⟩
  | succ k ih =>
    intro hk
    have h1 := ih (by omega)
    rw [oiZ, ctZ]
    split
    · refine ⟨⟨by have := h1.1.1; simp only; omega, fun i h0 hi => ?_⟩, by simp only; omega⟩
      simp only at hi ⊢
      by_cases e : i = (oiZ f r S k).2
      · exact ⟨(k : Int), by omega, by omega, by rw [e, zu_s]⟩
      · rw [zu_n e]; exact h1.1.2 i h0 (by omega)
    · exact ⟨h1.1, by omega⟩
theorem oaZ_in {f : Int → Int} {N : Nat} : OIn N (oaZ f N 4) ∧ (oaZ f N 4).2 = ctZ f 0 N + ctZ f 1 N + ctZ f 2 N + ctZ f 3 N := by
  have h0 : OIn N (oaZ f N 0) := ⟨Int.le_refl _, fun i h0 h1 => absurd h1 (by show ¬ i < 0; omega)⟩
  have h1 := oiZ_in (f := f) (r := 0) h0 N (Nat.le_refl _)
  have h2 := oiZ_in (f := f) (r := 1) h1.1 N (Nat.le_refl _)
  have h3 := oiZ_in (f := f) (r := 2) h2.1 N (Nat.le_refl _)
  have h4 := oiZ_in (f := f) (r := 3) h3.1 N (Nat.le_refl _)
  refine ⟨h4.1, ?_⟩
  have e : (oaZ f N 0).2 = 0 := rfl
  have e4 : (oaZ f N 4).2 = (oiZ f 3 (oiZ f 2 (oiZ f 1 (oiZ f 0 (oaZ f N 0) N) N) N) N).2 := rfl
  omega
def OF (f o : Int → Int) (n : Nat) : Prop := ∀ i, 0 ≤ i → i < (n : Int) → (742 ≤ o i ∧ o i ≤ 775) ∧ (0 ≤ f (o i) ∧ f (o i) < 4) ∧ (0 ≤ f (o i + 1) ∧ f (o i + 1) < 6) ∧ 0 ≤ f (o i + 2) ∧ f (o i + 2) < 10
theorem odZ_ok {f : Int → Int} (W : RWZ f) : (oaZ f (f 6).toNat 4).2 = f 6 ∧ OF f (odZ f) (f 6).toNat := by
  have w6 := W.1.2.2.2.2.2.2.1
  have wd := W.2.2.2.2.2.2.2
  have h1 := oaZ_in (f := f) (N := (f 6).toNat)
  have h2 := ctZ_s (f := f) (f 6).toNat (fun i h0 h1 => (wd i h0 (by omega)).1)
  refine ⟨by omega, fun i h0 hi => ?_⟩
  obtain ⟨k, k0, k1, k2⟩ := h1.1.2 i h0 (by omega)
  have k3 := wd k k0 (by omega)
  unfold odZ
  rw [k2]
  exact ⟨by omega, k3⟩
theorem oaZ_r {f : Int → Int} {N : Nat} : ∀ r : Nat, OIn N (oaZ f N r) := by
  intro r
  induction r with
  | zero => exact ⟨Int.le_refl _, fun i h0 h1 => absurd h1 (by show ¬ i < 0; omega)⟩
  | succ r ih => exact (oiZ_in ih N (Nat.le_refl _)).1
theorem oaZ_le {f : Int → Int} (W : RWZ f) {N : Nat} (hN : f 6 = (N : Int)) : ∀ r : Nat, r ≤ 4 → ∀ j : Nat, j ≤ N → (oaZ f N r).2 ≤ N ∧ (r < 4 → (oiZ f (r : Int) (oaZ f N r) j).2 ≤ N ∧ (j < N → f (742 + 3 * (j : Int)) = r → (oiZ f (r : Int) (oaZ f N r) j).2 < N)) := by
  have wd := W.2.2.2.2.2.2.2
  have mono : ∀ (r : Int) (d j : Nat), ctZ f r j ≤ ctZ f r (j + d) := by
    intro r d
    induction d with
    | zero => intro j; exact Int.le_refl _
    | succ d ih => intro j; have := ih j; rw [show j + (d + 1) = (j + d) + 1 from rfl, ctZ]; split <;> omega
  have hs := ctZ_s (f := f) N (fun i h0 h1 => (wd i h0 (by omega)).1)
  have e : ∀ r : Nat, (oaZ f N (r + 1)).2 = (oaZ f N r).2 + ctZ f r N := fun r => (oiZ_in (oaZ_r r) N (Nat.le_refl _)).2
  have e0 : (oaZ f N 0).2 = 0 := rfl
  have e1 := e 0
  have e2 := e 1
  have e3 := e 2
  have e4 := e 3
  have b0 := ctZ_b f 0 N
  have b1 := ctZ_b f 1 N
  have b2 := ctZ_b f 2 N
  have b3 := ctZ_b f 3 N
  intro r hr j hj
  have m0 := mono (r : Int) (N - j) j
  rw [show j + (N - j) = N by omega] at m0
  have ej := (oiZ_in (f := f) (r := (r : Int)) (oaZ_r (f := f) (N := N) r) j hj).2
  have m1 : j < N → f (742 + 3 * (j : Int)) = r → ctZ f (r : Int) j + 1 ≤ ctZ f (r : Int) N := fun h1 h2 => by
    have := mono (r : Int) (N - (j + 1)) (j + 1)
    rw [show j + 1 + (N - (j + 1)) = N by omega, ctZ, if_pos h2] at this
    exact this
  have hr : r = 0 ∨ r = 1 ∨ r = 2 ∨ r = 3 ∨ r = 4 := by omega
  rcases hr with rfl | rfl | rfl | rfl | rfl
  · exact ⟨by simp at *; omega, fun _ => ⟨by simp at *; omega, fun h1 h2 => by have := m1 h1 h2; simp at *; omega⟩⟩
  · exact ⟨by simp at *; omega, fun _ => ⟨by simp at *; omega, fun h1 h2 => by have := m1 h1 h2; simp at *; omega⟩⟩
  · exact ⟨by simp at *; omega, fun _ => ⟨by simp at *; omega, fun h1 h2 => by have := m1 h1 h2; simp at *; omega⟩⟩
  · exact ⟨by simp at *; omega, fun _ => ⟨by simp at *; omega, fun h1 h2 => by have := m1 h1 h2; simp at *; omega⟩⟩
  · exact ⟨by simp at *; omega, fun h => absurd h (by decide)⟩
set_option maxHeartbeats 4000000 in
theorem iX10_findOrder {E : ET} {sh : SHT} {nn : Nat × Nat} {T : Nat} {z : ZT} {n1 r : Nat} {V0 : VT} (hT : MSh T sh) (W : RWZ (z.2 3)) (hn1 : z.2 3 6 = (n1 : Int)) (hr : r < 4) (K : ∀ (V : VT) (x3 : Option Value), PE T V z → Fr [T + 32] V0 V → (∀ i, 0 ≤ i → i < (oaZ (z.2 3) n1 (r + 1)).2 → V.1 (T + 32) i = (oaZ (z.2 3) n1 (r + 1)).1 i) → TGo E mX10_findOrder 1 4 [some (.ref T), some (.int (iI (oaZ (z.2 3) n1 ((r + 1))).2)), some (.int (iI ((((r + 1)) : Nat) : Int))), x3] [] sh nn V (fun o sh' nn' V' => o = .inl none ∧ sh' = sh ∧ nn' = nn ∧ PE T V' z ∧ Fr [T + 32] V0 V' ∧ ∀ i, 0 ≤ i → i < (n1 : Int) → V'.1 (T + 32) i = odZ (z.2 3) i)) : ∀ (n j : Nat) (V : VT), n1 - j < n → j ≤ n1 → PE T V z → (Fr [T + 32] V0 V ∧ (∀ i, 0 ≤ i → i < ((oiZ (z.2 3) (r : Int) (oaZ (z.2 3) n1 r) j)).2 → V.1 (T + 32) i = ((oiZ (z.2 3) (r : Int) (oaZ (z.2 3) n1 r) j)).1 i)) → TGo E mX10_findOrder 1 11 [some (.ref T), some (.int (iI (oiZ (z.2 3) (r : Int) (oaZ (z.2 3) n1 r) (j)).2)), some (.int (iI (r : Int))), some (.int (iI (((j) : Nat) : Int)))] [] sh nn V (fun o sh' nn' V' => o = .inl none ∧ sh' = sh ∧ nn' = nn ∧ PE T V' z ∧ Fr [T + 32] V0 V' ∧ ∀ i, 0 ≤ i → i < (n1 : Int) → V'.1 (T + 32) i = odZ (z.2 3) i) := by
  intro n
  induction n with
  | zero => intro j V h; omega
  | succ n ih =>
    intro j V hn hj hz hx
    have w6 := W.1.2.2.2.2.2.2.1
    have wd := W.2.2.2.2.2.2.2
    obtain ⟨hf, hx⟩ := hx
    have hle := (oaZ_le W hn1 r (by omega) j hj).2 hr
    have hoi := (oiZ_in (f := z.2 3) (r := (r : Int)) (oaZ_r (f := z.2 3) (N := n1) r) j hj).1.1
    refine TGo.il3 dX10_findOrder_11 rfl ?_
    refine TGo.al0 dX10_findOrder_12 rfl ?_
    refine TGo.getS (t := 18) 3 3 (T + 2) (hT 0 (by decide)) rfl fgX10_13_10 dX10_findOrder_13 rfl rfl rfl ?_
    refine TGo.bip 6 dX10_findOrder_16 (by decide) ?_
    refine TGo.iald dX10_findOrder_18 (hT 2 (by decide)) (by omega) rfl ?_
    refine TGo.toz _ (hz.2.1 3 (by decide) _) ?_
    refine TGo.icmp_ge 60 dX10_findOrder_19 (by decide) (by omega) (fun h19 => ?_) (fun h19 => ?_)
    · obtain rfl : j = n1 := by omega
      refine TGo.iinc dX10_findOrder_60 rfl rfl rfl ?_
      refine TGo.goto 4 dX10_findOrder_63 (by decide) ?_
      exact TGo.seq [some (.ref T), some (.int (iI (oaZ (z.2 3) j ((r + 1))).2)), some (.int (iI ((((r + 1)) : Nat) : Int))), some (.int (iI (j : Int)))] [] _ rfl rfl rfl (K _ _ hz hf hx)
    · refine TGo.al0 dX10_findOrder_22 rfl ?_
      refine TGo.getS (t := 18) 3 3 (T + 2) (hT 0 (by decide)) rfl fgX10_13_10 dX10_findOrder_23 rfl rfl rfl ?_
      have wdj := wd (j : Int) (by omega) (by omega)
      refine TGo.sip 742 dX10_findOrder_26 (by decide) ?_
      refine TGo.ic3 dX10_findOrder_29 ?_
      refine TGo.il3 dX10_findOrder_30 rfl ?_
      refine TGo.imul dX10_findOrder_31 ?_
      refine TGo.iadd dX10_findOrder_32 ?_
      refine TGo.iald dX10_findOrder_33 (hT 2 (by decide)) (by omega) rfl ?_
      refine TGo.toz _ (hz.2.1 3 (by decide) _) ?_
      refine TGo.il2 dX10_findOrder_34 rfl ?_
      refine TGo.icmp_ne 54 dX10_findOrder_35 (by decide) (by omega) (fun h35 => ?_) (fun h35 => ?_)
      · refine TGo.iinc dX10_findOrder_54 rfl rfl rfl ?_
        refine TGo.goto 11 dX10_findOrder_57 (by decide) ?_
        first | (exfalso; omega) | exact TGo.seq [some (.ref T), some (.int (iI (oiZ (z.2 3) (r : Int) (oaZ (z.2 3) n1 r) ((j + 1))).2)), some (.int (iI (r : Int))), some (.int (iI ((((j + 1)) : Nat) : Int)))] [] _ (by rw [oiZ]; first | (rw [if_pos (by omega)]; rfl) | (rw [if_neg (by omega)]; rfl)) rfl rfl (ih (j + 1) _ (by omega) (by omega) hz (by
          rw [oiZ]
          first
          | (rw [if_pos (by omega)]
             exact ⟨hf.i (by simp), fun i h0 h1 => by
               simp only at h1 ⊢
               by_cases e : i = (oiZ (z.2 3) (r : Int) (oaZ (z.2 3) n1 r) j).2
               · rw [e, zu_s]; exact u2_s
               · rw [zu_n e]; exact (u2_n (Or.inr e)).trans (hx i h0 (by omega))⟩)
          | (rw [if_neg (by omega)]
             exact ⟨hf, hx⟩)))
      · refine TGo.al0 dX10_findOrder_38 rfl ?_
        refine TGo.getS (t := 18) 61 61 (T + 32) (hT 0 (by decide)) rfl fgX10_133_10 dX10_findOrder_39 rfl rfl rfl ?_
        refine TGo.il1 dX10_findOrder_42 rfl ?_
        refine TGo.sip 742 dX10_findOrder_43 (by decide) ?_
        refine TGo.ic3 dX10_findOrder_46 ?_
        refine TGo.il3 dX10_findOrder_47 rfl ?_
        refine TGo.imul dX10_findOrder_48 ?_
        refine TGo.iadd dX10_findOrder_49 ?_
        refine TGo.iast dX10_findOrder_50 (hT 32 (by decide)) (by omega) rfl ?_
        refine TGo.iinc dX10_findOrder_51 rfl rfl rfl ?_
        refine TGo.iinc dX10_findOrder_54 rfl rfl rfl ?_
        refine TGo.goto 11 dX10_findOrder_57 (by decide) ?_
        first | (exfalso; omega) | exact TGo.seq [some (.ref T), some (.int (iI (oiZ (z.2 3) (r : Int) (oaZ (z.2 3) n1 r) ((j + 1))).2)), some (.int (iI (r : Int))), some (.int (iI ((((j + 1)) : Nat) : Int)))] [] _ (by rw [oiZ]; first | (rw [if_pos (by omega)]; rfl) | (rw [if_neg (by omega)]; rfl)) rfl rfl (ih (j + 1) _ (by omega) (by omega) (hz.t 32 rfl) (by
          rw [oiZ]
          first
          | (rw [if_pos (by omega)]
             exact ⟨hf.i (by simp), fun i h0 h1 => by
               simp only at h1 ⊢
               by_cases e : i = (oiZ (z.2 3) (r : Int) (oaZ (z.2 3) n1 r) j).2
               · rw [e, zu_s]; exact u2_s
               · rw [zu_n e]; exact (u2_n (Or.inr e)).trans (hx i h0 (by omega))⟩)
          | (rw [if_neg (by omega)]
             exact ⟨hf, hx⟩)))
set_option maxHeartbeats 4000000 in
theorem lX10_findOrder {E : ET} {sh : SHT} {nn : Nat × Nat} {T : Nat} {z : ZT} {n1 : Nat} {V0 : VT} (hT : MSh T sh) (W : RWZ (z.2 3)) (hn1 : z.2 3 6 = (n1 : Int)) : ∀ (n j : Nat) (V : VT) (x3 : Option Value), 4 - j < n → j ≤ 4 → PE T V z → (Fr [T + 32] V0 V ∧ (∀ i, 0 ≤ i → i < (oaZ (z.2 3) n1 j).2 → V.1 (T + 32) i = (oaZ (z.2 3) n1 j).1 i)) → TGo E mX10_findOrder 1 4 [some (.ref T), some (.int (iI (oaZ (z.2 3) n1 (j)).2)), some (.int (iI (((j) : Nat) : Int))), x3] [] sh nn V (fun o sh' nn' V' => o = .inl none ∧ sh' = sh ∧ nn' = nn ∧ PE T V' z ∧ Fr [T + 32] V0 V' ∧ ∀ i, 0 ≤ i → i < (n1 : Int) → V'.1 (T + 32) i = odZ (z.2 3) i) := by
  intro n
  induction n with
  | zero => intro j V x3 h; omega
  | succ n ih =>
    intro j V x3 hn hj hz hx
    have w6 := W.1.2.2.2.2.2.2.1
    have wd := W.2.2.2.2.2.2.2
    refine TGo.il2 dX10_findOrder_4 rfl ?_
    refine TGo.ic4 dX10_findOrder_5 ?_
    refine TGo.icmp_ge 66 dX10_findOrder_6 (by decide) (by omega) (fun h6 => ?_) (fun h6 => ?_)
    · refine TGo.vret dX10_findOrder_66 rfl ?_
      obtain rfl : j = 4 := by omega
      have ho := odZ_ok W
      rw [show (z.2 3 6).toNat = n1 by omega] at ho
      exact ⟨rfl, rfl, rfl, hz, hx.1, fun i h0 h1 => (hx.2 i h0 (by omega)).trans (by unfold odZ; rw [show (z.2 3 6).toNat = n1 by omega])⟩
    · refine TGo.ic0 dX10_findOrder_9 ?_
      refine TGo.is3 dX10_findOrder_10 rfl rfl ?_
      exact TGo.seq [some (.ref T), some (.int (iI (oiZ (z.2 3) (j : Int) (oaZ (z.2 3) n1 j) (0)).2)), some (.int (iI (j : Int))), some (.int (iI (((0) : Nat) : Int)))] [] _ rfl rfl rfl (iX10_findOrder (r := j) (V0 := V0) hT W hn1 (by omega) (fun V1 y3 hz1 hf1 hv1 => ih (j + 1) V1 y3 (by omega) (by omega) hz1 ⟨hf1, hv1⟩) (n1 + 1) 0 _ (by omega) (by omega) hz hx)
set_option maxHeartbeats 4000000 in
theorem kX10_findOrder {E : ET} {sh : SHT} {nn : Nat × Nat} {V : VT} {T : Nat} {z : ZT} {n1 : Nat} (hT : MSh T sh) (hz : PE T V z) (W : RWZ (z.2 3)) (hn1 : z.2 3 6 = (n1 : Int)) : TN E mX10_findOrder 1 [.ref T] sh nn V (fun V' => PE T V' z ∧ Fr [T + 32] V V' ∧ ∀ i, 0 ≤ i → i < (n1 : Int) → V'.1 (T + 32) i = odZ (z.2 3) i) := by
  refine TC.intro [some (.ref T), none, none, none] rfl ?_
  refine TGo.ic0 dX10_findOrder_0 ?_
  refine TGo.is1 dX10_findOrder_1 rfl rfl ?_
  refine TGo.ic0 dX10_findOrder_2 ?_
  refine TGo.is2 dX10_findOrder_3 rfl rfl ?_
  exact lX10_findOrder hT W hn1 5 0 _ _ (by omega) (by omega) hz ⟨Fr.rf, fun i h0 h1 => absurd h1 (by show ¬ i < 0; omega)⟩
abbrev laL (f o : Int → Int) (n : Nat) (k : Int) : Prop := k = (n : Int) - 1 ∨ f (o (k + 1)) ≠ f (o k)
set_option maxHeartbeats 4000000 in
theorem kX10_isLast {E : ET} {sh : SHT} {nn : Nat × Nat} {V : VT} {T : Nat} {z : ZT} {n1 : Nat} {o : Int → Int} {k : Int} (hT : MSh T sh) (hz : PE T V z) (hn1 : z.2 3 6 = (n1 : Int)) (hn12 : n1 ≤ 12) (hof : OF (z.2 3) o n1) (hov : ∀ i, 0 ≤ i → i < (n1 : Int) → V.1 (T + 32) i = o i) (hk : 0 ≤ k ∧ k < (n1 : Int)) : TF E mX10_isLast 1 [.ref T, .int (iI k)] sh nn V (.int (iI (bZ (laL (z.2 3) o n1 k)))) := by
  have hk0 := hof k hk.1 hk.2
  refine TC.intro [some (.ref T), some (.int (iI k))] rfl ?_
  refine TGo.il1 dX10_isLast_0 rfl ?_
  refine TGo.al0 dX10_isLast_1 rfl ?_
  refine TGo.getS (t := 18) 3 3 (T + 2) (hT 0 (by decide)) rfl fgX10_13_10 dX10_isLast_2 rfl rfl rfl ?_
  refine TGo.bip 6 dX10_isLast_5 (by decide) ?_
  refine TGo.iald dX10_isLast_7 (hT 2 (by decide)) (by omega) rfl ?_
  refine TGo.toz _ (hz.2.1 3 (by decide) _) ?_
  refine TGo.ic1 dX10_isLast_8 ?_
  refine TGo.isub dX10_isLast_9 ?_
  refine TGo.icmp_eq 40 dX10_isLast_10 (by decide) (by omega) (fun h10 => ?_) (fun h10 => ?_)
  · refine TGo.ic1 dX10_isLast_40 ?_
    refine TGo.goto 45 dX10_isLast_41 (by decide) ?_
    refine TGo.zret dX10_isLast_45 rfl (by first | exact Or.inl rfl | exact Or.inr rfl | exact bZ_or _ | assumption) ?_
    refine leafF ?_
    first | exact (bZ_t (by omega)).symm | exact (bZ_f (by omega)).symm
  · have hk1 := hof (k + 1) (by omega) (by omega)
    refine TGo.al0 dX10_isLast_13 rfl ?_
    refine TGo.getS (t := 18) 3 3 (T + 2) (hT 0 (by decide)) rfl fgX10_13_10 dX10_isLast_14 rfl rfl rfl ?_
    refine TGo.al0 dX10_isLast_17 rfl ?_
    refine TGo.getS (t := 18) 61 61 (T + 32) (hT 0 (by decide)) rfl fgX10_133_10 dX10_isLast_18 rfl rfl rfl ?_
    refine TGo.il1 dX10_isLast_21 rfl ?_
    refine TGo.ic1 dX10_isLast_22 ?_
    refine TGo.iadd dX10_isLast_23 ?_
    refine TGo.iald dX10_isLast_24 (hT 32 (by decide)) (by omega) rfl ?_
    refine TGo.toz (o (k + 1)) (hov _ (by omega) (by omega)) ?_
    refine TGo.iald dX10_isLast_25 (hT 2 (by decide)) (by omega) rfl ?_
    refine TGo.toz _ (hz.2.1 3 (by decide) _) ?_
    refine TGo.al0 dX10_isLast_26 rfl ?_
    refine TGo.getS (t := 18) 3 3 (T + 2) (hT 0 (by decide)) rfl fgX10_13_10 dX10_isLast_27 rfl rfl rfl ?_
    refine TGo.al0 dX10_isLast_30 rfl ?_
    refine TGo.getS (t := 18) 61 61 (T + 32) (hT 0 (by decide)) rfl fgX10_133_10 dX10_isLast_31 rfl rfl rfl ?_
    refine TGo.il1 dX10_isLast_34 rfl ?_
    refine TGo.iald dX10_isLast_35 (hT 32 (by decide)) (by omega) rfl ?_
    refine TGo.toz (o k) (hov _ (by omega) (by omega)) ?_
    refine TGo.iald dX10_isLast_36 (hT 2 (by decide)) (by omega) rfl ?_
    refine TGo.toz _ (hz.2.1 3 (by decide) _) ?_
    refine TGo.icmp_eq 44 dX10_isLast_37 (by decide) (by omega) (fun h37 => ?_) (fun h37 => ?_)
    · refine TGo.ic0 dX10_isLast_44 ?_
      refine TGo.zret dX10_isLast_45 rfl (by first | exact Or.inl rfl | exact Or.inr rfl | exact bZ_or _ | assumption) ?_
      refine leafF ?_
      first | exact (bZ_t (by omega)).symm | exact (bZ_f (by omega)).symm
    · refine TGo.ic1 dX10_isLast_40 ?_
      refine TGo.goto 45 dX10_isLast_41 (by decide) ?_
      refine TGo.zret dX10_isLast_45 rfl (by first | exact Or.inl rfl | exact Or.inr rfl | exact bZ_or _ | assumption) ?_
      refine leafF ?_
      first | exact (bZ_t (by omega)).symm | exact (bZ_f (by omega)).symm
def LSV (T : Nat) (V : VT) (W N : Int → Int) : Prop := (∀ i, 0 ≤ i → i < 18 → V.1 (T + 34) i = W i) ∧ ∀ i, 0 ≤ i → i < 18 → V.1 (T + 35) i = N i
def FrB (T : Nat) (k : Int) (V V' : VT) : Prop := (∀ c i, c ≠ T + 34 → c ≠ T + 35 → ((c = T + 36 ∨ c = T + 37) → i ≠ k) → V'.1 c i = V.1 c i) ∧ V'.2 = V.2
theorem FrB.rf {T : Nat} {k : Int} {V : VT} : FrB T k V V := ⟨fun _ _ _ _ _ => rfl, rfl⟩
theorem FrB.i {T : Nat} {k : Int} {V V' : VT} {a : Nat} {j v : Int} (h : FrB T k V V') (ha : a = T + 34 ∨ a = T + 35 ∨ ((a = T + 36 ∨ a = T + 37) ∧ j = k)) : FrB T k V (vI V' a j v) := ⟨fun c i h1 h2 h3 => (u2_n (by omega)).trans (h.1 c i h1 h2 h3), h.2⟩
def FrG (T : Nat) (k : Int) (V V' : VT) : Prop := (∀ c i, c ≠ T + 34 → c ≠ T + 35 → ((c = T + 36 ∨ c = T + 37 ∨ c = T + 39) → i ≠ k) → ((c = T + 33 ∨ c = T + 38) → i ≠ k + 1) → V'.1 c i = V.1 c i) ∧ V'.2 = V.2
theorem FrG.rf {T : Nat} {k : Int} {V : VT} : FrG T k V V := ⟨fun _ _ _ _ _ _ => rfl, rfl⟩
theorem FrG.i {T : Nat} {k : Int} {V V' : VT} {a : Nat} {j v : Int} (h : FrG T k V V') (ha : a = T + 34 ∨ a = T + 35 ∨ ((a = T + 36 ∨ a = T + 37 ∨ a = T + 39) ∧ j = k) ∨ ((a = T + 33 ∨ a = T + 38) ∧ j = k + 1)) : FrG T k V (vI V' a j v) := ⟨fun c i h1 h2 h3 h4 => (u2_n (by omega)).trans (h.1 c i h1 h2 h3 h4), h.2⟩
def RGZ (W N : Int → Int) (mo : Int) : Prop := (∀ i, 0 ≤ i → i < 18 → -1 ≤ W i ∧ W i ≤ 9) ∧ ∀ i, 0 ≤ i → i < 18 → -1 ≤ N i ∧ N i < mo
set_option maxHeartbeats 4000000 in
theorem kX10_takeBack {E : ET} {sh : SHT} {nn : Nat × Nat} {V : VT} {T : Nat} {z : ZT} {mo oq at0 a b : Int} {Wd Nx : Int → Int} {k : Int} (hT : MSh T sh) (hz : PE T V z) (hmo : 1 ≤ mo ∧ mo ≤ 3) (hk : 0 ≤ k ∧ k < 12) (hoq : (742 ≤ oq ∧ oq ≤ 775) ∧ 0 ≤ z.2 3 (oq + 1) ∧ z.2 3 (oq + 1) < 6) (ho : V.1 (T + 32) k = oq) (hsa : V.1 (T + 33) k = at0) (hat : 0 ≤ at0 ∧ at0 < mo) (hl : LSV T V Wd Nx) (hr : RGZ Wd Nx mo) (ha : V.1 (T + 36) k = a) (hb : V.1 (T + 37) k = b) (ha1 : a = 0 ∨ a = 1) (hb1 : b = 0 ∨ b = 1) : TN E mX10_takeBack 1 [.ref T, .int (iI k)] sh nn V (fun V' => PE T V' z ∧ LSV T V' (if a = 0 then Wd else zu Wd (6 * at0 + z.2 3 (oq + 1)) (-1)) (if b = 0 then Nx else zu Nx (6 * at0 + z.2 3 (oq + 1)) (-1)) ∧ (V'.1 (T + 36) k = 0 ∧ V'.1 (T + 37) k = 0) ∧ FrB T k V V') := by
  have hW := hr.1 (6 * at0 + z.2 3 (oq + 1)) (by omega) (by omega)
  have hN := hr.2 (6 * at0 + z.2 3 (oq + 1)) (by omega) (by omega)
  refine TC.intro [some (.ref T), some (.int (iI k)), none] rfl ?_
  refine TGo.bip 6 dX10_takeBack_0 (by decide) ?_
  refine TGo.al0 dX10_takeBack_2 rfl ?_
  refine TGo.getS (t := 18) 62 62 (T + 33) (hT 0 (by decide)) rfl fgX10_136_10 dX10_takeBack_3 rfl rfl rfl ?_
  refine TGo.il1 dX10_takeBack_6 rfl ?_
  refine TGo.iald dX10_takeBack_7 (hT 33 (by decide)) (by omega) rfl ?_
  refine TGo.toz at0 hsa ?_
  refine TGo.imul dX10_takeBack_8 ?_
  refine TGo.al0 dX10_takeBack_9 rfl ?_
  refine TGo.getS (t := 18) 3 3 (T + 2) (hT 0 (by decide)) rfl fgX10_13_10 dX10_takeBack_10 rfl rfl rfl ?_
  refine TGo.al0 dX10_takeBack_13 rfl ?_
  refine TGo.getS (t := 18) 61 61 (T + 32) (hT 0 (by decide)) rfl fgX10_133_10 dX10_takeBack_14 rfl rfl rfl ?_
  refine TGo.il1 dX10_takeBack_17 rfl ?_
  refine TGo.iald dX10_takeBack_18 (hT 32 (by decide)) (by omega) rfl ?_
  refine TGo.toz oq ho ?_
  refine TGo.ic1 dX10_takeBack_19 ?_
  refine TGo.iadd dX10_takeBack_20 ?_
  refine TGo.iald dX10_takeBack_21 (hT 2 (by decide)) (by omega) rfl ?_
  refine TGo.toz _ (hz.2.1 3 (by decide) _) ?_
  refine TGo.iadd dX10_takeBack_22 ?_
  refine TGo.toz (6 * at0 + z.2 3 (oq + 1)) (by omega) ?_
  refine TGo.is2 dX10_takeBack_23 rfl rfl ?_
  refine TGo.al0 dX10_takeBack_24 rfl ?_
  refine TGo.getS (t := 18) 63 63 (T + 34) (hT 0 (by decide)) rfl fgX10_139_10 dX10_takeBack_25 rfl rfl rfl ?_
  refine TGo.il2 dX10_takeBack_28 rfl ?_
  refine TGo.al0 dX10_takeBack_29 rfl ?_
  refine TGo.getS (t := 18) 65 65 (T + 36) (hT 0 (by decide)) rfl fgX10_145_10 dX10_takeBack_30 rfl rfl rfl ?_
  refine TGo.il1 dX10_takeBack_33 rfl ?_
  refine TGo.zald dX10_takeBack_34 (hT 36 (by decide)) (by omega) rfl ?_
  refine TGo.toz a ha ?_
  refine TGo.if_eq 42 dX10_takeBack_35 (by decide) (by omega) (fun h35 => ?_) (fun h35 => ?_)
  · refine TGo.al0 dX10_takeBack_42 rfl ?_
    refine TGo.getS (t := 18) 63 63 (T + 34) (hT 0 (by decide)) rfl fgX10_139_10 dX10_takeBack_43 rfl rfl rfl ?_
    refine TGo.il2 dX10_takeBack_46 rfl ?_
    refine TGo.iald dX10_takeBack_47 (hT 34 (by decide)) (by omega) rfl ?_
    refine TGo.iast dX10_takeBack_48 (hT 34 (by decide)) (by omega) rfl ?_
    refine TGo.al0 dX10_takeBack_49 rfl ?_
    refine TGo.getS (t := 18) 64 64 (T + 35) (hT 0 (by decide)) rfl fgX10_142_10 dX10_takeBack_50 rfl rfl rfl ?_
    refine TGo.il2 dX10_takeBack_53 rfl ?_
    refine TGo.al0 dX10_takeBack_54 rfl ?_
    refine TGo.getS (t := 18) 66 66 (T + 37) (hT 0 (by decide)) rfl fgX10_148_10 dX10_takeBack_55 rfl rfl rfl ?_
    refine TGo.il1 dX10_takeBack_58 rfl ?_
    refine TGo.zald dX10_takeBack_59 (hT 37 (by decide)) (by omega) rfl ?_
    refine TGo.toz _ (u2_n (Or.inl (by omega))) ?_
    refine TGo.toz b hb ?_
    refine TGo.if_eq 67 dX10_takeBack_60 (by decide) (by omega) (fun h60 => ?_) (fun h60 => ?_)
    · refine TGo.al0 dX10_takeBack_67 rfl ?_
      refine TGo.getS (t := 18) 64 64 (T + 35) (hT 0 (by decide)) rfl fgX10_142_10 dX10_takeBack_68 rfl rfl rfl ?_
      refine TGo.il2 dX10_takeBack_71 rfl ?_
      refine TGo.iald dX10_takeBack_72 (hT 35 (by decide)) (by omega) rfl ?_
      refine TGo.toz _ (u2_n (Or.inl (by omega))) ?_
      refine TGo.iast dX10_takeBack_73 (hT 35 (by decide)) (by omega) rfl ?_
      refine TGo.al0 dX10_takeBack_74 rfl ?_
      refine TGo.getS (t := 18) 65 65 (T + 36) (hT 0 (by decide)) rfl fgX10_145_10 dX10_takeBack_75 rfl rfl rfl ?_
      refine TGo.il1 dX10_takeBack_78 rfl ?_
      refine TGo.ic0 dX10_takeBack_79 ?_
      refine TGo.zast dX10_takeBack_80 (hT 36 (by decide)) (by omega) rfl (by first | exact Or.inl rfl | exact Or.inr rfl | exact bZ_or _ | assumption) ?_
      refine TGo.al0 dX10_takeBack_81 rfl ?_
      refine TGo.getS (t := 18) 66 66 (T + 37) (hT 0 (by decide)) rfl fgX10_148_10 dX10_takeBack_82 rfl rfl rfl ?_
      refine TGo.il1 dX10_takeBack_85 rfl ?_
      refine TGo.ic0 dX10_takeBack_86 ?_
      refine TGo.zast dX10_takeBack_87 (hT 37 (by decide)) (by omega) rfl (by first | exact Or.inl rfl | exact Or.inr rfl | exact bZ_or _ | assumption) ?_
      refine TGo.vret dX10_takeBack_88 rfl ?_
      refine ⟨rfl, rfl, rfl, ((((hz.t 34 rfl).t 35 rfl).t 36 rfl).t 37 rfl), ⟨fun i h0 h1 => ?_, fun i h0 h1 => ?_⟩, ⟨(u2_n (Or.inl (by omega))).trans u2_s, u2_s⟩, (((FrB.rf.i (by simp)).i (by simp)).i (by simp)).i (by simp)⟩
      · refine (u2_n (Or.inl (by omega))).trans ((u2_n (Or.inl (by omega))).trans ((u2_n (Or.inl (by omega))).trans ?_))
        first | rw [if_pos (by omega)] | rw [if_neg (by omega)]
        by_cases e : i = (6 * at0 + z.2 3 (oq + 1))
        · rw [e]; first | exact u2_s.trans zu_s.symm | exact u2_s.trans (hl.1 _ (by omega) (by omega)) | exact u2_s
        · refine (u2_n (Or.inr e)).trans ?_
          first | exact (hl.1 i h0 h1).trans (zu_n e).symm | exact hl.1 i h0 h1
      · refine (u2_n (Or.inl (by omega))).trans ((u2_n (Or.inl (by omega))).trans ?_)
        first | rw [if_pos (by omega)] | rw [if_neg (by omega)]
        by_cases e : i = (6 * at0 + z.2 3 (oq + 1))
        · rw [e]; first | exact u2_s.trans zu_s.symm | exact u2_s.trans (hl.2 _ (by omega) (by omega)) | exact u2_s.trans ((u2_n (Or.inl (by omega))).trans (hl.2 _ (by omega) (by omega))) | exact u2_s
        · refine (u2_n (Or.inr e)).trans ((u2_n (Or.inl (by omega))).trans ?_)
          first | exact (hl.2 i h0 h1).trans (zu_n e).symm | exact hl.2 i h0 h1
    · refine TGo.icm1 dX10_takeBack_63 ?_
      refine TGo.goto 73 dX10_takeBack_64 (by decide) ?_
      refine TGo.iast dX10_takeBack_73 (hT 35 (by decide)) (by omega) rfl ?_
      refine TGo.al0 dX10_takeBack_74 rfl ?_
      refine TGo.getS (t := 18) 65 65 (T + 36) (hT 0 (by decide)) rfl fgX10_145_10 dX10_takeBack_75 rfl rfl rfl ?_
      refine TGo.il1 dX10_takeBack_78 rfl ?_
      refine TGo.ic0 dX10_takeBack_79 ?_
      refine TGo.zast dX10_takeBack_80 (hT 36 (by decide)) (by omega) rfl (by first | exact Or.inl rfl | exact Or.inr rfl | exact bZ_or _ | assumption) ?_
      refine TGo.al0 dX10_takeBack_81 rfl ?_
      refine TGo.getS (t := 18) 66 66 (T + 37) (hT 0 (by decide)) rfl fgX10_148_10 dX10_takeBack_82 rfl rfl rfl ?_
      refine TGo.il1 dX10_takeBack_85 rfl ?_
      refine TGo.ic0 dX10_takeBack_86 ?_
      refine TGo.zast dX10_takeBack_87 (hT 37 (by decide)) (by omega) rfl (by first | exact Or.inl rfl | exact Or.inr rfl | exact bZ_or _ | assumption) ?_
      refine TGo.vret dX10_takeBack_88 rfl ?_
      refine ⟨rfl, rfl, rfl, ((((hz.t 34 rfl).t 35 rfl).t 36 rfl).t 37 rfl), ⟨fun i h0 h1 => ?_, fun i h0 h1 => ?_⟩, ⟨(u2_n (Or.inl (by omega))).trans u2_s, u2_s⟩, (((FrB.rf.i (by simp)).i (by simp)).i (by simp)).i (by simp)⟩
      · refine (u2_n (Or.inl (by omega))).trans ((u2_n (Or.inl (by omega))).trans ((u2_n (Or.inl (by omega))).trans ?_))
        first | rw [if_pos (by omega)] | rw [if_neg (by omega)]
        by_cases e : i = (6 * at0 + z.2 3 (oq + 1))
        · rw [e]; first | exact u2_s.trans zu_s.symm | exact u2_s.trans (hl.1 _ (by omega) (by omega)) | exact u2_s
        · refine (u2_n (Or.inr e)).trans ?_
          first | exact (hl.1 i h0 h1).trans (zu_n e).symm | exact hl.1 i h0 h1
      · refine (u2_n (Or.inl (by omega))).trans ((u2_n (Or.inl (by omega))).trans ?_)
        first | rw [if_pos (by omega)] | rw [if_neg (by omega)]
        by_cases e : i = (6 * at0 + z.2 3 (oq + 1))
        · rw [e]; first | exact u2_s.trans zu_s.symm | exact u2_s.trans (hl.2 _ (by omega) (by omega)) | exact u2_s.trans ((u2_n (Or.inl (by omega))).trans (hl.2 _ (by omega) (by omega))) | exact u2_s
        · refine (u2_n (Or.inr e)).trans ((u2_n (Or.inl (by omega))).trans ?_)
          first | exact (hl.2 i h0 h1).trans (zu_n e).symm | exact hl.2 i h0 h1
  · refine TGo.icm1 dX10_takeBack_38 ?_
    refine TGo.goto 48 dX10_takeBack_39 (by decide) ?_
    refine TGo.iast dX10_takeBack_48 (hT 34 (by decide)) (by omega) rfl ?_
    refine TGo.al0 dX10_takeBack_49 rfl ?_
    refine TGo.getS (t := 18) 64 64 (T + 35) (hT 0 (by decide)) rfl fgX10_142_10 dX10_takeBack_50 rfl rfl rfl ?_
    refine TGo.il2 dX10_takeBack_53 rfl ?_
    refine TGo.al0 dX10_takeBack_54 rfl ?_
    refine TGo.getS (t := 18) 66 66 (T + 37) (hT 0 (by decide)) rfl fgX10_148_10 dX10_takeBack_55 rfl rfl rfl ?_
    refine TGo.il1 dX10_takeBack_58 rfl ?_
    refine TGo.zald dX10_takeBack_59 (hT 37 (by decide)) (by omega) rfl ?_
    refine TGo.toz _ (u2_n (Or.inl (by omega))) ?_
    refine TGo.toz b hb ?_
    refine TGo.if_eq 67 dX10_takeBack_60 (by decide) (by omega) (fun h60 => ?_) (fun h60 => ?_)
    · refine TGo.al0 dX10_takeBack_67 rfl ?_
      refine TGo.getS (t := 18) 64 64 (T + 35) (hT 0 (by decide)) rfl fgX10_142_10 dX10_takeBack_68 rfl rfl rfl ?_
      refine TGo.il2 dX10_takeBack_71 rfl ?_
      refine TGo.iald dX10_takeBack_72 (hT 35 (by decide)) (by omega) rfl ?_
      refine TGo.toz _ (u2_n (Or.inl (by omega))) ?_
      refine TGo.iast dX10_takeBack_73 (hT 35 (by decide)) (by omega) rfl ?_
      refine TGo.al0 dX10_takeBack_74 rfl ?_
      refine TGo.getS (t := 18) 65 65 (T + 36) (hT 0 (by decide)) rfl fgX10_145_10 dX10_takeBack_75 rfl rfl rfl ?_
      refine TGo.il1 dX10_takeBack_78 rfl ?_
      refine TGo.ic0 dX10_takeBack_79 ?_
      refine TGo.zast dX10_takeBack_80 (hT 36 (by decide)) (by omega) rfl (by first | exact Or.inl rfl | exact Or.inr rfl | exact bZ_or _ | assumption) ?_
      refine TGo.al0 dX10_takeBack_81 rfl ?_
      refine TGo.getS (t := 18) 66 66 (T + 37) (hT 0 (by decide)) rfl fgX10_148_10 dX10_takeBack_82 rfl rfl rfl ?_
      refine TGo.il1 dX10_takeBack_85 rfl ?_
      refine TGo.ic0 dX10_takeBack_86 ?_
      refine TGo.zast dX10_takeBack_87 (hT 37 (by decide)) (by omega) rfl (by first | exact Or.inl rfl | exact Or.inr rfl | exact bZ_or _ | assumption) ?_
      refine TGo.vret dX10_takeBack_88 rfl ?_
      refine ⟨rfl, rfl, rfl, ((((hz.t 34 rfl).t 35 rfl).t 36 rfl).t 37 rfl), ⟨fun i h0 h1 => ?_, fun i h0 h1 => ?_⟩, ⟨(u2_n (Or.inl (by omega))).trans u2_s, u2_s⟩, (((FrB.rf.i (by simp)).i (by simp)).i (by simp)).i (by simp)⟩
      · refine (u2_n (Or.inl (by omega))).trans ((u2_n (Or.inl (by omega))).trans ((u2_n (Or.inl (by omega))).trans ?_))
        first | rw [if_pos (by omega)] | rw [if_neg (by omega)]
        by_cases e : i = (6 * at0 + z.2 3 (oq + 1))
        · rw [e]; first | exact u2_s.trans zu_s.symm | exact u2_s.trans (hl.1 _ (by omega) (by omega)) | exact u2_s
        · refine (u2_n (Or.inr e)).trans ?_
          first | exact (hl.1 i h0 h1).trans (zu_n e).symm | exact hl.1 i h0 h1
      · refine (u2_n (Or.inl (by omega))).trans ((u2_n (Or.inl (by omega))).trans ?_)
        first | rw [if_pos (by omega)] | rw [if_neg (by omega)]
        by_cases e : i = (6 * at0 + z.2 3 (oq + 1))
        · rw [e]; first | exact u2_s.trans zu_s.symm | exact u2_s.trans (hl.2 _ (by omega) (by omega)) | exact u2_s.trans ((u2_n (Or.inl (by omega))).trans (hl.2 _ (by omega) (by omega))) | exact u2_s
        · refine (u2_n (Or.inr e)).trans ((u2_n (Or.inl (by omega))).trans ?_)
          first | exact (hl.2 i h0 h1).trans (zu_n e).symm | exact hl.2 i h0 h1
    · refine TGo.icm1 dX10_takeBack_63 ?_
      refine TGo.goto 73 dX10_takeBack_64 (by decide) ?_
      refine TGo.iast dX10_takeBack_73 (hT 35 (by decide)) (by omega) rfl ?_
      refine TGo.al0 dX10_takeBack_74 rfl ?_
      refine TGo.getS (t := 18) 65 65 (T + 36) (hT 0 (by decide)) rfl fgX10_145_10 dX10_takeBack_75 rfl rfl rfl ?_
      refine TGo.il1 dX10_takeBack_78 rfl ?_
      refine TGo.ic0 dX10_takeBack_79 ?_
      refine TGo.zast dX10_takeBack_80 (hT 36 (by decide)) (by omega) rfl (by first | exact Or.inl rfl | exact Or.inr rfl | exact bZ_or _ | assumption) ?_
      refine TGo.al0 dX10_takeBack_81 rfl ?_
      refine TGo.getS (t := 18) 66 66 (T + 37) (hT 0 (by decide)) rfl fgX10_148_10 dX10_takeBack_82 rfl rfl rfl ?_
      refine TGo.il1 dX10_takeBack_85 rfl ?_
      refine TGo.ic0 dX10_takeBack_86 ?_
      refine TGo.zast dX10_takeBack_87 (hT 37 (by decide)) (by omega) rfl (by first | exact Or.inl rfl | exact Or.inr rfl | exact bZ_or _ | assumption) ?_
      refine TGo.vret dX10_takeBack_88 rfl ?_
      refine ⟨rfl, rfl, rfl, ((((hz.t 34 rfl).t 35 rfl).t 36 rfl).t 37 rfl), ⟨fun i h0 h1 => ?_, fun i h0 h1 => ?_⟩, ⟨(u2_n (Or.inl (by omega))).trans u2_s, u2_s⟩, (((FrB.rf.i (by simp)).i (by simp)).i (by simp)).i (by simp)⟩
      · refine (u2_n (Or.inl (by omega))).trans ((u2_n (Or.inl (by omega))).trans ((u2_n (Or.inl (by omega))).trans ?_))
        first | rw [if_pos (by omega)] | rw [if_neg (by omega)]
        by_cases e : i = (6 * at0 + z.2 3 (oq + 1))
        · rw [e]; first | exact u2_s.trans zu_s.symm | exact u2_s.trans (hl.1 _ (by omega) (by omega)) | exact u2_s
        · refine (u2_n (Or.inr e)).trans ?_
          first | exact (hl.1 i h0 h1).trans (zu_n e).symm | exact hl.1 i h0 h1
      · refine (u2_n (Or.inl (by omega))).trans ((u2_n (Or.inl (by omega))).trans ?_)
        first | rw [if_pos (by omega)] | rw [if_neg (by omega)]
        by_cases e : i = (6 * at0 + z.2 3 (oq + 1))
        · rw [e]; first | exact u2_s.trans zu_s.symm | exact u2_s.trans (hl.2 _ (by omega) (by omega)) | exact u2_s.trans ((u2_n (Or.inl (by omega))).trans (hl.2 _ (by omega) (by omega))) | exact u2_s
        · refine (u2_n (Or.inr e)).trans ((u2_n (Or.inl (by omega))).trans ?_)
          first | exact (hl.2 i h0 h1).trans (zu_n e).symm | exact hl.2 i h0 h1
def tyL (fr : Prop) [Decidable fr] (met mo : Int) : Int := if fr then (if met < mo then met + 1 else met) else 1
set_option maxHeartbeats 4000000 in
theorem kX10_goesOn {E : ET} {sh : SHT} {nn : Nat × Nat} {V : VT} {T : Nat} {z : ZT} {n1 : Nat} {o : Int → Int} {at0 t met : Int} {Wd Nx : Int → Int} {k mo : Int} (hT : MSh T sh) (hz : PE T V z) (hn1 : z.2 3 6 = (n1 : Int)) (hn12 : n1 ≤ 12) (hof : OF (z.2 3) o n1) (hov : ∀ i, 0 ≤ i → i < (n1 : Int) → V.1 (T + 32) i = o i) (hmo : 1 ≤ mo ∧ mo ≤ 3) (hk : 0 ≤ k ∧ k < (n1 : Int)) (hsa : V.1 (T + 33) k = at0) (hat : 0 ≤ at0 ∧ at0 < mo) (hl : LSV T V Wd Nx) (hr : RGZ Wd Nx mo) (ha : V.1 (T + 36) k = 0) (hb : V.1 (T + 37) k = 0) (htr : V.1 (T + 39) k = t - 1) (ht : 0 ≤ t ∧ t ≤ 4) (hsh : V.1 (T + 38) k = met) (hmet : 1 ≤ met ∧ met ≤ mo) : TS E mX10_goesOn 2 [.ref T, .int (iI k), .int (iI mo)] sh nn V (fun v V' => PE T V' z ∧ FrG T k V V' ∧ ((v = .int (iI 0) ∧ ((Wd (6 * at0 + z.2 3 (o k + 1)) ≠ -1 ∧ Wd (6 * at0 + z.2 3 (o k + 1)) ≠ z.2 3 (o k + 2)) ∨ (tyL (Nx (6 * at0 + z.2 3 (o k + 1)) = -1 ∧ ¬ laL (z.2 3) o n1 k) met mo) ≤ t) ∧ LSV T V' Wd Nx ∧ V'.1 (T + 36) k = 0 ∧ V'.1 (T + 37) k = 0) ∨ (v = .int (iI 1) ∧ ¬ (Wd (6 * at0 + z.2 3 (o k + 1)) ≠ -1 ∧ Wd (6 * at0 + z.2 3 (o k + 1)) ≠ z.2 3 (o k + 2)) ∧ t < (tyL (Nx (6 * at0 + z.2 3 (o k + 1)) = -1 ∧ ¬ laL (z.2 3) o n1 k) met mo) ∧ LSV T V' (zu Wd (6 * at0 + z.2 3 (o k + 1)) (z.2 3 (o k + 2))) (if (Nx (6 * at0 + z.2 3 (o k + 1)) = -1 ∧ ¬ laL (z.2 3) o n1 k) then zu Nx (6 * at0 + z.2 3 (o k + 1)) t else Nx) ∧ V'.1 (T + 39) k = t ∧ V'.1 (T + 36) k = bZ (Wd (6 * at0 + z.2 3 (o k + 1)) = -1) ∧ V'.1 (T + 37) k = bZ (Nx (6 * at0 + z.2 3 (o k + 1)) = -1 ∧ ¬ laL (z.2 3) o n1 k) ∧ V'.1 (T + 33) (k + 1) = (if laL (z.2 3) o n1 k then 0 else (if (Nx (6 * at0 + z.2 3 (o k + 1)) = -1 ∧ ¬ laL (z.2 3) o n1 k) then zu Nx (6 * at0 + z.2 3 (o k + 1)) t else Nx) (6 * at0 + z.2 3 (o k + 1))) ∧ V'.1 (T + 38) (k + 1) = if (Nx (6 * at0 + z.2 3 (o k + 1)) = -1 ∧ ¬ laL (z.2 3) o n1 k) ∧ t = met then met + 1 else met))) := by
  have hk0 := hof k hk.1 hk.2
  have hW := hr.1 (6 * at0 + z.2 3 (o k + 1)) (by omega) (by omega)
  have hN := hr.2 (6 * at0 + z.2 3 (o k + 1)) (by omega) (by omega)
  have hla := bZ_cs (laL (z.2 3) o n1 k)
  refine TC.intro [some (.ref T), some (.int (iI k)), some (.int (iI mo)), none, none, none, none] rfl ?_
  refine TGo.bip 6 dX10_goesOn_0 (by decide) ?_
  refine TGo.al0 dX10_goesOn_2 rfl ?_
  refine TGo.getS (t := 18) 62 62 (T + 33) (hT 0 (by decide)) rfl fgX10_136_10 dX10_goesOn_3 rfl rfl rfl ?_
  refine TGo.il1 dX10_goesOn_6 rfl ?_
  refine TGo.iald dX10_goesOn_7 (hT 33 (by decide)) (by omega) rfl ?_
  refine TGo.toz at0 (hsa) ?_
  refine TGo.imul dX10_goesOn_8 ?_
  refine TGo.al0 dX10_goesOn_9 rfl ?_
  refine TGo.getS (t := 18) 3 3 (T + 2) (hT 0 (by decide)) rfl fgX10_13_10 dX10_goesOn_10 rfl rfl rfl ?_
  refine TGo.al0 dX10_goesOn_13 rfl ?_
  refine TGo.getS (t := 18) 61 61 (T + 32) (hT 0 (by decide)) rfl fgX10_133_10 dX10_goesOn_14 rfl rfl rfl ?_
  refine TGo.il1 dX10_goesOn_17 rfl ?_
  refine TGo.iald dX10_goesOn_18 (hT 32 (by decide)) (by omega) rfl ?_
  refine TGo.toz (o k) (hov _ (by omega) (by omega)) ?_
  refine TGo.ic1 dX10_goesOn_19 ?_
  refine TGo.iadd dX10_goesOn_20 ?_
  refine TGo.iald dX10_goesOn_21 (hT 2 (by decide)) (by omega) rfl ?_
  refine TGo.toz _ (hz.2.1 3 (by decide) _) ?_
  refine TGo.iadd dX10_goesOn_22 ?_
  refine TGo.toz (6 * at0 + z.2 3 (o k + 1)) (by omega) ?_
  refine TGo.is3 dX10_goesOn_23 rfl rfl ?_
  refine TGo.al0 dX10_goesOn_24 rfl ?_
  refine TGo.getS (t := 18) 3 3 (T + 2) (hT 0 (by decide)) rfl fgX10_13_10 dX10_goesOn_25 rfl rfl rfl ?_
  refine TGo.al0 dX10_goesOn_28 rfl ?_
  refine TGo.getS (t := 18) 61 61 (T + 32) (hT 0 (by decide)) rfl fgX10_133_10 dX10_goesOn_29 rfl rfl rfl ?_
  refine TGo.il1 dX10_goesOn_32 rfl ?_
  refine TGo.iald dX10_goesOn_33 (hT 32 (by decide)) (by omega) rfl ?_
  refine TGo.toz (o k) (hov _ (by omega) (by omega)) ?_
  refine TGo.ic2 dX10_goesOn_34 ?_
  refine TGo.iadd dX10_goesOn_35 ?_
  refine TGo.iald dX10_goesOn_36 (hT 2 (by decide)) (by omega) rfl ?_
  refine TGo.toz _ (hz.2.1 3 (by decide) _) ?_
  refine TGo.is dX10_goesOn_37 rfl rfl ?_
  refine TGo.al0 dX10_goesOn_39 rfl ?_
  refine TGo.getS (t := 18) 68 68 (T + 39) (hT 0 (by decide)) rfl fgX10_154_10 dX10_goesOn_40 rfl rfl rfl ?_
  refine TGo.il1 dX10_goesOn_43 rfl ?_
  refine TGo.dup2 dX10_goesOn_44 rfl rfl ?_
  refine TGo.iald dX10_goesOn_45 (hT 39 (by decide)) (by omega) rfl ?_
  refine TGo.toz (t - 1) (htr) ?_
  refine TGo.ic1 dX10_goesOn_46 ?_
  refine TGo.iadd dX10_goesOn_47 ?_
  refine TGo.toz t (by omega) ?_
  refine TGo.iast dX10_goesOn_48 (hT 39 (by decide)) (by omega) rfl ?_
  refine TGo.al0 dX10_goesOn_49 rfl ?_
  refine TGo.getS (t := 18) 63 63 (T + 34) (hT 0 (by decide)) rfl fgX10_139_10 dX10_goesOn_50 rfl rfl rfl ?_
  refine TGo.il3 dX10_goesOn_53 rfl ?_
  refine TGo.iald dX10_goesOn_54 (hT 34 (by decide)) (by omega) rfl ?_
  refine TGo.toz _ (u2_n (Or.inl (by omega))) ?_
  refine TGo.toz (Wd (6 * at0 + z.2 3 (o k + 1))) (hl.1 _ (by omega) (by omega)) ?_
  refine TGo.icm1 dX10_goesOn_55 ?_
  refine TGo.icmp_eq 81 dX10_goesOn_56 (by decide) (by omega) (fun h56 => ?_) (fun h56 => ?_)
  · refine TGo.al0 dX10_goesOn_81 rfl ?_
    refine TGo.getS (t := 18) 64 64 (T + 35) (hT 0 (by decide)) rfl fgX10_142_10 dX10_goesOn_82 rfl rfl rfl ?_
    refine TGo.il3 dX10_goesOn_85 rfl ?_
    refine TGo.iald dX10_goesOn_86 (hT 35 (by decide)) (by omega) rfl ?_
    refine TGo.toz _ (u2_n (Or.inl (by omega))) ?_
    refine TGo.toz (Nx (6 * at0 + z.2 3 (o k + 1))) (hl.2 _ (by omega) (by omega)) ?_
    refine TGo.icm1 dX10_goesOn_87 ?_
    refine TGo.icmp_ne 103 dX10_goesOn_88 (by decide) (by omega) (fun h88 => ?_) (fun h88 => ?_)
    · refine TGo.ic0 dX10_goesOn_103 ?_
      refine TGo.is dX10_goesOn_104 rfl rfl ?_
      refine TGo.il dX10_goesOn_106 rfl ?_
      refine TGo.if_eq 141 dX10_goesOn_108 (by decide) (by decide) (fun _ => ?_) (fun h => absurd h (by decide))
      refine TGo.ic1 dX10_goesOn_141 ?_
      refine TGo.is dX10_goesOn_142 rfl rfl ?_
      refine TGo.al0 dX10_goesOn_144 rfl ?_
      refine TGo.getS (t := 18) 68 68 (T + 39) (hT 0 (by decide)) rfl fgX10_154_10 dX10_goesOn_145 rfl rfl rfl ?_
      refine TGo.il1 dX10_goesOn_148 rfl ?_
      refine TGo.iald dX10_goesOn_149 (hT 39 (by decide)) (by omega) rfl ?_
      refine TGo.toz t (u2_s) ?_
      refine TGo.il dX10_goesOn_150 rfl ?_
      refine TGo.icmp_lt 166 dX10_goesOn_152 (by decide) (by omega) (fun h152 => ?_) (fun h152 => ?_)
      · refine TGo.al0 dX10_goesOn_166 rfl ?_
        refine TGo.getS (t := 18) 65 65 (T + 36) (hT 0 (by decide)) rfl fgX10_145_10 dX10_goesOn_167 rfl rfl rfl ?_
        refine TGo.il1 dX10_goesOn_170 rfl ?_
        refine TGo.al0 dX10_goesOn_171 rfl ?_
        refine TGo.getS (t := 18) 63 63 (T + 34) (hT 0 (by decide)) rfl fgX10_139_10 dX10_goesOn_172 rfl rfl rfl ?_
        refine TGo.il3 dX10_goesOn_175 rfl ?_
        refine TGo.iald dX10_goesOn_176 (hT 34 (by decide)) (by omega) rfl ?_
        refine TGo.toz _ (u2_n (Or.inl (by omega))) ?_
        refine TGo.toz (Wd (6 * at0 + z.2 3 (o k + 1))) (hl.1 _ (by omega) (by omega)) ?_
        refine TGo.icm1 dX10_goesOn_177 ?_
        refine TGo.icmp_ne 185 dX10_goesOn_178 (by decide) (by omega) (fun h178 => ?_) (fun h178 => ?_)
        · refine TGo.ic0 dX10_goesOn_185 ?_
          refine TGo.zast dX10_goesOn_186 (hT 36 (by decide)) (by omega) rfl (by first | exact Or.inl rfl | exact Or.inr rfl | exact bZ_or _ | assumption) ?_
          refine TGo.al0 dX10_goesOn_187 rfl ?_
          refine TGo.getS (t := 18) 66 66 (T + 37) (hT 0 (by decide)) rfl fgX10_148_10 dX10_goesOn_188 rfl rfl rfl ?_
          refine TGo.il1 dX10_goesOn_191 rfl ?_
          refine TGo.il dX10_goesOn_192 rfl ?_
          refine TGo.zast dX10_goesOn_194 (hT 37 (by decide)) (by omega) rfl (by first | exact Or.inl rfl | exact Or.inr rfl | exact bZ_or _ | assumption) ?_
          refine TGo.al0 dX10_goesOn_195 rfl ?_
          refine TGo.getS (t := 18) 63 63 (T + 34) (hT 0 (by decide)) rfl fgX10_139_10 dX10_goesOn_196 rfl rfl rfl ?_
          refine TGo.il3 dX10_goesOn_199 rfl ?_
          refine TGo.il dX10_goesOn_200 rfl ?_
          refine TGo.iast dX10_goesOn_202 (hT 34 (by decide)) (by omega) rfl ?_
          refine TGo.al0 dX10_goesOn_203 rfl ?_
          refine TGo.getS (t := 18) 64 64 (T + 35) (hT 0 (by decide)) rfl fgX10_142_10 dX10_goesOn_204 rfl rfl rfl ?_
          refine TGo.il3 dX10_goesOn_207 rfl ?_
          refine TGo.il dX10_goesOn_208 rfl ?_
          refine TGo.if_eq 222 dX10_goesOn_210 (by decide) (by decide) (fun _ => ?_) (fun h => absurd h (by decide))
          refine TGo.al0 dX10_goesOn_222 rfl ?_
          refine TGo.getS (t := 18) 64 64 (T + 35) (hT 0 (by decide)) rfl fgX10_142_10 dX10_goesOn_223 rfl rfl rfl ?_
          refine TGo.il3 dX10_goesOn_226 rfl ?_
          refine TGo.iald dX10_goesOn_227 (hT 35 (by decide)) (by omega) rfl ?_
          refine TGo.toz _ ((u2_n (Or.inl (by omega))).trans ((u2_n (Or.inl (by omega))).trans ((u2_n (Or.inl (by omega))).trans (u2_n (Or.inl (by omega)))))) ?_
          first | refine TGo.toz (Nx (6 * at0 + z.2 3 (o k + 1))) (hl.2 _ (by omega) (by omega)) ?_ | skip
          refine TGo.iast dX10_goesOn_228 (hT 35 (by decide)) (by omega) rfl ?_
          refine TGo.al0 dX10_goesOn_229 rfl ?_
          refine TGo.getS (t := 18) 62 62 (T + 33) (hT 0 (by decide)) rfl fgX10_136_10 dX10_goesOn_230 rfl rfl rfl ?_
          refine TGo.il1 dX10_goesOn_233 rfl ?_
          refine TGo.ic1 dX10_goesOn_234 ?_
          refine TGo.iadd dX10_goesOn_235 ?_
          refine TGo.al0 dX10_goesOn_236 rfl ?_
          refine TGo.il1 dX10_goesOn_237 rfl ?_
          refine TGo.cF (csV1 (y2 := mX10_isLast) (t := 18) 1 rfl (hT 0 (by decide)) rfl rfl dX10_goesOn_238 q2544 q2546 qs107 okX10_isLast npX10_isLast rfl rfl) (kX10_isLast hT (((((hz.t 39 rfl).t 36 rfl).t 37 rfl).t 34 rfl).t 35 rfl) hn1 hn12 hof (fun i h0 h1 => by first | exact hov i h0 h1 | exact (u2_n (Or.inl (by omega))).trans (hov i h0 h1) | exact (u2_n (Or.inl (by omega))).trans ((u2_n (Or.inl (by omega))).trans ((u2_n (Or.inl (by omega))).trans ((u2_n (Or.inl (by omega))).trans ((u2_n (Or.inl (by omega))).trans (hov i h0 h1)))))) hk) ?_
          refine TGo.ifb_eq 248 dX10_goesOn_241 (by decide) (fun h241 => ?_) (fun h241 => ?_)
          · refine TGo.al0 dX10_goesOn_248 rfl ?_
            refine TGo.getS (t := 18) 64 64 (T + 35) (hT 0 (by decide)) rfl fgX10_142_10 dX10_goesOn_249 rfl rfl rfl ?_
            refine TGo.il3 dX10_goesOn_252 rfl ?_
            refine TGo.iald dX10_goesOn_253 (hT 35 (by decide)) (by omega) rfl ?_
            first | refine TGo.toz t u2_s ?_ | refine TGo.toz (Nx (6 * at0 + z.2 3 (o k + 1))) u2_s ?_ | skip
            refine TGo.iast dX10_goesOn_254 (hT 33 (by decide)) (by omega) rfl ?_
            refine TGo.al0 dX10_goesOn_255 rfl ?_
            refine TGo.getS (t := 18) 67 67 (T + 38) (hT 0 (by decide)) rfl fgX10_151_10 dX10_goesOn_256 rfl rfl rfl ?_
            refine TGo.il1 dX10_goesOn_259 rfl ?_
            refine TGo.ic1 dX10_goesOn_260 ?_
            refine TGo.iadd dX10_goesOn_261 ?_
            refine TGo.il dX10_goesOn_262 rfl ?_
            refine TGo.if_eq 293 dX10_goesOn_264 (by decide) (by decide) (fun _ => ?_) (fun h => absurd h (by decide))
            refine TGo.al0 dX10_goesOn_293 rfl ?_
            refine TGo.getS (t := 18) 67 67 (T + 38) (hT 0 (by decide)) rfl fgX10_151_10 dX10_goesOn_294 rfl rfl rfl ?_
            refine TGo.il1 dX10_goesOn_297 rfl ?_
            refine TGo.iald dX10_goesOn_298 (hT 38 (by decide)) (by omega) rfl ?_
            refine TGo.toz _ ((u2_n (Or.inl (by omega))).trans ((u2_n (Or.inl (by omega))).trans ((u2_n (Or.inl (by omega))).trans ((u2_n (Or.inl (by omega))).trans ((u2_n (Or.inl (by omega))).trans (u2_n (Or.inl (by omega)))))))) ?_
            first | refine TGo.toz met hsh ?_ | skip
            refine TGo.iast dX10_goesOn_299 (hT 38 (by decide)) (by omega) rfl ?_
            refine TGo.ic1 dX10_goesOn_300 ?_
            refine TGo.zret dX10_goesOn_301 rfl (by first | exact Or.inl rfl | exact Or.inr rfl | exact bZ_or _ | assumption) ?_
            first
            | (exfalso; omega)
            | (refine ⟨_, rfl, rfl, rfl, (((((((hz.t 39 rfl).t 36 rfl).t 37 rfl).t 34 rfl).t 35 rfl).t 33 rfl).t 38 rfl), FrG.rf.i (by omega) |>.i (by omega) |>.i (by omega) |>.i (by omega) |>.i (by omega) |>.i (by omega) |>.i (by omega), Or.inr ⟨rfl, by omega, ?_, ⟨fun i h0 h1 => ?_, fun i h0 h1 => ?_⟩, (u2_n (Or.inl (by omega))).trans ((u2_n (Or.inl (by omega))).trans ((u2_n (Or.inl (by omega))).trans ((u2_n (Or.inl (by omega))).trans ((u2_n (Or.inl (by omega))).trans ((u2_n (Or.inl (by omega))).trans (u2_s)))))), ?_, ?_, ?_, ?_⟩⟩
               · unfold tyL
                 first
                 | (rw [if_neg (by omega)]; omega)
                 | (rw [if_pos (by omega), if_pos (by omega)]; omega)
                 | (rw [if_pos (by omega), if_neg (by omega)]; omega)
               · refine (u2_n (Or.inl (by omega))).trans ((u2_n (Or.inl (by omega))).trans ((u2_n (Or.inl (by omega))).trans (?_)))
                 by_cases e : i = (6 * at0 + z.2 3 (o k + 1))
                 · rw [e, zu_s]; exact u2_s
                 · rw [zu_n e]; exact (u2_n (Or.inr e)).trans ((u2_n (Or.inl (by omega))).trans ((u2_n (Or.inl (by omega))).trans ((u2_n (Or.inl (by omega))).trans (hl.1 i h0 h1))))
               · refine (u2_n (Or.inl (by omega))).trans ((u2_n (Or.inl (by omega))).trans (?_))
                 by_cases e : i = (6 * at0 + z.2 3 (o k + 1))
                 · rw [e]; refine u2_s.trans ?_
                   first | (rw [if_pos (by omega)]; exact zu_s.symm) | (rw [if_neg (by omega)])
                 · refine (u2_n (Or.inr e)).trans (((u2_n (Or.inl (by omega))).trans ((u2_n (Or.inl (by omega))).trans ((u2_n (Or.inl (by omega))).trans ((u2_n (Or.inl (by omega))).trans (hl.2 i h0 h1))))).trans ?_)
                   first | (rw [if_pos (by omega)]; exact (zu_n e).symm) | (rw [if_neg (by omega)])
               · refine ((u2_n (Or.inl (by omega))).trans ((u2_n (Or.inl (by omega))).trans ((u2_n (Or.inl (by omega))).trans ((u2_n (Or.inl (by omega))).trans ((u2_n (Or.inl (by omega))).trans (u2_s)))))).trans ?_
                 first | exact (bZ_t (by omega)).symm | exact (bZ_f (by omega)).symm
               · refine ((u2_n (Or.inl (by omega))).trans ((u2_n (Or.inl (by omega))).trans ((u2_n (Or.inl (by omega))).trans ((u2_n (Or.inl (by omega))).trans (u2_s))))).trans ?_
                 first | exact (bZ_t (by omega)).symm | exact (bZ_f (by omega)).symm
               · refine ((u2_n (Or.inl (by omega))).trans (u2_s)).trans ?_
                 first
                 | (rw [if_pos (show laL (z.2 3) o n1 k by omega)])
                 | (rw [if_neg (show ¬ laL (z.2 3) o n1 k by omega), if_pos (by omega)]; exact zu_s.symm)
                 | (rw [if_neg (show ¬ laL (z.2 3) o n1 k by omega), if_neg (by omega)])
               · refine u2_s.trans ?_
                 first | (rw [if_pos (by omega)]) | (rw [if_neg (by omega)]))
          · refine TGo.ic0 dX10_goesOn_244 ?_
            refine TGo.goto 254 dX10_goesOn_245 (by decide) ?_
            first | refine TGo.toz t u2_s ?_ | refine TGo.toz (Nx (6 * at0 + z.2 3 (o k + 1))) u2_s ?_ | skip
            refine TGo.iast dX10_goesOn_254 (hT 33 (by decide)) (by omega) rfl ?_
            refine TGo.al0 dX10_goesOn_255 rfl ?_
            refine TGo.getS (t := 18) 67 67 (T + 38) (hT 0 (by decide)) rfl fgX10_151_10 dX10_goesOn_256 rfl rfl rfl ?_
            refine TGo.il1 dX10_goesOn_259 rfl ?_
            refine TGo.ic1 dX10_goesOn_260 ?_
            refine TGo.iadd dX10_goesOn_261 ?_
            refine TGo.il dX10_goesOn_262 rfl ?_
            refine TGo.if_eq 293 dX10_goesOn_264 (by decide) (by decide) (fun _ => ?_) (fun h => absurd h (by decide))
            refine TGo.al0 dX10_goesOn_293 rfl ?_
            refine TGo.getS (t := 18) 67 67 (T + 38) (hT 0 (by decide)) rfl fgX10_151_10 dX10_goesOn_294 rfl rfl rfl ?_
            refine TGo.il1 dX10_goesOn_297 rfl ?_
            refine TGo.iald dX10_goesOn_298 (hT 38 (by decide)) (by omega) rfl ?_
            refine TGo.toz _ ((u2_n (Or.inl (by omega))).trans ((u2_n (Or.inl (by omega))).trans ((u2_n (Or.inl (by omega))).trans ((u2_n (Or.inl (by omega))).trans ((u2_n (Or.inl (by omega))).trans (u2_n (Or.inl (by omega)))))))) ?_
            first | refine TGo.toz met hsh ?_ | skip
            refine TGo.iast dX10_goesOn_299 (hT 38 (by decide)) (by omega) rfl ?_
            refine TGo.ic1 dX10_goesOn_300 ?_
            refine TGo.zret dX10_goesOn_301 rfl (by first | exact Or.inl rfl | exact Or.inr rfl | exact bZ_or _ | assumption) ?_
            first
            | (exfalso; omega)
            | (refine ⟨_, rfl, rfl, rfl, (((((((hz.t 39 rfl).t 36 rfl).t 37 rfl).t 34 rfl).t 35 rfl).t 33 rfl).t 38 rfl), FrG.rf.i (by omega) |>.i (by omega) |>.i (by omega) |>.i (by omega) |>.i (by omega) |>.i (by omega) |>.i (by omega), Or.inr ⟨rfl, by omega, ?_, ⟨fun i h0 h1 => ?_, fun i h0 h1 => ?_⟩, (u2_n (Or.inl (by omega))).trans ((u2_n (Or.inl (by omega))).trans ((u2_n (Or.inl (by omega))).trans ((u2_n (Or.inl (by omega))).trans ((u2_n (Or.inl (by omega))).trans ((u2_n (Or.inl (by omega))).trans (u2_s)))))), ?_, ?_, ?_, ?_⟩⟩
               · unfold tyL
                 first
                 | (rw [if_neg (by omega)]; omega)
                 | (rw [if_pos (by omega), if_pos (by omega)]; omega)
                 | (rw [if_pos (by omega), if_neg (by omega)]; omega)
               · refine (u2_n (Or.inl (by omega))).trans ((u2_n (Or.inl (by omega))).trans ((u2_n (Or.inl (by omega))).trans (?_)))
                 by_cases e : i = (6 * at0 + z.2 3 (o k + 1))
                 · rw [e, zu_s]; exact u2_s
                 · rw [zu_n e]; exact (u2_n (Or.inr e)).trans ((u2_n (Or.inl (by omega))).trans ((u2_n (Or.inl (by omega))).trans ((u2_n (Or.inl (by omega))).trans (hl.1 i h0 h1))))
               · refine (u2_n (Or.inl (by omega))).trans ((u2_n (Or.inl (by omega))).trans (?_))
                 by_cases e : i = (6 * at0 + z.2 3 (o k + 1))
                 · rw [e]; refine u2_s.trans ?_
                   first | (rw [if_pos (by omega)]; exact zu_s.symm) | (rw [if_neg (by omega)])
                 · refine (u2_n (Or.inr e)).trans (((u2_n (Or.inl (by omega))).trans ((u2_n (Or.inl (by omega))).trans ((u2_n (Or.inl (by omega))).trans ((u2_n (Or.inl (by omega))).trans (hl.2 i h0 h1))))).trans ?_)
                   first | (rw [if_pos (by omega)]; exact (zu_n e).symm) | (rw [if_neg (by omega)])
               · refine ((u2_n (Or.inl (by omega))).trans ((u2_n (Or.inl (by omega))).trans ((u2_n (Or.inl (by omega))).trans ((u2_n (Or.inl (by omega))).trans ((u2_n (Or.inl (by omega))).trans (u2_s)))))).trans ?_
                 first | exact (bZ_t (by omega)).symm | exact (bZ_f (by omega)).symm
               · refine ((u2_n (Or.inl (by omega))).trans ((u2_n (Or.inl (by omega))).trans ((u2_n (Or.inl (by omega))).trans ((u2_n (Or.inl (by omega))).trans (u2_s))))).trans ?_
                 first | exact (bZ_t (by omega)).symm | exact (bZ_f (by omega)).symm
               · refine ((u2_n (Or.inl (by omega))).trans (u2_s)).trans ?_
                 first
                 | (rw [if_pos (show laL (z.2 3) o n1 k by omega)])
                 | (rw [if_neg (show ¬ laL (z.2 3) o n1 k by omega), if_pos (by omega)]; exact zu_s.symm)
                 | (rw [if_neg (show ¬ laL (z.2 3) o n1 k by omega), if_neg (by omega)])
               · refine u2_s.trans ?_
                 first | (rw [if_pos (by omega)]) | (rw [if_neg (by omega)]))
        · refine TGo.ic1 dX10_goesOn_181 ?_
          refine TGo.goto 186 dX10_goesOn_182 (by decide) ?_
          refine TGo.zast dX10_goesOn_186 (hT 36 (by decide)) (by omega) rfl (by first | exact Or.inl rfl | exact Or.inr rfl | exact bZ_or _ | assumption) ?_
          refine TGo.al0 dX10_goesOn_187 rfl ?_
          refine TGo.getS (t := 18) 66 66 (T + 37) (hT 0 (by decide)) rfl fgX10_148_10 dX10_goesOn_188 rfl rfl rfl ?_
          refine TGo.il1 dX10_goesOn_191 rfl ?_
          refine TGo.il dX10_goesOn_192 rfl ?_
          refine TGo.zast dX10_goesOn_194 (hT 37 (by decide)) (by omega) rfl (by first | exact Or.inl rfl | exact Or.inr rfl | exact bZ_or _ | assumption) ?_
          refine TGo.al0 dX10_goesOn_195 rfl ?_
          refine TGo.getS (t := 18) 63 63 (T + 34) (hT 0 (by decide)) rfl fgX10_139_10 dX10_goesOn_196 rfl rfl rfl ?_
          refine TGo.il3 dX10_goesOn_199 rfl ?_
          refine TGo.il dX10_goesOn_200 rfl ?_
          refine TGo.iast dX10_goesOn_202 (hT 34 (by decide)) (by omega) rfl ?_
          refine TGo.al0 dX10_goesOn_203 rfl ?_
          refine TGo.getS (t := 18) 64 64 (T + 35) (hT 0 (by decide)) rfl fgX10_142_10 dX10_goesOn_204 rfl rfl rfl ?_
          refine TGo.il3 dX10_goesOn_207 rfl ?_
          refine TGo.il dX10_goesOn_208 rfl ?_
          refine TGo.if_eq 222 dX10_goesOn_210 (by decide) (by decide) (fun _ => ?_) (fun h => absurd h (by decide))
          refine TGo.al0 dX10_goesOn_222 rfl ?_
          refine TGo.getS (t := 18) 64 64 (T + 35) (hT 0 (by decide)) rfl fgX10_142_10 dX10_goesOn_223 rfl rfl rfl ?_
          refine TGo.il3 dX10_goesOn_226 rfl ?_
          refine TGo.iald dX10_goesOn_227 (hT 35 (by decide)) (by omega) rfl ?_
          refine TGo.toz _ ((u2_n (Or.inl (by omega))).trans ((u2_n (Or.inl (by omega))).trans ((u2_n (Or.inl (by omega))).trans (u2_n (Or.inl (by omega)))))) ?_
          first | refine TGo.toz (Nx (6 * at0 + z.2 3 (o k + 1))) (hl.2 _ (by omega) (by omega)) ?_ | skip
          refine TGo.iast dX10_goesOn_228 (hT 35 (by decide)) (by omega) rfl ?_
          refine TGo.al0 dX10_goesOn_229 rfl ?_
          refine TGo.getS (t := 18) 62 62 (T + 33) (hT 0 (by decide)) rfl fgX10_136_10 dX10_goesOn_230 rfl rfl rfl ?_
          refine TGo.il1 dX10_goesOn_233 rfl ?_
          refine TGo.ic1 dX10_goesOn_234 ?_
          refine TGo.iadd dX10_goesOn_235 ?_
          refine TGo.al0 dX10_goesOn_236 rfl ?_
          refine TGo.il1 dX10_goesOn_237 rfl ?_
          refine TGo.cF (csV1 (y2 := mX10_isLast) (t := 18) 1 rfl (hT 0 (by decide)) rfl rfl dX10_goesOn_238 q2544 q2546 qs107 okX10_isLast npX10_isLast rfl rfl) (kX10_isLast hT (((((hz.t 39 rfl).t 36 rfl).t 37 rfl).t 34 rfl).t 35 rfl) hn1 hn12 hof (fun i h0 h1 => by first | exact hov i h0 h1 | exact (u2_n (Or.inl (by omega))).trans (hov i h0 h1) | exact (u2_n (Or.inl (by omega))).trans ((u2_n (Or.inl (by omega))).trans ((u2_n (Or.inl (by omega))).trans ((u2_n (Or.inl (by omega))).trans ((u2_n (Or.inl (by omega))).trans (hov i h0 h1)))))) hk) ?_
          refine TGo.ifb_eq 248 dX10_goesOn_241 (by decide) (fun h241 => ?_) (fun h241 => ?_)
          · refine TGo.al0 dX10_goesOn_248 rfl ?_
            refine TGo.getS (t := 18) 64 64 (T + 35) (hT 0 (by decide)) rfl fgX10_142_10 dX10_goesOn_249 rfl rfl rfl ?_
            refine TGo.il3 dX10_goesOn_252 rfl ?_
            refine TGo.iald dX10_goesOn_253 (hT 35 (by decide)) (by omega) rfl ?_
            first | refine TGo.toz t u2_s ?_ | refine TGo.toz (Nx (6 * at0 + z.2 3 (o k + 1))) u2_s ?_ | skip
            refine TGo.iast dX10_goesOn_254 (hT 33 (by decide)) (by omega) rfl ?_
            refine TGo.al0 dX10_goesOn_255 rfl ?_
            refine TGo.getS (t := 18) 67 67 (T + 38) (hT 0 (by decide)) rfl fgX10_151_10 dX10_goesOn_256 rfl rfl rfl ?_
            refine TGo.il1 dX10_goesOn_259 rfl ?_
            refine TGo.ic1 dX10_goesOn_260 ?_
            refine TGo.iadd dX10_goesOn_261 ?_
            refine TGo.il dX10_goesOn_262 rfl ?_
            refine TGo.if_eq 293 dX10_goesOn_264 (by decide) (by decide) (fun _ => ?_) (fun h => absurd h (by decide))
            refine TGo.al0 dX10_goesOn_293 rfl ?_
            refine TGo.getS (t := 18) 67 67 (T + 38) (hT 0 (by decide)) rfl fgX10_151_10 dX10_goesOn_294 rfl rfl rfl ?_
            refine TGo.il1 dX10_goesOn_297 rfl ?_
            refine TGo.iald dX10_goesOn_298 (hT 38 (by decide)) (by omega) rfl ?_
            refine TGo.toz _ ((u2_n (Or.inl (by omega))).trans ((u2_n (Or.inl (by omega))).trans ((u2_n (Or.inl (by omega))).trans ((u2_n (Or.inl (by omega))).trans ((u2_n (Or.inl (by omega))).trans (u2_n (Or.inl (by omega)))))))) ?_
            first | refine TGo.toz met hsh ?_ | skip
            refine TGo.iast dX10_goesOn_299 (hT 38 (by decide)) (by omega) rfl ?_
            refine TGo.ic1 dX10_goesOn_300 ?_
            refine TGo.zret dX10_goesOn_301 rfl (by first | exact Or.inl rfl | exact Or.inr rfl | exact bZ_or _ | assumption) ?_
            first
            | (exfalso; omega)
            | (refine ⟨_, rfl, rfl, rfl, (((((((hz.t 39 rfl).t 36 rfl).t 37 rfl).t 34 rfl).t 35 rfl).t 33 rfl).t 38 rfl), FrG.rf.i (by omega) |>.i (by omega) |>.i (by omega) |>.i (by omega) |>.i (by omega) |>.i (by omega) |>.i (by omega), Or.inr ⟨rfl, by omega, ?_, ⟨fun i h0 h1 => ?_, fun i h0 h1 => ?_⟩, (u2_n (Or.inl (by omega))).trans ((u2_n (Or.inl (by omega))).trans ((u2_n (Or.inl (by omega))).trans ((u2_n (Or.inl (by omega))).trans ((u2_n (Or.inl (by omega))).trans ((u2_n (Or.inl (by omega))).trans (u2_s)))))), ?_, ?_, ?_, ?_⟩⟩
               · unfold tyL
                 first
                 | (rw [if_neg (by omega)]; omega)
                 | (rw [if_pos (by omega), if_pos (by omega)]; omega)
                 | (rw [if_pos (by omega), if_neg (by omega)]; omega)
               · refine (u2_n (Or.inl (by omega))).trans ((u2_n (Or.inl (by omega))).trans ((u2_n (Or.inl (by omega))).trans (?_)))
                 by_cases e : i = (6 * at0 + z.2 3 (o k + 1))
                 · rw [e, zu_s]; exact u2_s
                 · rw [zu_n e]; exact (u2_n (Or.inr e)).trans ((u2_n (Or.inl (by omega))).trans ((u2_n (Or.inl (by omega))).trans ((u2_n (Or.inl (by omega))).trans (hl.1 i h0 h1))))
               · refine (u2_n (Or.inl (by omega))).trans ((u2_n (Or.inl (by omega))).trans (?_))
                 by_cases e : i = (6 * at0 + z.2 3 (o k + 1))
                 · rw [e]; refine u2_s.trans ?_
                   first | (rw [if_pos (by omega)]; exact zu_s.symm) | (rw [if_neg (by omega)])
                 · refine (u2_n (Or.inr e)).trans (((u2_n (Or.inl (by omega))).trans ((u2_n (Or.inl (by omega))).trans ((u2_n (Or.inl (by omega))).trans ((u2_n (Or.inl (by omega))).trans (hl.2 i h0 h1))))).trans ?_)
                   first | (rw [if_pos (by omega)]; exact (zu_n e).symm) | (rw [if_neg (by omega)])
               · refine ((u2_n (Or.inl (by omega))).trans ((u2_n (Or.inl (by omega))).trans ((u2_n (Or.inl (by omega))).trans ((u2_n (Or.inl (by omega))).trans ((u2_n (Or.inl (by omega))).trans (u2_s)))))).trans ?_
                 first | exact (bZ_t (by omega)).symm | exact (bZ_f (by omega)).symm
               · refine ((u2_n (Or.inl (by omega))).trans ((u2_n (Or.inl (by omega))).trans ((u2_n (Or.inl (by omega))).trans ((u2_n (Or.inl (by omega))).trans (u2_s))))).trans ?_
                 first | exact (bZ_t (by omega)).symm | exact (bZ_f (by omega)).symm
               · refine ((u2_n (Or.inl (by omega))).trans (u2_s)).trans ?_
                 first
                 | (rw [if_pos (show laL (z.2 3) o n1 k by omega)])
                 | (rw [if_neg (show ¬ laL (z.2 3) o n1 k by omega), if_pos (by omega)]; exact zu_s.symm)
                 | (rw [if_neg (show ¬ laL (z.2 3) o n1 k by omega), if_neg (by omega)])
               · refine u2_s.trans ?_
                 first | (rw [if_pos (by omega)]) | (rw [if_neg (by omega)]))
          · refine TGo.ic0 dX10_goesOn_244 ?_
            refine TGo.goto 254 dX10_goesOn_245 (by decide) ?_
            first | refine TGo.toz t u2_s ?_ | refine TGo.toz (Nx (6 * at0 + z.2 3 (o k + 1))) u2_s ?_ | skip
            refine TGo.iast dX10_goesOn_254 (hT 33 (by decide)) (by omega) rfl ?_
            refine TGo.al0 dX10_goesOn_255 rfl ?_
            refine TGo.getS (t := 18) 67 67 (T + 38) (hT 0 (by decide)) rfl fgX10_151_10 dX10_goesOn_256 rfl rfl rfl ?_
            refine TGo.il1 dX10_goesOn_259 rfl ?_
            refine TGo.ic1 dX10_goesOn_260 ?_
            refine TGo.iadd dX10_goesOn_261 ?_
            refine TGo.il dX10_goesOn_262 rfl ?_
            refine TGo.if_eq 293 dX10_goesOn_264 (by decide) (by decide) (fun _ => ?_) (fun h => absurd h (by decide))
            refine TGo.al0 dX10_goesOn_293 rfl ?_
            refine TGo.getS (t := 18) 67 67 (T + 38) (hT 0 (by decide)) rfl fgX10_151_10 dX10_goesOn_294 rfl rfl rfl ?_
            refine TGo.il1 dX10_goesOn_297 rfl ?_
            refine TGo.iald dX10_goesOn_298 (hT 38 (by decide)) (by omega) rfl ?_
            refine TGo.toz _ ((u2_n (Or.inl (by omega))).trans ((u2_n (Or.inl (by omega))).trans ((u2_n (Or.inl (by omega))).trans ((u2_n (Or.inl (by omega))).trans ((u2_n (Or.inl (by omega))).trans (u2_n (Or.inl (by omega)))))))) ?_
            first | refine TGo.toz met hsh ?_ | skip
            refine TGo.iast dX10_goesOn_299 (hT 38 (by decide)) (by omega) rfl ?_
            refine TGo.ic1 dX10_goesOn_300 ?_
            refine TGo.zret dX10_goesOn_301 rfl (by first | exact Or.inl rfl | exact Or.inr rfl | exact bZ_or _ | assumption) ?_
            first
            | (exfalso; omega)
            | (refine ⟨_, rfl, rfl, rfl, (((((((hz.t 39 rfl).t 36 rfl).t 37 rfl).t 34 rfl).t 35 rfl).t 33 rfl).t 38 rfl), FrG.rf.i (by omega) |>.i (by omega) |>.i (by omega) |>.i (by omega) |>.i (by omega) |>.i (by omega) |>.i (by omega), Or.inr ⟨rfl, by omega, ?_, ⟨fun i h0 h1 => ?_, fun i h0 h1 => ?_⟩, (u2_n (Or.inl (by omega))).trans ((u2_n (Or.inl (by omega))).trans ((u2_n (Or.inl (by omega))).trans ((u2_n (Or.inl (by omega))).trans ((u2_n (Or.inl (by omega))).trans ((u2_n (Or.inl (by omega))).trans (u2_s)))))), ?_, ?_, ?_, ?_⟩⟩
               · unfold tyL
                 first
                 | (rw [if_neg (by omega)]; omega)
                 | (rw [if_pos (by omega), if_pos (by omega)]; omega)
                 | (rw [if_pos (by omega), if_neg (by omega)]; omega)
               · refine (u2_n (Or.inl (by omega))).trans ((u2_n (Or.inl (by omega))).trans ((u2_n (Or.inl (by omega))).trans (?_)))
                 by_cases e : i = (6 * at0 + z.2 3 (o k + 1))
                 · rw [e, zu_s]; exact u2_s
                 · rw [zu_n e]; exact (u2_n (Or.inr e)).trans ((u2_n (Or.inl (by omega))).trans ((u2_n (Or.inl (by omega))).trans ((u2_n (Or.inl (by omega))).trans (hl.1 i h0 h1))))
               · refine (u2_n (Or.inl (by omega))).trans ((u2_n (Or.inl (by omega))).trans (?_))
                 by_cases e : i = (6 * at0 + z.2 3 (o k + 1))
                 · rw [e]; refine u2_s.trans ?_
                   first | (rw [if_pos (by omega)]; exact zu_s.symm) | (rw [if_neg (by omega)])
                 · refine (u2_n (Or.inr e)).trans (((u2_n (Or.inl (by omega))).trans ((u2_n (Or.inl (by omega))).trans ((u2_n (Or.inl (by omega))).trans ((u2_n (Or.inl (by omega))).trans (hl.2 i h0 h1))))).trans ?_)
                   first | (rw [if_pos (by omega)]; exact (zu_n e).symm) | (rw [if_neg (by omega)])
               · refine ((u2_n (Or.inl (by omega))).trans ((u2_n (Or.inl (by omega))).trans ((u2_n (Or.inl (by omega))).trans ((u2_n (Or.inl (by omega))).trans ((u2_n (Or.inl (by omega))).trans (u2_s)))))).trans ?_
                 first | exact (bZ_t (by omega)).symm | exact (bZ_f (by omega)).symm
               · refine ((u2_n (Or.inl (by omega))).trans ((u2_n (Or.inl (by omega))).trans ((u2_n (Or.inl (by omega))).trans ((u2_n (Or.inl (by omega))).trans (u2_s))))).trans ?_
                 first | exact (bZ_t (by omega)).symm | exact (bZ_f (by omega)).symm
               · refine ((u2_n (Or.inl (by omega))).trans (u2_s)).trans ?_
                 first
                 | (rw [if_pos (show laL (z.2 3) o n1 k by omega)])
                 | (rw [if_neg (show ¬ laL (z.2 3) o n1 k by omega), if_pos (by omega)]; exact zu_s.symm)
                 | (rw [if_neg (show ¬ laL (z.2 3) o n1 k by omega), if_neg (by omega)])
               · refine u2_s.trans ?_
                 first | (rw [if_pos (by omega)]) | (rw [if_neg (by omega)]))
      · refine TGo.al0 dX10_goesOn_155 rfl ?_
        refine TGo.getS (t := 18) 68 68 (T + 39) (hT 0 (by decide)) rfl fgX10_154_10 dX10_goesOn_156 rfl rfl rfl ?_
        refine TGo.il1 dX10_goesOn_159 rfl ?_
        refine TGo.ldcw 1000000 dX10_goesOn_160 q2499 (by decide) ?_
        refine TGo.iast dX10_goesOn_163 (hT 39 (by decide)) (by omega) rfl ?_
        refine TGo.ic0 dX10_goesOn_164 ?_
        refine TGo.zret dX10_goesOn_165 rfl (by first | exact Or.inl rfl | exact Or.inr rfl | exact bZ_or _ | assumption) ?_
        first
        | (exfalso; omega)
        | (refine ⟨_, rfl, rfl, rfl, ((hz.t 39 rfl).t 39 rfl), FrG.rf.i (by omega) |>.i (by omega), Or.inl ⟨rfl, ?_, ⟨fun i h0 h1 => (u2_n (Or.inl (by omega))).trans ((u2_n (Or.inl (by omega))).trans (hl.1 i h0 h1)), fun i h0 h1 => (u2_n (Or.inl (by omega))).trans ((u2_n (Or.inl (by omega))).trans (hl.2 i h0 h1))⟩, (u2_n (Or.inl (by omega))).trans ((u2_n (Or.inl (by omega))).trans (ha)), (u2_n (Or.inl (by omega))).trans ((u2_n (Or.inl (by omega))).trans (hb))⟩⟩
           first
           | exact Or.inl (by omega)
           | (refine Or.inr ?_
              unfold tyL
              first
              | (rw [if_neg (by omega)]; omega)
              | (rw [if_pos (by omega), if_pos (by omega)]; omega)
              | (rw [if_pos (by omega), if_neg (by omega)]; omega)))
    · refine TGo.al0 dX10_goesOn_91 rfl ?_
      refine TGo.il1 dX10_goesOn_92 rfl ?_
      refine TGo.cF (csV1 (y2 := mX10_isLast) (t := 18) 1 rfl (hT 0 (by decide)) rfl rfl dX10_goesOn_93 q2544 q2546 qs107 okX10_isLast npX10_isLast rfl rfl) (kX10_isLast hT (hz.t 39 rfl) hn1 hn12 hof (fun i h0 h1 => by first | exact hov i h0 h1 | exact (u2_n (Or.inl (by omega))).trans (hov i h0 h1) | exact (u2_n (Or.inl (by omega))).trans ((u2_n (Or.inl (by omega))).trans ((u2_n (Or.inl (by omega))).trans ((u2_n (Or.inl (by omega))).trans ((u2_n (Or.inl (by omega))).trans (hov i h0 h1)))))) hk) ?_
      refine TGo.ifb_ne 103 dX10_goesOn_96 (by decide) (fun h96 => ?_) (fun h96 => ?_)
      · refine TGo.ic0 dX10_goesOn_103 ?_
        refine TGo.is dX10_goesOn_104 rfl rfl ?_
        refine TGo.il dX10_goesOn_106 rfl ?_
        refine TGo.if_eq 141 dX10_goesOn_108 (by decide) (by decide) (fun _ => ?_) (fun h => absurd h (by decide))
        refine TGo.ic1 dX10_goesOn_141 ?_
        refine TGo.is dX10_goesOn_142 rfl rfl ?_
        refine TGo.al0 dX10_goesOn_144 rfl ?_
        refine TGo.getS (t := 18) 68 68 (T + 39) (hT 0 (by decide)) rfl fgX10_154_10 dX10_goesOn_145 rfl rfl rfl ?_
        refine TGo.il1 dX10_goesOn_148 rfl ?_
        refine TGo.iald dX10_goesOn_149 (hT 39 (by decide)) (by omega) rfl ?_
        refine TGo.toz t (u2_s) ?_
        refine TGo.il dX10_goesOn_150 rfl ?_
        refine TGo.icmp_lt 166 dX10_goesOn_152 (by decide) (by omega) (fun h152 => ?_) (fun h152 => ?_)
        · refine TGo.al0 dX10_goesOn_166 rfl ?_
          refine TGo.getS (t := 18) 65 65 (T + 36) (hT 0 (by decide)) rfl fgX10_145_10 dX10_goesOn_167 rfl rfl rfl ?_
          refine TGo.il1 dX10_goesOn_170 rfl ?_
          refine TGo.al0 dX10_goesOn_171 rfl ?_
          refine TGo.getS (t := 18) 63 63 (T + 34) (hT 0 (by decide)) rfl fgX10_139_10 dX10_goesOn_172 rfl rfl rfl ?_
          refine TGo.il3 dX10_goesOn_175 rfl ?_
          refine TGo.iald dX10_goesOn_176 (hT 34 (by decide)) (by omega) rfl ?_
          refine TGo.toz _ (u2_n (Or.inl (by omega))) ?_
          refine TGo.toz (Wd (6 * at0 + z.2 3 (o k + 1))) (hl.1 _ (by omega) (by omega)) ?_
          refine TGo.icm1 dX10_goesOn_177 ?_
          refine TGo.icmp_ne 185 dX10_goesOn_178 (by decide) (by omega) (fun h178 => ?_) (fun h178 => ?_)
          · refine TGo.ic0 dX10_goesOn_185 ?_
            refine TGo.zast dX10_goesOn_186 (hT 36 (by decide)) (by omega) rfl (by first | exact Or.inl rfl | exact Or.inr rfl | exact bZ_or _ | assumption) ?_
            refine TGo.al0 dX10_goesOn_187 rfl ?_
            refine TGo.getS (t := 18) 66 66 (T + 37) (hT 0 (by decide)) rfl fgX10_148_10 dX10_goesOn_188 rfl rfl rfl ?_
            refine TGo.il1 dX10_goesOn_191 rfl ?_
            refine TGo.il dX10_goesOn_192 rfl ?_
            refine TGo.zast dX10_goesOn_194 (hT 37 (by decide)) (by omega) rfl (by first | exact Or.inl rfl | exact Or.inr rfl | exact bZ_or _ | assumption) ?_
            refine TGo.al0 dX10_goesOn_195 rfl ?_
            refine TGo.getS (t := 18) 63 63 (T + 34) (hT 0 (by decide)) rfl fgX10_139_10 dX10_goesOn_196 rfl rfl rfl ?_
            refine TGo.il3 dX10_goesOn_199 rfl ?_
            refine TGo.il dX10_goesOn_200 rfl ?_
            refine TGo.iast dX10_goesOn_202 (hT 34 (by decide)) (by omega) rfl ?_
            refine TGo.al0 dX10_goesOn_203 rfl ?_
            refine TGo.getS (t := 18) 64 64 (T + 35) (hT 0 (by decide)) rfl fgX10_142_10 dX10_goesOn_204 rfl rfl rfl ?_
            refine TGo.il3 dX10_goesOn_207 rfl ?_
            refine TGo.il dX10_goesOn_208 rfl ?_
            refine TGo.if_eq 222 dX10_goesOn_210 (by decide) (by decide) (fun _ => ?_) (fun h => absurd h (by decide))
            refine TGo.al0 dX10_goesOn_222 rfl ?_
            refine TGo.getS (t := 18) 64 64 (T + 35) (hT 0 (by decide)) rfl fgX10_142_10 dX10_goesOn_223 rfl rfl rfl ?_
            refine TGo.il3 dX10_goesOn_226 rfl ?_
            refine TGo.iald dX10_goesOn_227 (hT 35 (by decide)) (by omega) rfl ?_
            refine TGo.toz _ ((u2_n (Or.inl (by omega))).trans ((u2_n (Or.inl (by omega))).trans ((u2_n (Or.inl (by omega))).trans (u2_n (Or.inl (by omega)))))) ?_
            first | refine TGo.toz (Nx (6 * at0 + z.2 3 (o k + 1))) (hl.2 _ (by omega) (by omega)) ?_ | skip
            refine TGo.iast dX10_goesOn_228 (hT 35 (by decide)) (by omega) rfl ?_
            refine TGo.al0 dX10_goesOn_229 rfl ?_
            refine TGo.getS (t := 18) 62 62 (T + 33) (hT 0 (by decide)) rfl fgX10_136_10 dX10_goesOn_230 rfl rfl rfl ?_
            refine TGo.il1 dX10_goesOn_233 rfl ?_
            refine TGo.ic1 dX10_goesOn_234 ?_
            refine TGo.iadd dX10_goesOn_235 ?_
            refine TGo.al0 dX10_goesOn_236 rfl ?_
            refine TGo.il1 dX10_goesOn_237 rfl ?_
            refine TGo.cF (csV1 (y2 := mX10_isLast) (t := 18) 1 rfl (hT 0 (by decide)) rfl rfl dX10_goesOn_238 q2544 q2546 qs107 okX10_isLast npX10_isLast rfl rfl) (kX10_isLast hT (((((hz.t 39 rfl).t 36 rfl).t 37 rfl).t 34 rfl).t 35 rfl) hn1 hn12 hof (fun i h0 h1 => by first | exact hov i h0 h1 | exact (u2_n (Or.inl (by omega))).trans (hov i h0 h1) | exact (u2_n (Or.inl (by omega))).trans ((u2_n (Or.inl (by omega))).trans ((u2_n (Or.inl (by omega))).trans ((u2_n (Or.inl (by omega))).trans ((u2_n (Or.inl (by omega))).trans (hov i h0 h1)))))) hk) ?_
            refine TGo.ifb_eq 248 dX10_goesOn_241 (by decide) (fun h241 => ?_) (fun h241 => ?_)
            · refine TGo.al0 dX10_goesOn_248 rfl ?_
              refine TGo.getS (t := 18) 64 64 (T + 35) (hT 0 (by decide)) rfl fgX10_142_10 dX10_goesOn_249 rfl rfl rfl ?_
              refine TGo.il3 dX10_goesOn_252 rfl ?_
              refine TGo.iald dX10_goesOn_253 (hT 35 (by decide)) (by omega) rfl ?_
              first | refine TGo.toz t u2_s ?_ | refine TGo.toz (Nx (6 * at0 + z.2 3 (o k + 1))) u2_s ?_ | skip
              refine TGo.iast dX10_goesOn_254 (hT 33 (by decide)) (by omega) rfl ?_
              refine TGo.al0 dX10_goesOn_255 rfl ?_
              refine TGo.getS (t := 18) 67 67 (T + 38) (hT 0 (by decide)) rfl fgX10_151_10 dX10_goesOn_256 rfl rfl rfl ?_
              refine TGo.il1 dX10_goesOn_259 rfl ?_
              refine TGo.ic1 dX10_goesOn_260 ?_
              refine TGo.iadd dX10_goesOn_261 ?_
              refine TGo.il dX10_goesOn_262 rfl ?_
              refine TGo.if_eq 293 dX10_goesOn_264 (by decide) (by decide) (fun _ => ?_) (fun h => absurd h (by decide))
              refine TGo.al0 dX10_goesOn_293 rfl ?_
              refine TGo.getS (t := 18) 67 67 (T + 38) (hT 0 (by decide)) rfl fgX10_151_10 dX10_goesOn_294 rfl rfl rfl ?_
              refine TGo.il1 dX10_goesOn_297 rfl ?_
              refine TGo.iald dX10_goesOn_298 (hT 38 (by decide)) (by omega) rfl ?_
              refine TGo.toz _ ((u2_n (Or.inl (by omega))).trans ((u2_n (Or.inl (by omega))).trans ((u2_n (Or.inl (by omega))).trans ((u2_n (Or.inl (by omega))).trans ((u2_n (Or.inl (by omega))).trans (u2_n (Or.inl (by omega)))))))) ?_
              first | refine TGo.toz met hsh ?_ | skip
              refine TGo.iast dX10_goesOn_299 (hT 38 (by decide)) (by omega) rfl ?_
              refine TGo.ic1 dX10_goesOn_300 ?_
              refine TGo.zret dX10_goesOn_301 rfl (by first | exact Or.inl rfl | exact Or.inr rfl | exact bZ_or _ | assumption) ?_
              first
              | (exfalso; omega)
              | (refine ⟨_, rfl, rfl, rfl, (((((((hz.t 39 rfl).t 36 rfl).t 37 rfl).t 34 rfl).t 35 rfl).t 33 rfl).t 38 rfl), FrG.rf.i (by omega) |>.i (by omega) |>.i (by omega) |>.i (by omega) |>.i (by omega) |>.i (by omega) |>.i (by omega), Or.inr ⟨rfl, by omega, ?_, ⟨fun i h0 h1 => ?_, fun i h0 h1 => ?_⟩, (u2_n (Or.inl (by omega))).trans ((u2_n (Or.inl (by omega))).trans ((u2_n (Or.inl (by omega))).trans ((u2_n (Or.inl (by omega))).trans ((u2_n (Or.inl (by omega))).trans ((u2_n (Or.inl (by omega))).trans (u2_s)))))), ?_, ?_, ?_, ?_⟩⟩
                 · unfold tyL
                   first
                   | (rw [if_neg (by omega)]; omega)
                   | (rw [if_pos (by omega), if_pos (by omega)]; omega)
                   | (rw [if_pos (by omega), if_neg (by omega)]; omega)
                 · refine (u2_n (Or.inl (by omega))).trans ((u2_n (Or.inl (by omega))).trans ((u2_n (Or.inl (by omega))).trans (?_)))
                   by_cases e : i = (6 * at0 + z.2 3 (o k + 1))
                   · rw [e, zu_s]; exact u2_s
                   · rw [zu_n e]; exact (u2_n (Or.inr e)).trans ((u2_n (Or.inl (by omega))).trans ((u2_n (Or.inl (by omega))).trans ((u2_n (Or.inl (by omega))).trans (hl.1 i h0 h1))))
                 · refine (u2_n (Or.inl (by omega))).trans ((u2_n (Or.inl (by omega))).trans (?_))
                   by_cases e : i = (6 * at0 + z.2 3 (o k + 1))
                   · rw [e]; refine u2_s.trans ?_
                     first | (rw [if_pos (by omega)]; exact zu_s.symm) | (rw [if_neg (by omega)])
                   · refine (u2_n (Or.inr e)).trans (((u2_n (Or.inl (by omega))).trans ((u2_n (Or.inl (by omega))).trans ((u2_n (Or.inl (by omega))).trans ((u2_n (Or.inl (by omega))).trans (hl.2 i h0 h1))))).trans ?_)
                     first | (rw [if_pos (by omega)]; exact (zu_n e).symm) | (rw [if_neg (by omega)])
                 · refine ((u2_n (Or.inl (by omega))).trans ((u2_n (Or.inl (by omega))).trans ((u2_n (Or.inl (by omega))).trans ((u2_n (Or.inl (by omega))).trans ((u2_n (Or.inl (by omega))).trans (u2_s)))))).trans ?_
                   first | exact (bZ_t (by omega)).symm | exact (bZ_f (by omega)).symm
                 · refine ((u2_n (Or.inl (by omega))).trans ((u2_n (Or.inl (by omega))).trans ((u2_n (Or.inl (by omega))).trans ((u2_n (Or.inl (by omega))).trans (u2_s))))).trans ?_
                   first | exact (bZ_t (by omega)).symm | exact (bZ_f (by omega)).symm
                 · refine ((u2_n (Or.inl (by omega))).trans (u2_s)).trans ?_
                   first
                   | (rw [if_pos (show laL (z.2 3) o n1 k by omega)])
                   | (rw [if_neg (show ¬ laL (z.2 3) o n1 k by omega), if_pos (by omega)]; exact zu_s.symm)
                   | (rw [if_neg (show ¬ laL (z.2 3) o n1 k by omega), if_neg (by omega)])
                 · refine u2_s.trans ?_
                   first | (rw [if_pos (by omega)]) | (rw [if_neg (by omega)]))
            · refine TGo.ic0 dX10_goesOn_244 ?_
              refine TGo.goto 254 dX10_goesOn_245 (by decide) ?_
              first | refine TGo.toz t u2_s ?_ | refine TGo.toz (Nx (6 * at0 + z.2 3 (o k + 1))) u2_s ?_ | skip
              refine TGo.iast dX10_goesOn_254 (hT 33 (by decide)) (by omega) rfl ?_
              refine TGo.al0 dX10_goesOn_255 rfl ?_
              refine TGo.getS (t := 18) 67 67 (T + 38) (hT 0 (by decide)) rfl fgX10_151_10 dX10_goesOn_256 rfl rfl rfl ?_
              refine TGo.il1 dX10_goesOn_259 rfl ?_
              refine TGo.ic1 dX10_goesOn_260 ?_
              refine TGo.iadd dX10_goesOn_261 ?_
              refine TGo.il dX10_goesOn_262 rfl ?_
              refine TGo.if_eq 293 dX10_goesOn_264 (by decide) (by decide) (fun _ => ?_) (fun h => absurd h (by decide))
              refine TGo.al0 dX10_goesOn_293 rfl ?_
              refine TGo.getS (t := 18) 67 67 (T + 38) (hT 0 (by decide)) rfl fgX10_151_10 dX10_goesOn_294 rfl rfl rfl ?_
              refine TGo.il1 dX10_goesOn_297 rfl ?_
              refine TGo.iald dX10_goesOn_298 (hT 38 (by decide)) (by omega) rfl ?_
              refine TGo.toz _ ((u2_n (Or.inl (by omega))).trans ((u2_n (Or.inl (by omega))).trans ((u2_n (Or.inl (by omega))).trans ((u2_n (Or.inl (by omega))).trans ((u2_n (Or.inl (by omega))).trans (u2_n (Or.inl (by omega)))))))) ?_
              first | refine TGo.toz met hsh ?_ | skip
              refine TGo.iast dX10_goesOn_299 (hT 38 (by decide)) (by omega) rfl ?_
              refine TGo.ic1 dX10_goesOn_300 ?_
              refine TGo.zret dX10_goesOn_301 rfl (by first | exact Or.inl rfl | exact Or.inr rfl | exact bZ_or _ | assumption) ?_
              first
              | (exfalso; omega)
              | (refine ⟨_, rfl, rfl, rfl, (((((((hz.t 39 rfl).t 36 rfl).t 37 rfl).t 34 rfl).t 35 rfl).t 33 rfl).t 38 rfl), FrG.rf.i (by omega) |>.i (by omega) |>.i (by omega) |>.i (by omega) |>.i (by omega) |>.i (by omega) |>.i (by omega), Or.inr ⟨rfl, by omega, ?_, ⟨fun i h0 h1 => ?_, fun i h0 h1 => ?_⟩, (u2_n (Or.inl (by omega))).trans ((u2_n (Or.inl (by omega))).trans ((u2_n (Or.inl (by omega))).trans ((u2_n (Or.inl (by omega))).trans ((u2_n (Or.inl (by omega))).trans ((u2_n (Or.inl (by omega))).trans (u2_s)))))), ?_, ?_, ?_, ?_⟩⟩
                 · unfold tyL
                   first
                   | (rw [if_neg (by omega)]; omega)
                   | (rw [if_pos (by omega), if_pos (by omega)]; omega)
                   | (rw [if_pos (by omega), if_neg (by omega)]; omega)
                 · refine (u2_n (Or.inl (by omega))).trans ((u2_n (Or.inl (by omega))).trans ((u2_n (Or.inl (by omega))).trans (?_)))
                   by_cases e : i = (6 * at0 + z.2 3 (o k + 1))
                   · rw [e, zu_s]; exact u2_s
                   · rw [zu_n e]; exact (u2_n (Or.inr e)).trans ((u2_n (Or.inl (by omega))).trans ((u2_n (Or.inl (by omega))).trans ((u2_n (Or.inl (by omega))).trans (hl.1 i h0 h1))))
                 · refine (u2_n (Or.inl (by omega))).trans ((u2_n (Or.inl (by omega))).trans (?_))
                   by_cases e : i = (6 * at0 + z.2 3 (o k + 1))
                   · rw [e]; refine u2_s.trans ?_
                     first | (rw [if_pos (by omega)]; exact zu_s.symm) | (rw [if_neg (by omega)])
                   · refine (u2_n (Or.inr e)).trans (((u2_n (Or.inl (by omega))).trans ((u2_n (Or.inl (by omega))).trans ((u2_n (Or.inl (by omega))).trans ((u2_n (Or.inl (by omega))).trans (hl.2 i h0 h1))))).trans ?_)
                     first | (rw [if_pos (by omega)]; exact (zu_n e).symm) | (rw [if_neg (by omega)])
                 · refine ((u2_n (Or.inl (by omega))).trans ((u2_n (Or.inl (by omega))).trans ((u2_n (Or.inl (by omega))).trans ((u2_n (Or.inl (by omega))).trans ((u2_n (Or.inl (by omega))).trans (u2_s)))))).trans ?_
                   first | exact (bZ_t (by omega)).symm | exact (bZ_f (by omega)).symm
                 · refine ((u2_n (Or.inl (by omega))).trans ((u2_n (Or.inl (by omega))).trans ((u2_n (Or.inl (by omega))).trans ((u2_n (Or.inl (by omega))).trans (u2_s))))).trans ?_
                   first | exact (bZ_t (by omega)).symm | exact (bZ_f (by omega)).symm
                 · refine ((u2_n (Or.inl (by omega))).trans (u2_s)).trans ?_
                   first
                   | (rw [if_pos (show laL (z.2 3) o n1 k by omega)])
                   | (rw [if_neg (show ¬ laL (z.2 3) o n1 k by omega), if_pos (by omega)]; exact zu_s.symm)
                   | (rw [if_neg (show ¬ laL (z.2 3) o n1 k by omega), if_neg (by omega)])
                 · refine u2_s.trans ?_
                   first | (rw [if_pos (by omega)]) | (rw [if_neg (by omega)]))
          · refine TGo.ic1 dX10_goesOn_181 ?_
            refine TGo.goto 186 dX10_goesOn_182 (by decide) ?_
            refine TGo.zast dX10_goesOn_186 (hT 36 (by decide)) (by omega) rfl (by first | exact Or.inl rfl | exact Or.inr rfl | exact bZ_or _ | assumption) ?_
            refine TGo.al0 dX10_goesOn_187 rfl ?_
            refine TGo.getS (t := 18) 66 66 (T + 37) (hT 0 (by decide)) rfl fgX10_148_10 dX10_goesOn_188 rfl rfl rfl ?_
            refine TGo.il1 dX10_goesOn_191 rfl ?_
            refine TGo.il dX10_goesOn_192 rfl ?_
            refine TGo.zast dX10_goesOn_194 (hT 37 (by decide)) (by omega) rfl (by first | exact Or.inl rfl | exact Or.inr rfl | exact bZ_or _ | assumption) ?_
            refine TGo.al0 dX10_goesOn_195 rfl ?_
            refine TGo.getS (t := 18) 63 63 (T + 34) (hT 0 (by decide)) rfl fgX10_139_10 dX10_goesOn_196 rfl rfl rfl ?_
            refine TGo.il3 dX10_goesOn_199 rfl ?_
            refine TGo.il dX10_goesOn_200 rfl ?_
            refine TGo.iast dX10_goesOn_202 (hT 34 (by decide)) (by omega) rfl ?_
            refine TGo.al0 dX10_goesOn_203 rfl ?_
            refine TGo.getS (t := 18) 64 64 (T + 35) (hT 0 (by decide)) rfl fgX10_142_10 dX10_goesOn_204 rfl rfl rfl ?_
            refine TGo.il3 dX10_goesOn_207 rfl ?_
            refine TGo.il dX10_goesOn_208 rfl ?_
            refine TGo.if_eq 222 dX10_goesOn_210 (by decide) (by decide) (fun _ => ?_) (fun h => absurd h (by decide))
            refine TGo.al0 dX10_goesOn_222 rfl ?_
            refine TGo.getS (t := 18) 64 64 (T + 35) (hT 0 (by decide)) rfl fgX10_142_10 dX10_goesOn_223 rfl rfl rfl ?_
            refine TGo.il3 dX10_goesOn_226 rfl ?_
            refine TGo.iald dX10_goesOn_227 (hT 35 (by decide)) (by omega) rfl ?_
            refine TGo.toz _ ((u2_n (Or.inl (by omega))).trans ((u2_n (Or.inl (by omega))).trans ((u2_n (Or.inl (by omega))).trans (u2_n (Or.inl (by omega)))))) ?_
            first | refine TGo.toz (Nx (6 * at0 + z.2 3 (o k + 1))) (hl.2 _ (by omega) (by omega)) ?_ | skip
            refine TGo.iast dX10_goesOn_228 (hT 35 (by decide)) (by omega) rfl ?_
            refine TGo.al0 dX10_goesOn_229 rfl ?_
            refine TGo.getS (t := 18) 62 62 (T + 33) (hT 0 (by decide)) rfl fgX10_136_10 dX10_goesOn_230 rfl rfl rfl ?_
            refine TGo.il1 dX10_goesOn_233 rfl ?_
            refine TGo.ic1 dX10_goesOn_234 ?_
            refine TGo.iadd dX10_goesOn_235 ?_
            refine TGo.al0 dX10_goesOn_236 rfl ?_
            refine TGo.il1 dX10_goesOn_237 rfl ?_
            refine TGo.cF (csV1 (y2 := mX10_isLast) (t := 18) 1 rfl (hT 0 (by decide)) rfl rfl dX10_goesOn_238 q2544 q2546 qs107 okX10_isLast npX10_isLast rfl rfl) (kX10_isLast hT (((((hz.t 39 rfl).t 36 rfl).t 37 rfl).t 34 rfl).t 35 rfl) hn1 hn12 hof (fun i h0 h1 => by first | exact hov i h0 h1 | exact (u2_n (Or.inl (by omega))).trans (hov i h0 h1) | exact (u2_n (Or.inl (by omega))).trans ((u2_n (Or.inl (by omega))).trans ((u2_n (Or.inl (by omega))).trans ((u2_n (Or.inl (by omega))).trans ((u2_n (Or.inl (by omega))).trans (hov i h0 h1)))))) hk) ?_
            refine TGo.ifb_eq 248 dX10_goesOn_241 (by decide) (fun h241 => ?_) (fun h241 => ?_)
            · refine TGo.al0 dX10_goesOn_248 rfl ?_
              refine TGo.getS (t := 18) 64 64 (T + 35) (hT 0 (by decide)) rfl fgX10_142_10 dX10_goesOn_249 rfl rfl rfl ?_
              refine TGo.il3 dX10_goesOn_252 rfl ?_
              refine TGo.iald dX10_goesOn_253 (hT 35 (by decide)) (by omega) rfl ?_
              first | refine TGo.toz t u2_s ?_ | refine TGo.toz (Nx (6 * at0 + z.2 3 (o k + 1))) u2_s ?_ | skip
              refine TGo.iast dX10_goesOn_254 (hT 33 (by decide)) (by omega) rfl ?_
              refine TGo.al0 dX10_goesOn_255 rfl ?_
              refine TGo.getS (t := 18) 67 67 (T + 38) (hT 0 (by decide)) rfl fgX10_151_10 dX10_goesOn_256 rfl rfl rfl ?_
              refine TGo.il1 dX10_goesOn_259 rfl ?_
              refine TGo.ic1 dX10_goesOn_260 ?_
              refine TGo.iadd dX10_goesOn_261 ?_
              refine TGo.il dX10_goesOn_262 rfl ?_
              refine TGo.if_eq 293 dX10_goesOn_264 (by decide) (by decide) (fun _ => ?_) (fun h => absurd h (by decide))
              refine TGo.al0 dX10_goesOn_293 rfl ?_
              refine TGo.getS (t := 18) 67 67 (T + 38) (hT 0 (by decide)) rfl fgX10_151_10 dX10_goesOn_294 rfl rfl rfl ?_
              refine TGo.il1 dX10_goesOn_297 rfl ?_
              refine TGo.iald dX10_goesOn_298 (hT 38 (by decide)) (by omega) rfl ?_
              refine TGo.toz _ ((u2_n (Or.inl (by omega))).trans ((u2_n (Or.inl (by omega))).trans ((u2_n (Or.inl (by omega))).trans ((u2_n (Or.inl (by omega))).trans ((u2_n (Or.inl (by omega))).trans (u2_n (Or.inl (by omega)))))))) ?_
              first | refine TGo.toz met hsh ?_ | skip
              refine TGo.iast dX10_goesOn_299 (hT 38 (by decide)) (by omega) rfl ?_
              refine TGo.ic1 dX10_goesOn_300 ?_
              refine TGo.zret dX10_goesOn_301 rfl (by first | exact Or.inl rfl | exact Or.inr rfl | exact bZ_or _ | assumption) ?_
              first
              | (exfalso; omega)
              | (refine ⟨_, rfl, rfl, rfl, (((((((hz.t 39 rfl).t 36 rfl).t 37 rfl).t 34 rfl).t 35 rfl).t 33 rfl).t 38 rfl), FrG.rf.i (by omega) |>.i (by omega) |>.i (by omega) |>.i (by omega) |>.i (by omega) |>.i (by omega) |>.i (by omega), Or.inr ⟨rfl, by omega, ?_, ⟨fun i h0 h1 => ?_, fun i h0 h1 => ?_⟩, (u2_n (Or.inl (by omega))).trans ((u2_n (Or.inl (by omega))).trans ((u2_n (Or.inl (by omega))).trans ((u2_n (Or.inl (by omega))).trans ((u2_n (Or.inl (by omega))).trans ((u2_n (Or.inl (by omega))).trans (u2_s)))))), ?_, ?_, ?_, ?_⟩⟩
                 · unfold tyL
                   first
                   | (rw [if_neg (by omega)]; omega)
                   | (rw [if_pos (by omega), if_pos (by omega)]; omega)
                   | (rw [if_pos (by omega), if_neg (by omega)]; omega)
                 · refine (u2_n (Or.inl (by omega))).trans ((u2_n (Or.inl (by omega))).trans ((u2_n (Or.inl (by omega))).trans (?_)))
                   by_cases e : i = (6 * at0 + z.2 3 (o k + 1))
                   · rw [e, zu_s]; exact u2_s
                   · rw [zu_n e]; exact (u2_n (Or.inr e)).trans ((u2_n (Or.inl (by omega))).trans ((u2_n (Or.inl (by omega))).trans ((u2_n (Or.inl (by omega))).trans (hl.1 i h0 h1))))
                 · refine (u2_n (Or.inl (by omega))).trans ((u2_n (Or.inl (by omega))).trans (?_))
                   by_cases e : i = (6 * at0 + z.2 3 (o k + 1))
                   · rw [e]; refine u2_s.trans ?_
                     first | (rw [if_pos (by omega)]; exact zu_s.symm) | (rw [if_neg (by omega)])
                   · refine (u2_n (Or.inr e)).trans (((u2_n (Or.inl (by omega))).trans ((u2_n (Or.inl (by omega))).trans ((u2_n (Or.inl (by omega))).trans ((u2_n (Or.inl (by omega))).trans (hl.2 i h0 h1))))).trans ?_)
                     first | (rw [if_pos (by omega)]; exact (zu_n e).symm) | (rw [if_neg (by omega)])
                 · refine ((u2_n (Or.inl (by omega))).trans ((u2_n (Or.inl (by omega))).trans ((u2_n (Or.inl (by omega))).trans ((u2_n (Or.inl (by omega))).trans ((u2_n (Or.inl (by omega))).trans (u2_s)))))).trans ?_
                   first | exact (bZ_t (by omega)).symm | exact (bZ_f (by omega)).symm
                 · refine ((u2_n (Or.inl (by omega))).trans ((u2_n (Or.inl (by omega))).trans ((u2_n (Or.inl (by omega))).trans ((u2_n (Or.inl (by omega))).trans (u2_s))))).trans ?_
                   first | exact (bZ_t (by omega)).symm | exact (bZ_f (by omega)).symm
                 · refine ((u2_n (Or.inl (by omega))).trans (u2_s)).trans ?_
                   first
                   | (rw [if_pos (show laL (z.2 3) o n1 k by omega)])
                   | (rw [if_neg (show ¬ laL (z.2 3) o n1 k by omega), if_pos (by omega)]; exact zu_s.symm)
                   | (rw [if_neg (show ¬ laL (z.2 3) o n1 k by omega), if_neg (by omega)])
                 · refine u2_s.trans ?_
                   first | (rw [if_pos (by omega)]) | (rw [if_neg (by omega)]))
            · refine TGo.ic0 dX10_goesOn_244 ?_
              refine TGo.goto 254 dX10_goesOn_245 (by decide) ?_
              first | refine TGo.toz t u2_s ?_ | refine TGo.toz (Nx (6 * at0 + z.2 3 (o k + 1))) u2_s ?_ | skip
              refine TGo.iast dX10_goesOn_254 (hT 33 (by decide)) (by omega) rfl ?_
              refine TGo.al0 dX10_goesOn_255 rfl ?_
              refine TGo.getS (t := 18) 67 67 (T + 38) (hT 0 (by decide)) rfl fgX10_151_10 dX10_goesOn_256 rfl rfl rfl ?_
              refine TGo.il1 dX10_goesOn_259 rfl ?_
              refine TGo.ic1 dX10_goesOn_260 ?_
              refine TGo.iadd dX10_goesOn_261 ?_
              refine TGo.il dX10_goesOn_262 rfl ?_
              refine TGo.if_eq 293 dX10_goesOn_264 (by decide) (by decide) (fun _ => ?_) (fun h => absurd h (by decide))
              refine TGo.al0 dX10_goesOn_293 rfl ?_
              refine TGo.getS (t := 18) 67 67 (T + 38) (hT 0 (by decide)) rfl fgX10_151_10 dX10_goesOn_294 rfl rfl rfl ?_
              refine TGo.il1 dX10_goesOn_297 rfl ?_
              refine TGo.iald dX10_goesOn_298 (hT 38 (by decide)) (by omega) rfl ?_
              refine TGo.toz _ ((u2_n (Or.inl (by omega))).trans ((u2_n (Or.inl (by omega))).trans ((u2_n (Or.inl (by omega))).trans ((u2_n (Or.inl (by omega))).trans ((u2_n (Or.inl (by omega))).trans (u2_n (Or.inl (by omega)))))))) ?_
              first | refine TGo.toz met hsh ?_ | skip
              refine TGo.iast dX10_goesOn_299 (hT 38 (by decide)) (by omega) rfl ?_
              refine TGo.ic1 dX10_goesOn_300 ?_
              refine TGo.zret dX10_goesOn_301 rfl (by first | exact Or.inl rfl | exact Or.inr rfl | exact bZ_or _ | assumption) ?_
              first
              | (exfalso; omega)
              | (refine ⟨_, rfl, rfl, rfl, (((((((hz.t 39 rfl).t 36 rfl).t 37 rfl).t 34 rfl).t 35 rfl).t 33 rfl).t 38 rfl), FrG.rf.i (by omega) |>.i (by omega) |>.i (by omega) |>.i (by omega) |>.i (by omega) |>.i (by omega) |>.i (by omega), Or.inr ⟨rfl, by omega, ?_, ⟨fun i h0 h1 => ?_, fun i h0 h1 => ?_⟩, (u2_n (Or.inl (by omega))).trans ((u2_n (Or.inl (by omega))).trans ((u2_n (Or.inl (by omega))).trans ((u2_n (Or.inl (by omega))).trans ((u2_n (Or.inl (by omega))).trans ((u2_n (Or.inl (by omega))).trans (u2_s)))))), ?_, ?_, ?_, ?_⟩⟩
                 · unfold tyL
                   first
                   | (rw [if_neg (by omega)]; omega)
                   | (rw [if_pos (by omega), if_pos (by omega)]; omega)
                   | (rw [if_pos (by omega), if_neg (by omega)]; omega)
                 · refine (u2_n (Or.inl (by omega))).trans ((u2_n (Or.inl (by omega))).trans ((u2_n (Or.inl (by omega))).trans (?_)))
                   by_cases e : i = (6 * at0 + z.2 3 (o k + 1))
                   · rw [e, zu_s]; exact u2_s
                   · rw [zu_n e]; exact (u2_n (Or.inr e)).trans ((u2_n (Or.inl (by omega))).trans ((u2_n (Or.inl (by omega))).trans ((u2_n (Or.inl (by omega))).trans (hl.1 i h0 h1))))
                 · refine (u2_n (Or.inl (by omega))).trans ((u2_n (Or.inl (by omega))).trans (?_))
                   by_cases e : i = (6 * at0 + z.2 3 (o k + 1))
                   · rw [e]; refine u2_s.trans ?_
                     first | (rw [if_pos (by omega)]; exact zu_s.symm) | (rw [if_neg (by omega)])
                   · refine (u2_n (Or.inr e)).trans (((u2_n (Or.inl (by omega))).trans ((u2_n (Or.inl (by omega))).trans ((u2_n (Or.inl (by omega))).trans ((u2_n (Or.inl (by omega))).trans (hl.2 i h0 h1))))).trans ?_)
                     first | (rw [if_pos (by omega)]; exact (zu_n e).symm) | (rw [if_neg (by omega)])
                 · refine ((u2_n (Or.inl (by omega))).trans ((u2_n (Or.inl (by omega))).trans ((u2_n (Or.inl (by omega))).trans ((u2_n (Or.inl (by omega))).trans ((u2_n (Or.inl (by omega))).trans (u2_s)))))).trans ?_
                   first | exact (bZ_t (by omega)).symm | exact (bZ_f (by omega)).symm
                 · refine ((u2_n (Or.inl (by omega))).trans ((u2_n (Or.inl (by omega))).trans ((u2_n (Or.inl (by omega))).trans ((u2_n (Or.inl (by omega))).trans (u2_s))))).trans ?_
                   first | exact (bZ_t (by omega)).symm | exact (bZ_f (by omega)).symm
                 · refine ((u2_n (Or.inl (by omega))).trans (u2_s)).trans ?_
                   first
                   | (rw [if_pos (show laL (z.2 3) o n1 k by omega)])
                   | (rw [if_neg (show ¬ laL (z.2 3) o n1 k by omega), if_pos (by omega)]; exact zu_s.symm)
                   | (rw [if_neg (show ¬ laL (z.2 3) o n1 k by omega), if_neg (by omega)])
                 · refine u2_s.trans ?_
                   first | (rw [if_pos (by omega)]) | (rw [if_neg (by omega)]))
        · refine TGo.al0 dX10_goesOn_155 rfl ?_
          refine TGo.getS (t := 18) 68 68 (T + 39) (hT 0 (by decide)) rfl fgX10_154_10 dX10_goesOn_156 rfl rfl rfl ?_
          refine TGo.il1 dX10_goesOn_159 rfl ?_
          refine TGo.ldcw 1000000 dX10_goesOn_160 q2499 (by decide) ?_
          refine TGo.iast dX10_goesOn_163 (hT 39 (by decide)) (by omega) rfl ?_
          refine TGo.ic0 dX10_goesOn_164 ?_
          refine TGo.zret dX10_goesOn_165 rfl (by first | exact Or.inl rfl | exact Or.inr rfl | exact bZ_or _ | assumption) ?_
          first
          | (exfalso; omega)
          | (refine ⟨_, rfl, rfl, rfl, ((hz.t 39 rfl).t 39 rfl), FrG.rf.i (by omega) |>.i (by omega), Or.inl ⟨rfl, ?_, ⟨fun i h0 h1 => (u2_n (Or.inl (by omega))).trans ((u2_n (Or.inl (by omega))).trans (hl.1 i h0 h1)), fun i h0 h1 => (u2_n (Or.inl (by omega))).trans ((u2_n (Or.inl (by omega))).trans (hl.2 i h0 h1))⟩, (u2_n (Or.inl (by omega))).trans ((u2_n (Or.inl (by omega))).trans (ha)), (u2_n (Or.inl (by omega))).trans ((u2_n (Or.inl (by omega))).trans (hb))⟩⟩
             first
             | exact Or.inl (by omega)
             | (refine Or.inr ?_
                unfold tyL
                first
                | (rw [if_neg (by omega)]; omega)
                | (rw [if_pos (by omega), if_pos (by omega)]; omega)
                | (rw [if_pos (by omega), if_neg (by omega)]; omega)))
      · refine TGo.ic1 dX10_goesOn_99 ?_
        refine TGo.goto 104 dX10_goesOn_100 (by decide) ?_
        refine TGo.is dX10_goesOn_104 rfl rfl ?_
        refine TGo.il dX10_goesOn_106 rfl ?_
        refine TGo.if_eq 141 dX10_goesOn_108 (by decide) (by decide) (fun h => absurd h (by decide)) (fun _ => ?_)
        refine TGo.al0 dX10_goesOn_111 rfl ?_
        refine TGo.getS (t := 18) 67 67 (T + 38) (hT 0 (by decide)) rfl fgX10_151_10 dX10_goesOn_112 rfl rfl rfl ?_
        refine TGo.il1 dX10_goesOn_115 rfl ?_
        refine TGo.iald dX10_goesOn_116 (hT 38 (by decide)) (by omega) rfl ?_
        refine TGo.toz _ (u2_n (Or.inl (by omega))) ?_
        refine TGo.toz met (hsh) ?_
        refine TGo.il2 dX10_goesOn_117 rfl ?_
        refine TGo.icmp_ge 132 dX10_goesOn_118 (by decide) (by omega) (fun h118 => ?_) (fun h118 => ?_)
        · refine TGo.al0 dX10_goesOn_132 rfl ?_
          refine TGo.getS (t := 18) 67 67 (T + 38) (hT 0 (by decide)) rfl fgX10_151_10 dX10_goesOn_133 rfl rfl rfl ?_
          refine TGo.il1 dX10_goesOn_136 rfl ?_
          refine TGo.iald dX10_goesOn_137 (hT 38 (by decide)) (by omega) rfl ?_
          refine TGo.toz _ (u2_n (Or.inl (by omega))) ?_
          refine TGo.toz met (hsh) ?_
          refine TGo.goto 142 dX10_goesOn_138 (by decide) ?_
          refine TGo.is dX10_goesOn_142 rfl rfl ?_
          refine TGo.al0 dX10_goesOn_144 rfl ?_
          refine TGo.getS (t := 18) 68 68 (T + 39) (hT 0 (by decide)) rfl fgX10_154_10 dX10_goesOn_145 rfl rfl rfl ?_
          refine TGo.il1 dX10_goesOn_148 rfl ?_
          refine TGo.iald dX10_goesOn_149 (hT 39 (by decide)) (by omega) rfl ?_
          refine TGo.toz t (u2_s) ?_
          refine TGo.il dX10_goesOn_150 rfl ?_
          refine TGo.icmp_lt 166 dX10_goesOn_152 (by decide) (by omega) (fun h152 => ?_) (fun h152 => ?_)
          · refine TGo.al0 dX10_goesOn_166 rfl ?_
            refine TGo.getS (t := 18) 65 65 (T + 36) (hT 0 (by decide)) rfl fgX10_145_10 dX10_goesOn_167 rfl rfl rfl ?_
            refine TGo.il1 dX10_goesOn_170 rfl ?_
            refine TGo.al0 dX10_goesOn_171 rfl ?_
            refine TGo.getS (t := 18) 63 63 (T + 34) (hT 0 (by decide)) rfl fgX10_139_10 dX10_goesOn_172 rfl rfl rfl ?_
            refine TGo.il3 dX10_goesOn_175 rfl ?_
            refine TGo.iald dX10_goesOn_176 (hT 34 (by decide)) (by omega) rfl ?_
            refine TGo.toz _ (u2_n (Or.inl (by omega))) ?_
            refine TGo.toz (Wd (6 * at0 + z.2 3 (o k + 1))) (hl.1 _ (by omega) (by omega)) ?_
            refine TGo.icm1 dX10_goesOn_177 ?_
            refine TGo.icmp_ne 185 dX10_goesOn_178 (by decide) (by omega) (fun h178 => ?_) (fun h178 => ?_)
            · refine TGo.ic0 dX10_goesOn_185 ?_
              refine TGo.zast dX10_goesOn_186 (hT 36 (by decide)) (by omega) rfl (by first | exact Or.inl rfl | exact Or.inr rfl | exact bZ_or _ | assumption) ?_
              refine TGo.al0 dX10_goesOn_187 rfl ?_
              refine TGo.getS (t := 18) 66 66 (T + 37) (hT 0 (by decide)) rfl fgX10_148_10 dX10_goesOn_188 rfl rfl rfl ?_
              refine TGo.il1 dX10_goesOn_191 rfl ?_
              refine TGo.il dX10_goesOn_192 rfl ?_
              refine TGo.zast dX10_goesOn_194 (hT 37 (by decide)) (by omega) rfl (by first | exact Or.inl rfl | exact Or.inr rfl | exact bZ_or _ | assumption) ?_
              refine TGo.al0 dX10_goesOn_195 rfl ?_
              refine TGo.getS (t := 18) 63 63 (T + 34) (hT 0 (by decide)) rfl fgX10_139_10 dX10_goesOn_196 rfl rfl rfl ?_
              refine TGo.il3 dX10_goesOn_199 rfl ?_
              refine TGo.il dX10_goesOn_200 rfl ?_
              refine TGo.iast dX10_goesOn_202 (hT 34 (by decide)) (by omega) rfl ?_
              refine TGo.al0 dX10_goesOn_203 rfl ?_
              refine TGo.getS (t := 18) 64 64 (T + 35) (hT 0 (by decide)) rfl fgX10_142_10 dX10_goesOn_204 rfl rfl rfl ?_
              refine TGo.il3 dX10_goesOn_207 rfl ?_
              refine TGo.il dX10_goesOn_208 rfl ?_
              refine TGo.if_eq 222 dX10_goesOn_210 (by decide) (by decide) (fun h => absurd h (by decide)) (fun _ => ?_)
              refine TGo.al0 dX10_goesOn_213 rfl ?_
              refine TGo.getS (t := 18) 68 68 (T + 39) (hT 0 (by decide)) rfl fgX10_154_10 dX10_goesOn_214 rfl rfl rfl ?_
              refine TGo.il1 dX10_goesOn_217 rfl ?_
              refine TGo.iald dX10_goesOn_218 (hT 39 (by decide)) (by omega) rfl ?_
              refine TGo.toz t ((u2_n (Or.inl (by omega))).trans ((u2_n (Or.inl (by omega))).trans ((u2_n (Or.inl (by omega))).trans (u2_s)))) ?_
              refine TGo.goto 228 dX10_goesOn_219 (by decide) ?_
              first | refine TGo.toz (Nx (6 * at0 + z.2 3 (o k + 1))) (hl.2 _ (by omega) (by omega)) ?_ | skip
              refine TGo.iast dX10_goesOn_228 (hT 35 (by decide)) (by omega) rfl ?_
              refine TGo.al0 dX10_goesOn_229 rfl ?_
              refine TGo.getS (t := 18) 62 62 (T + 33) (hT 0 (by decide)) rfl fgX10_136_10 dX10_goesOn_230 rfl rfl rfl ?_
              refine TGo.il1 dX10_goesOn_233 rfl ?_
              refine TGo.ic1 dX10_goesOn_234 ?_
              refine TGo.iadd dX10_goesOn_235 ?_
              refine TGo.al0 dX10_goesOn_236 rfl ?_
              refine TGo.il1 dX10_goesOn_237 rfl ?_
              refine TGo.cF (csV1 (y2 := mX10_isLast) (t := 18) 1 rfl (hT 0 (by decide)) rfl rfl dX10_goesOn_238 q2544 q2546 qs107 okX10_isLast npX10_isLast rfl rfl) (kX10_isLast hT (((((hz.t 39 rfl).t 36 rfl).t 37 rfl).t 34 rfl).t 35 rfl) hn1 hn12 hof (fun i h0 h1 => by first | exact hov i h0 h1 | exact (u2_n (Or.inl (by omega))).trans (hov i h0 h1) | exact (u2_n (Or.inl (by omega))).trans ((u2_n (Or.inl (by omega))).trans ((u2_n (Or.inl (by omega))).trans ((u2_n (Or.inl (by omega))).trans ((u2_n (Or.inl (by omega))).trans (hov i h0 h1)))))) hk) ?_
              refine TGo.ifb_eq 248 dX10_goesOn_241 (by decide) (fun h241 => ?_) (fun h241 => ?_)
              · refine TGo.al0 dX10_goesOn_248 rfl ?_
                refine TGo.getS (t := 18) 64 64 (T + 35) (hT 0 (by decide)) rfl fgX10_142_10 dX10_goesOn_249 rfl rfl rfl ?_
                refine TGo.il3 dX10_goesOn_252 rfl ?_
                refine TGo.iald dX10_goesOn_253 (hT 35 (by decide)) (by omega) rfl ?_
                first | refine TGo.toz t u2_s ?_ | refine TGo.toz (Nx (6 * at0 + z.2 3 (o k + 1))) u2_s ?_ | skip
                refine TGo.iast dX10_goesOn_254 (hT 33 (by decide)) (by omega) rfl ?_
                refine TGo.al0 dX10_goesOn_255 rfl ?_
                refine TGo.getS (t := 18) 67 67 (T + 38) (hT 0 (by decide)) rfl fgX10_151_10 dX10_goesOn_256 rfl rfl rfl ?_
                refine TGo.il1 dX10_goesOn_259 rfl ?_
                refine TGo.ic1 dX10_goesOn_260 ?_
                refine TGo.iadd dX10_goesOn_261 ?_
                refine TGo.il dX10_goesOn_262 rfl ?_
                refine TGo.if_eq 293 dX10_goesOn_264 (by decide) (by decide) (fun h => absurd h (by decide)) (fun _ => ?_)
                refine TGo.al0 dX10_goesOn_267 rfl ?_
                refine TGo.getS (t := 18) 68 68 (T + 39) (hT 0 (by decide)) rfl fgX10_154_10 dX10_goesOn_268 rfl rfl rfl ?_
                refine TGo.il1 dX10_goesOn_271 rfl ?_
                refine TGo.iald dX10_goesOn_272 (hT 39 (by decide)) (by omega) rfl ?_
                refine TGo.toz t ((u2_n (Or.inl (by omega))).trans ((u2_n (Or.inl (by omega))).trans ((u2_n (Or.inl (by omega))).trans ((u2_n (Or.inl (by omega))).trans ((u2_n (Or.inl (by omega))).trans (u2_s)))))) ?_
                refine TGo.al0 dX10_goesOn_273 rfl ?_
                refine TGo.getS (t := 18) 67 67 (T + 38) (hT 0 (by decide)) rfl fgX10_151_10 dX10_goesOn_274 rfl rfl rfl ?_
                refine TGo.il1 dX10_goesOn_277 rfl ?_
                refine TGo.iald dX10_goesOn_278 (hT 38 (by decide)) (by omega) rfl ?_
                refine TGo.toz _ ((u2_n (Or.inl (by omega))).trans ((u2_n (Or.inl (by omega))).trans ((u2_n (Or.inl (by omega))).trans ((u2_n (Or.inl (by omega))).trans ((u2_n (Or.inl (by omega))).trans (u2_n (Or.inl (by omega)))))))) ?_
                refine TGo.toz met (hsh) ?_
                refine TGo.icmp_ne 293 dX10_goesOn_279 (by decide) (by omega) (fun h279 => ?_) (fun h279 => ?_)
                · refine TGo.al0 dX10_goesOn_293 rfl ?_
                  refine TGo.getS (t := 18) 67 67 (T + 38) (hT 0 (by decide)) rfl fgX10_151_10 dX10_goesOn_294 rfl rfl rfl ?_
                  refine TGo.il1 dX10_goesOn_297 rfl ?_
                  refine TGo.iald dX10_goesOn_298 (hT 38 (by decide)) (by omega) rfl ?_
                  refine TGo.toz _ ((u2_n (Or.inl (by omega))).trans ((u2_n (Or.inl (by omega))).trans ((u2_n (Or.inl (by omega))).trans ((u2_n (Or.inl (by omega))).trans ((u2_n (Or.inl (by omega))).trans (u2_n (Or.inl (by omega)))))))) ?_
                  first | refine TGo.toz met hsh ?_ | skip
                  refine TGo.iast dX10_goesOn_299 (hT 38 (by decide)) (by omega) rfl ?_
                  refine TGo.ic1 dX10_goesOn_300 ?_
                  refine TGo.zret dX10_goesOn_301 rfl (by first | exact Or.inl rfl | exact Or.inr rfl | exact bZ_or _ | assumption) ?_
                  first
                  | (exfalso; omega)
                  | (refine ⟨_, rfl, rfl, rfl, (((((((hz.t 39 rfl).t 36 rfl).t 37 rfl).t 34 rfl).t 35 rfl).t 33 rfl).t 38 rfl), FrG.rf.i (by omega) |>.i (by omega) |>.i (by omega) |>.i (by omega) |>.i (by omega) |>.i (by omega) |>.i (by omega), Or.inr ⟨rfl, by omega, ?_, ⟨fun i h0 h1 => ?_, fun i h0 h1 => ?_⟩, (u2_n (Or.inl (by omega))).trans ((u2_n (Or.inl (by omega))).trans ((u2_n (Or.inl (by omega))).trans ((u2_n (Or.inl (by omega))).trans ((u2_n (Or.inl (by omega))).trans ((u2_n (Or.inl (by omega))).trans (u2_s)))))), ?_, ?_, ?_, ?_⟩⟩
                     · unfold tyL
                       first
                       | (rw [if_neg (by omega)]; omega)
                       | (rw [if_pos (by omega), if_pos (by omega)]; omega)
                       | (rw [if_pos (by omega), if_neg (by omega)]; omega)
                     · refine (u2_n (Or.inl (by omega))).trans ((u2_n (Or.inl (by omega))).trans ((u2_n (Or.inl (by omega))).trans (?_)))
                       by_cases e : i = (6 * at0 + z.2 3 (o k + 1))
                       · rw [e, zu_s]; exact u2_s
                       · rw [zu_n e]; exact (u2_n (Or.inr e)).trans ((u2_n (Or.inl (by omega))).trans ((u2_n (Or.inl (by omega))).trans ((u2_n (Or.inl (by omega))).trans (hl.1 i h0 h1))))
                     · refine (u2_n (Or.inl (by omega))).trans ((u2_n (Or.inl (by omega))).trans (?_))
                       by_cases e : i = (6 * at0 + z.2 3 (o k + 1))
                       · rw [e]; refine u2_s.trans ?_
                         first | (rw [if_pos (by omega)]; exact zu_s.symm) | (rw [if_neg (by omega)])
                       · refine (u2_n (Or.inr e)).trans (((u2_n (Or.inl (by omega))).trans ((u2_n (Or.inl (by omega))).trans ((u2_n (Or.inl (by omega))).trans ((u2_n (Or.inl (by omega))).trans (hl.2 i h0 h1))))).trans ?_)
                         first | (rw [if_pos (by omega)]; exact (zu_n e).symm) | (rw [if_neg (by omega)])
                     · refine ((u2_n (Or.inl (by omega))).trans ((u2_n (Or.inl (by omega))).trans ((u2_n (Or.inl (by omega))).trans ((u2_n (Or.inl (by omega))).trans ((u2_n (Or.inl (by omega))).trans (u2_s)))))).trans ?_
                       first | exact (bZ_t (by omega)).symm | exact (bZ_f (by omega)).symm
                     · refine ((u2_n (Or.inl (by omega))).trans ((u2_n (Or.inl (by omega))).trans ((u2_n (Or.inl (by omega))).trans ((u2_n (Or.inl (by omega))).trans (u2_s))))).trans ?_
                       first | exact (bZ_t (by omega)).symm | exact (bZ_f (by omega)).symm
                     · refine ((u2_n (Or.inl (by omega))).trans (u2_s)).trans ?_
                       first
                       | (rw [if_pos (show laL (z.2 3) o n1 k by omega)])
                       | (rw [if_neg (show ¬ laL (z.2 3) o n1 k by omega), if_pos (by omega)]; exact zu_s.symm)
                       | (rw [if_neg (show ¬ laL (z.2 3) o n1 k by omega), if_neg (by omega)])
                     · refine u2_s.trans ?_
                       first | (rw [if_pos (by omega)]) | (rw [if_neg (by omega)]))
                · refine TGo.al0 dX10_goesOn_282 rfl ?_
                  refine TGo.getS (t := 18) 67 67 (T + 38) (hT 0 (by decide)) rfl fgX10_151_10 dX10_goesOn_283 rfl rfl rfl ?_
                  refine TGo.il1 dX10_goesOn_286 rfl ?_
                  refine TGo.iald dX10_goesOn_287 (hT 38 (by decide)) (by omega) rfl ?_
                  refine TGo.toz _ ((u2_n (Or.inl (by omega))).trans ((u2_n (Or.inl (by omega))).trans ((u2_n (Or.inl (by omega))).trans ((u2_n (Or.inl (by omega))).trans ((u2_n (Or.inl (by omega))).trans (u2_n (Or.inl (by omega)))))))) ?_
                  refine TGo.toz met (hsh) ?_
                  refine TGo.ic1 dX10_goesOn_288 ?_
                  refine TGo.iadd dX10_goesOn_289 ?_
                  refine TGo.goto 299 dX10_goesOn_290 (by decide) ?_
                  first | refine TGo.toz met hsh ?_ | skip
                  refine TGo.iast dX10_goesOn_299 (hT 38 (by decide)) (by omega) rfl ?_
                  refine TGo.ic1 dX10_goesOn_300 ?_
                  refine TGo.zret dX10_goesOn_301 rfl (by first | exact Or.inl rfl | exact Or.inr rfl | exact bZ_or _ | assumption) ?_
                  first
                  | (exfalso; omega)
                  | (refine ⟨_, rfl, rfl, rfl, (((((((hz.t 39 rfl).t 36 rfl).t 37 rfl).t 34 rfl).t 35 rfl).t 33 rfl).t 38 rfl), FrG.rf.i (by omega) |>.i (by omega) |>.i (by omega) |>.i (by omega) |>.i (by omega) |>.i (by omega) |>.i (by omega), Or.inr ⟨rfl, by omega, ?_, ⟨fun i h0 h1 => ?_, fun i h0 h1 => ?_⟩, (u2_n (Or.inl (by omega))).trans ((u2_n (Or.inl (by omega))).trans ((u2_n (Or.inl (by omega))).trans ((u2_n (Or.inl (by omega))).trans ((u2_n (Or.inl (by omega))).trans ((u2_n (Or.inl (by omega))).trans (u2_s)))))), ?_, ?_, ?_, ?_⟩⟩
                     · unfold tyL
                       first
                       | (rw [if_neg (by omega)]; omega)
                       | (rw [if_pos (by omega), if_pos (by omega)]; omega)
                       | (rw [if_pos (by omega), if_neg (by omega)]; omega)
                     · refine (u2_n (Or.inl (by omega))).trans ((u2_n (Or.inl (by omega))).trans ((u2_n (Or.inl (by omega))).trans (?_)))
                       by_cases e : i = (6 * at0 + z.2 3 (o k + 1))
                       · rw [e, zu_s]; exact u2_s
                       · rw [zu_n e]; exact (u2_n (Or.inr e)).trans ((u2_n (Or.inl (by omega))).trans ((u2_n (Or.inl (by omega))).trans ((u2_n (Or.inl (by omega))).trans (hl.1 i h0 h1))))
                     · refine (u2_n (Or.inl (by omega))).trans ((u2_n (Or.inl (by omega))).trans (?_))
                       by_cases e : i = (6 * at0 + z.2 3 (o k + 1))
                       · rw [e]; refine u2_s.trans ?_
                         first | (rw [if_pos (by omega)]; exact zu_s.symm) | (rw [if_neg (by omega)])
                       · refine (u2_n (Or.inr e)).trans (((u2_n (Or.inl (by omega))).trans ((u2_n (Or.inl (by omega))).trans ((u2_n (Or.inl (by omega))).trans ((u2_n (Or.inl (by omega))).trans (hl.2 i h0 h1))))).trans ?_)
                         first | (rw [if_pos (by omega)]; exact (zu_n e).symm) | (rw [if_neg (by omega)])
                     · refine ((u2_n (Or.inl (by omega))).trans ((u2_n (Or.inl (by omega))).trans ((u2_n (Or.inl (by omega))).trans ((u2_n (Or.inl (by omega))).trans ((u2_n (Or.inl (by omega))).trans (u2_s)))))).trans ?_
                       first | exact (bZ_t (by omega)).symm | exact (bZ_f (by omega)).symm
                     · refine ((u2_n (Or.inl (by omega))).trans ((u2_n (Or.inl (by omega))).trans ((u2_n (Or.inl (by omega))).trans ((u2_n (Or.inl (by omega))).trans (u2_s))))).trans ?_
                       first | exact (bZ_t (by omega)).symm | exact (bZ_f (by omega)).symm
                     · refine ((u2_n (Or.inl (by omega))).trans (u2_s)).trans ?_
                       first
                       | (rw [if_pos (show laL (z.2 3) o n1 k by omega)])
                       | (rw [if_neg (show ¬ laL (z.2 3) o n1 k by omega), if_pos (by omega)]; exact zu_s.symm)
                       | (rw [if_neg (show ¬ laL (z.2 3) o n1 k by omega), if_neg (by omega)])
                     · refine u2_s.trans ?_
                       first | (rw [if_pos (by omega)]) | (rw [if_neg (by omega)]))
              · refine TGo.ic0 dX10_goesOn_244 ?_
                refine TGo.goto 254 dX10_goesOn_245 (by decide) ?_
                first | refine TGo.toz t u2_s ?_ | refine TGo.toz (Nx (6 * at0 + z.2 3 (o k + 1))) u2_s ?_ | skip
                refine TGo.iast dX10_goesOn_254 (hT 33 (by decide)) (by omega) rfl ?_
                refine TGo.al0 dX10_goesOn_255 rfl ?_
                refine TGo.getS (t := 18) 67 67 (T + 38) (hT 0 (by decide)) rfl fgX10_151_10 dX10_goesOn_256 rfl rfl rfl ?_
                refine TGo.il1 dX10_goesOn_259 rfl ?_
                refine TGo.ic1 dX10_goesOn_260 ?_
                refine TGo.iadd dX10_goesOn_261 ?_
                refine TGo.il dX10_goesOn_262 rfl ?_
                refine TGo.if_eq 293 dX10_goesOn_264 (by decide) (by decide) (fun h => absurd h (by decide)) (fun _ => ?_)
                refine TGo.al0 dX10_goesOn_267 rfl ?_
                refine TGo.getS (t := 18) 68 68 (T + 39) (hT 0 (by decide)) rfl fgX10_154_10 dX10_goesOn_268 rfl rfl rfl ?_
                refine TGo.il1 dX10_goesOn_271 rfl ?_
                refine TGo.iald dX10_goesOn_272 (hT 39 (by decide)) (by omega) rfl ?_
                refine TGo.toz t ((u2_n (Or.inl (by omega))).trans ((u2_n (Or.inl (by omega))).trans ((u2_n (Or.inl (by omega))).trans ((u2_n (Or.inl (by omega))).trans ((u2_n (Or.inl (by omega))).trans (u2_s)))))) ?_
                refine TGo.al0 dX10_goesOn_273 rfl ?_
                refine TGo.getS (t := 18) 67 67 (T + 38) (hT 0 (by decide)) rfl fgX10_151_10 dX10_goesOn_274 rfl rfl rfl ?_
                refine TGo.il1 dX10_goesOn_277 rfl ?_
                refine TGo.iald dX10_goesOn_278 (hT 38 (by decide)) (by omega) rfl ?_
                refine TGo.toz _ ((u2_n (Or.inl (by omega))).trans ((u2_n (Or.inl (by omega))).trans ((u2_n (Or.inl (by omega))).trans ((u2_n (Or.inl (by omega))).trans ((u2_n (Or.inl (by omega))).trans (u2_n (Or.inl (by omega)))))))) ?_
                refine TGo.toz met (hsh) ?_
                refine TGo.icmp_ne 293 dX10_goesOn_279 (by decide) (by omega) (fun h279 => ?_) (fun h279 => ?_)
                · refine TGo.al0 dX10_goesOn_293 rfl ?_
                  refine TGo.getS (t := 18) 67 67 (T + 38) (hT 0 (by decide)) rfl fgX10_151_10 dX10_goesOn_294 rfl rfl rfl ?_
                  refine TGo.il1 dX10_goesOn_297 rfl ?_
                  refine TGo.iald dX10_goesOn_298 (hT 38 (by decide)) (by omega) rfl ?_
                  refine TGo.toz _ ((u2_n (Or.inl (by omega))).trans ((u2_n (Or.inl (by omega))).trans ((u2_n (Or.inl (by omega))).trans ((u2_n (Or.inl (by omega))).trans ((u2_n (Or.inl (by omega))).trans (u2_n (Or.inl (by omega)))))))) ?_
                  first | refine TGo.toz met hsh ?_ | skip
                  refine TGo.iast dX10_goesOn_299 (hT 38 (by decide)) (by omega) rfl ?_
                  refine TGo.ic1 dX10_goesOn_300 ?_
                  refine TGo.zret dX10_goesOn_301 rfl (by first | exact Or.inl rfl | exact Or.inr rfl | exact bZ_or _ | assumption) ?_
                  first
                  | (exfalso; omega)
                  | (refine ⟨_, rfl, rfl, rfl, (((((((hz.t 39 rfl).t 36 rfl).t 37 rfl).t 34 rfl).t 35 rfl).t 33 rfl).t 38 rfl), FrG.rf.i (by omega) |>.i (by omega) |>.i (by omega) |>.i (by omega) |>.i (by omega) |>.i (by omega) |>.i (by omega), Or.inr ⟨rfl, by omega, ?_, ⟨fun i h0 h1 => ?_, fun i h0 h1 => ?_⟩, (u2_n (Or.inl (by omega))).trans ((u2_n (Or.inl (by omega))).trans ((u2_n (Or.inl (by omega))).trans ((u2_n (Or.inl (by omega))).trans ((u2_n (Or.inl (by omega))).trans ((u2_n (Or.inl (by omega))).trans (u2_s)))))), ?_, ?_, ?_, ?_⟩⟩
                     · unfold tyL
                       first
                       | (rw [if_neg (by omega)]; omega)
                       | (rw [if_pos (by omega), if_pos (by omega)]; omega)
                       | (rw [if_pos (by omega), if_neg (by omega)]; omega)
                     · refine (u2_n (Or.inl (by omega))).trans ((u2_n (Or.inl (by omega))).trans ((u2_n (Or.inl (by omega))).trans (?_)))
                       by_cases e : i = (6 * at0 + z.2 3 (o k + 1))
                       · rw [e, zu_s]; exact u2_s
                       · rw [zu_n e]; exact (u2_n (Or.inr e)).trans ((u2_n (Or.inl (by omega))).trans ((u2_n (Or.inl (by omega))).trans ((u2_n (Or.inl (by omega))).trans (hl.1 i h0 h1))))
                     · refine (u2_n (Or.inl (by omega))).trans ((u2_n (Or.inl (by omega))).trans (?_))
                       by_cases e : i = (6 * at0 + z.2 3 (o k + 1))
                       · rw [e]; refine u2_s.trans ?_
                         first | (rw [if_pos (by omega)]; exact zu_s.symm) | (rw [if_neg (by omega)])
                       · refine (u2_n (Or.inr e)).trans (((u2_n (Or.inl (by omega))).trans ((u2_n (Or.inl (by omega))).trans ((u2_n (Or.inl (by omega))).trans ((u2_n (Or.inl (by omega))).trans (hl.2 i h0 h1))))).trans ?_)
                         first | (rw [if_pos (by omega)]; exact (zu_n e).symm) | (rw [if_neg (by omega)])
                     · refine ((u2_n (Or.inl (by omega))).trans ((u2_n (Or.inl (by omega))).trans ((u2_n (Or.inl (by omega))).trans ((u2_n (Or.inl (by omega))).trans ((u2_n (Or.inl (by omega))).trans (u2_s)))))).trans ?_
                       first | exact (bZ_t (by omega)).symm | exact (bZ_f (by omega)).symm
                     · refine ((u2_n (Or.inl (by omega))).trans ((u2_n (Or.inl (by omega))).trans ((u2_n (Or.inl (by omega))).trans ((u2_n (Or.inl (by omega))).trans (u2_s))))).trans ?_
                       first | exact (bZ_t (by omega)).symm | exact (bZ_f (by omega)).symm
                     · refine ((u2_n (Or.inl (by omega))).trans (u2_s)).trans ?_
                       first
                       | (rw [if_pos (show laL (z.2 3) o n1 k by omega)])
                       | (rw [if_neg (show ¬ laL (z.2 3) o n1 k by omega), if_pos (by omega)]; exact zu_s.symm)
                       | (rw [if_neg (show ¬ laL (z.2 3) o n1 k by omega), if_neg (by omega)])
                     · refine u2_s.trans ?_
                       first | (rw [if_pos (by omega)]) | (rw [if_neg (by omega)]))
                · refine TGo.al0 dX10_goesOn_282 rfl ?_
                  refine TGo.getS (t := 18) 67 67 (T + 38) (hT 0 (by decide)) rfl fgX10_151_10 dX10_goesOn_283 rfl rfl rfl ?_
                  refine TGo.il1 dX10_goesOn_286 rfl ?_
                  refine TGo.iald dX10_goesOn_287 (hT 38 (by decide)) (by omega) rfl ?_
                  refine TGo.toz _ ((u2_n (Or.inl (by omega))).trans ((u2_n (Or.inl (by omega))).trans ((u2_n (Or.inl (by omega))).trans ((u2_n (Or.inl (by omega))).trans ((u2_n (Or.inl (by omega))).trans (u2_n (Or.inl (by omega)))))))) ?_
                  refine TGo.toz met (hsh) ?_
                  refine TGo.ic1 dX10_goesOn_288 ?_
                  refine TGo.iadd dX10_goesOn_289 ?_
                  refine TGo.goto 299 dX10_goesOn_290 (by decide) ?_
                  first | refine TGo.toz met hsh ?_ | skip
                  refine TGo.iast dX10_goesOn_299 (hT 38 (by decide)) (by omega) rfl ?_
                  refine TGo.ic1 dX10_goesOn_300 ?_
                  refine TGo.zret dX10_goesOn_301 rfl (by first | exact Or.inl rfl | exact Or.inr rfl | exact bZ_or _ | assumption) ?_
                  first
                  | (exfalso; omega)
                  | (refine ⟨_, rfl, rfl, rfl, (((((((hz.t 39 rfl).t 36 rfl).t 37 rfl).t 34 rfl).t 35 rfl).t 33 rfl).t 38 rfl), FrG.rf.i (by omega) |>.i (by omega) |>.i (by omega) |>.i (by omega) |>.i (by omega) |>.i (by omega) |>.i (by omega), Or.inr ⟨rfl, by omega, ?_, ⟨fun i h0 h1 => ?_, fun i h0 h1 => ?_⟩, (u2_n (Or.inl (by omega))).trans ((u2_n (Or.inl (by omega))).trans ((u2_n (Or.inl (by omega))).trans ((u2_n (Or.inl (by omega))).trans ((u2_n (Or.inl (by omega))).trans ((u2_n (Or.inl (by omega))).trans (u2_s)))))), ?_, ?_, ?_, ?_⟩⟩
                     · unfold tyL
                       first
                       | (rw [if_neg (by omega)]; omega)
                       | (rw [if_pos (by omega), if_pos (by omega)]; omega)
                       | (rw [if_pos (by omega), if_neg (by omega)]; omega)
                     · refine (u2_n (Or.inl (by omega))).trans ((u2_n (Or.inl (by omega))).trans ((u2_n (Or.inl (by omega))).trans (?_)))
                       by_cases e : i = (6 * at0 + z.2 3 (o k + 1))
                       · rw [e, zu_s]; exact u2_s
                       · rw [zu_n e]; exact (u2_n (Or.inr e)).trans ((u2_n (Or.inl (by omega))).trans ((u2_n (Or.inl (by omega))).trans ((u2_n (Or.inl (by omega))).trans (hl.1 i h0 h1))))
                     · refine (u2_n (Or.inl (by omega))).trans ((u2_n (Or.inl (by omega))).trans (?_))
                       by_cases e : i = (6 * at0 + z.2 3 (o k + 1))
                       · rw [e]; refine u2_s.trans ?_
                         first | (rw [if_pos (by omega)]; exact zu_s.symm) | (rw [if_neg (by omega)])
                       · refine (u2_n (Or.inr e)).trans (((u2_n (Or.inl (by omega))).trans ((u2_n (Or.inl (by omega))).trans ((u2_n (Or.inl (by omega))).trans ((u2_n (Or.inl (by omega))).trans (hl.2 i h0 h1))))).trans ?_)
                         first | (rw [if_pos (by omega)]; exact (zu_n e).symm) | (rw [if_neg (by omega)])
                     · refine ((u2_n (Or.inl (by omega))).trans ((u2_n (Or.inl (by omega))).trans ((u2_n (Or.inl (by omega))).trans ((u2_n (Or.inl (by omega))).trans ((u2_n (Or.inl (by omega))).trans (u2_s)))))).trans ?_
                       first | exact (bZ_t (by omega)).symm | exact (bZ_f (by omega)).symm
                     · refine ((u2_n (Or.inl (by omega))).trans ((u2_n (Or.inl (by omega))).trans ((u2_n (Or.inl (by omega))).trans ((u2_n (Or.inl (by omega))).trans (u2_s))))).trans ?_
                       first | exact (bZ_t (by omega)).symm | exact (bZ_f (by omega)).symm
                     · refine ((u2_n (Or.inl (by omega))).trans (u2_s)).trans ?_
                       first
                       | (rw [if_pos (show laL (z.2 3) o n1 k by omega)])
                       | (rw [if_neg (show ¬ laL (z.2 3) o n1 k by omega), if_pos (by omega)]; exact zu_s.symm)
                       | (rw [if_neg (show ¬ laL (z.2 3) o n1 k by omega), if_neg (by omega)])
                     · refine u2_s.trans ?_
                       first | (rw [if_pos (by omega)]) | (rw [if_neg (by omega)]))
            · refine TGo.ic1 dX10_goesOn_181 ?_
              refine TGo.goto 186 dX10_goesOn_182 (by decide) ?_
              refine TGo.zast dX10_goesOn_186 (hT 36 (by decide)) (by omega) rfl (by first | exact Or.inl rfl | exact Or.inr rfl | exact bZ_or _ | assumption) ?_
              refine TGo.al0 dX10_goesOn_187 rfl ?_
              refine TGo.getS (t := 18) 66 66 (T + 37) (hT 0 (by decide)) rfl fgX10_148_10 dX10_goesOn_188 rfl rfl rfl ?_
              refine TGo.il1 dX10_goesOn_191 rfl ?_
              refine TGo.il dX10_goesOn_192 rfl ?_
              refine TGo.zast dX10_goesOn_194 (hT 37 (by decide)) (by omega) rfl (by first | exact Or.inl rfl | exact Or.inr rfl | exact bZ_or _ | assumption) ?_
              refine TGo.al0 dX10_goesOn_195 rfl ?_
              refine TGo.getS (t := 18) 63 63 (T + 34) (hT 0 (by decide)) rfl fgX10_139_10 dX10_goesOn_196 rfl rfl rfl ?_
              refine TGo.il3 dX10_goesOn_199 rfl ?_
              refine TGo.il dX10_goesOn_200 rfl ?_
              refine TGo.iast dX10_goesOn_202 (hT 34 (by decide)) (by omega) rfl ?_
              refine TGo.al0 dX10_goesOn_203 rfl ?_
              refine TGo.getS (t := 18) 64 64 (T + 35) (hT 0 (by decide)) rfl fgX10_142_10 dX10_goesOn_204 rfl rfl rfl ?_
              refine TGo.il3 dX10_goesOn_207 rfl ?_
              refine TGo.il dX10_goesOn_208 rfl ?_
              refine TGo.if_eq 222 dX10_goesOn_210 (by decide) (by decide) (fun h => absurd h (by decide)) (fun _ => ?_)
              refine TGo.al0 dX10_goesOn_213 rfl ?_
              refine TGo.getS (t := 18) 68 68 (T + 39) (hT 0 (by decide)) rfl fgX10_154_10 dX10_goesOn_214 rfl rfl rfl ?_
              refine TGo.il1 dX10_goesOn_217 rfl ?_
              refine TGo.iald dX10_goesOn_218 (hT 39 (by decide)) (by omega) rfl ?_
              refine TGo.toz t ((u2_n (Or.inl (by omega))).trans ((u2_n (Or.inl (by omega))).trans ((u2_n (Or.inl (by omega))).trans (u2_s)))) ?_
              refine TGo.goto 228 dX10_goesOn_219 (by decide) ?_
              first | refine TGo.toz (Nx (6 * at0 + z.2 3 (o k + 1))) (hl.2 _ (by omega) (by omega)) ?_ | skip
              refine TGo.iast dX10_goesOn_228 (hT 35 (by decide)) (by omega) rfl ?_
              refine TGo.al0 dX10_goesOn_229 rfl ?_
              refine TGo.getS (t := 18) 62 62 (T + 33) (hT 0 (by decide)) rfl fgX10_136_10 dX10_goesOn_230 rfl rfl rfl ?_
              refine TGo.il1 dX10_goesOn_233 rfl ?_
              refine TGo.ic1 dX10_goesOn_234 ?_
              refine TGo.iadd dX10_goesOn_235 ?_
              refine TGo.al0 dX10_goesOn_236 rfl ?_
              refine TGo.il1 dX10_goesOn_237 rfl ?_
              refine TGo.cF (csV1 (y2 := mX10_isLast) (t := 18) 1 rfl (hT 0 (by decide)) rfl rfl dX10_goesOn_238 q2544 q2546 qs107 okX10_isLast npX10_isLast rfl rfl) (kX10_isLast hT (((((hz.t 39 rfl).t 36 rfl).t 37 rfl).t 34 rfl).t 35 rfl) hn1 hn12 hof (fun i h0 h1 => by first | exact hov i h0 h1 | exact (u2_n (Or.inl (by omega))).trans (hov i h0 h1) | exact (u2_n (Or.inl (by omega))).trans ((u2_n (Or.inl (by omega))).trans ((u2_n (Or.inl (by omega))).trans ((u2_n (Or.inl (by omega))).trans ((u2_n (Or.inl (by omega))).trans (hov i h0 h1)))))) hk) ?_
              refine TGo.ifb_eq 248 dX10_goesOn_241 (by decide) (fun h241 => ?_) (fun h241 => ?_)
              · refine TGo.al0 dX10_goesOn_248 rfl ?_
                refine TGo.getS (t := 18) 64 64 (T + 35) (hT 0 (by decide)) rfl fgX10_142_10 dX10_goesOn_249 rfl rfl rfl ?_
                refine TGo.il3 dX10_goesOn_252 rfl ?_
                refine TGo.iald dX10_goesOn_253 (hT 35 (by decide)) (by omega) rfl ?_
                first | refine TGo.toz t u2_s ?_ | refine TGo.toz (Nx (6 * at0 + z.2 3 (o k + 1))) u2_s ?_ | skip
                refine TGo.iast dX10_goesOn_254 (hT 33 (by decide)) (by omega) rfl ?_
                refine TGo.al0 dX10_goesOn_255 rfl ?_
                refine TGo.getS (t := 18) 67 67 (T + 38) (hT 0 (by decide)) rfl fgX10_151_10 dX10_goesOn_256 rfl rfl rfl ?_
                refine TGo.il1 dX10_goesOn_259 rfl ?_
                refine TGo.ic1 dX10_goesOn_260 ?_
                refine TGo.iadd dX10_goesOn_261 ?_
                refine TGo.il dX10_goesOn_262 rfl ?_
                refine TGo.if_eq 293 dX10_goesOn_264 (by decide) (by decide) (fun h => absurd h (by decide)) (fun _ => ?_)
                refine TGo.al0 dX10_goesOn_267 rfl ?_
                refine TGo.getS (t := 18) 68 68 (T + 39) (hT 0 (by decide)) rfl fgX10_154_10 dX10_goesOn_268 rfl rfl rfl ?_
                refine TGo.il1 dX10_goesOn_271 rfl ?_
                refine TGo.iald dX10_goesOn_272 (hT 39 (by decide)) (by omega) rfl ?_
                refine TGo.toz t ((u2_n (Or.inl (by omega))).trans ((u2_n (Or.inl (by omega))).trans ((u2_n (Or.inl (by omega))).trans ((u2_n (Or.inl (by omega))).trans ((u2_n (Or.inl (by omega))).trans (u2_s)))))) ?_
                refine TGo.al0 dX10_goesOn_273 rfl ?_
                refine TGo.getS (t := 18) 67 67 (T + 38) (hT 0 (by decide)) rfl fgX10_151_10 dX10_goesOn_274 rfl rfl rfl ?_
                refine TGo.il1 dX10_goesOn_277 rfl ?_
                refine TGo.iald dX10_goesOn_278 (hT 38 (by decide)) (by omega) rfl ?_
                refine TGo.toz _ ((u2_n (Or.inl (by omega))).trans ((u2_n (Or.inl (by omega))).trans ((u2_n (Or.inl (by omega))).trans ((u2_n (Or.inl (by omega))).trans ((u2_n (Or.inl (by omega))).trans (u2_n (Or.inl (by omega)))))))) ?_
                refine TGo.toz met (hsh) ?_
                refine TGo.icmp_ne 293 dX10_goesOn_279 (by decide) (by omega) (fun h279 => ?_) (fun h279 => ?_)
                · refine TGo.al0 dX10_goesOn_293 rfl ?_
                  refine TGo.getS (t := 18) 67 67 (T + 38) (hT 0 (by decide)) rfl fgX10_151_10 dX10_goesOn_294 rfl rfl rfl ?_
                  refine TGo.il1 dX10_goesOn_297 rfl ?_
                  refine TGo.iald dX10_goesOn_298 (hT 38 (by decide)) (by omega) rfl ?_
                  refine TGo.toz _ ((u2_n (Or.inl (by omega))).trans ((u2_n (Or.inl (by omega))).trans ((u2_n (Or.inl (by omega))).trans ((u2_n (Or.inl (by omega))).trans ((u2_n (Or.inl (by omega))).trans (u2_n (Or.inl (by omega)))))))) ?_
                  first | refine TGo.toz met hsh ?_ | skip
                  refine TGo.iast dX10_goesOn_299 (hT 38 (by decide)) (by omega) rfl ?_
                  refine TGo.ic1 dX10_goesOn_300 ?_
                  refine TGo.zret dX10_goesOn_301 rfl (by first | exact Or.inl rfl | exact Or.inr rfl | exact bZ_or _ | assumption) ?_
                  first
                  | (exfalso; omega)
                  | (refine ⟨_, rfl, rfl, rfl, (((((((hz.t 39 rfl).t 36 rfl).t 37 rfl).t 34 rfl).t 35 rfl).t 33 rfl).t 38 rfl), FrG.rf.i (by omega) |>.i (by omega) |>.i (by omega) |>.i (by omega) |>.i (by omega) |>.i (by omega) |>.i (by omega), Or.inr ⟨rfl, by omega, ?_, ⟨fun i h0 h1 => ?_, fun i h0 h1 => ?_⟩, (u2_n (Or.inl (by omega))).trans ((u2_n (Or.inl (by omega))).trans ((u2_n (Or.inl (by omega))).trans ((u2_n (Or.inl (by omega))).trans ((u2_n (Or.inl (by omega))).trans ((u2_n (Or.inl (by omega))).trans (u2_s)))))), ?_, ?_, ?_, ?_⟩⟩
                     · unfold tyL
                       first
                       | (rw [if_neg (by omega)]; omega)
                       | (rw [if_pos (by omega), if_pos (by omega)]; omega)
                       | (rw [if_pos (by omega), if_neg (by omega)]; omega)
                     · refine (u2_n (Or.inl (by omega))).trans ((u2_n (Or.inl (by omega))).trans ((u2_n (Or.inl (by omega))).trans (?_)))
                       by_cases e : i = (6 * at0 + z.2 3 (o k + 1))
                       · rw [e, zu_s]; exact u2_s
                       · rw [zu_n e]; exact (u2_n (Or.inr e)).trans ((u2_n (Or.inl (by omega))).trans ((u2_n (Or.inl (by omega))).trans ((u2_n (Or.inl (by omega))).trans (hl.1 i h0 h1))))
                     · refine (u2_n (Or.inl (by omega))).trans ((u2_n (Or.inl (by omega))).trans (?_))
                       by_cases e : i = (6 * at0 + z.2 3 (o k + 1))
                       · rw [e]; refine u2_s.trans ?_
                         first | (rw [if_pos (by omega)]; exact zu_s.symm) | (rw [if_neg (by omega)])
                       · refine (u2_n (Or.inr e)).trans (((u2_n (Or.inl (by omega))).trans ((u2_n (Or.inl (by omega))).trans ((u2_n (Or.inl (by omega))).trans ((u2_n (Or.inl (by omega))).trans (hl.2 i h0 h1))))).trans ?_)
                         first | (rw [if_pos (by omega)]; exact (zu_n e).symm) | (rw [if_neg (by omega)])
                     · refine ((u2_n (Or.inl (by omega))).trans ((u2_n (Or.inl (by omega))).trans ((u2_n (Or.inl (by omega))).trans ((u2_n (Or.inl (by omega))).trans ((u2_n (Or.inl (by omega))).trans (u2_s)))))).trans ?_
                       first | exact (bZ_t (by omega)).symm | exact (bZ_f (by omega)).symm
                     · refine ((u2_n (Or.inl (by omega))).trans ((u2_n (Or.inl (by omega))).trans ((u2_n (Or.inl (by omega))).trans ((u2_n (Or.inl (by omega))).trans (u2_s))))).trans ?_
                       first | exact (bZ_t (by omega)).symm | exact (bZ_f (by omega)).symm
                     · refine ((u2_n (Or.inl (by omega))).trans (u2_s)).trans ?_
                       first
                       | (rw [if_pos (show laL (z.2 3) o n1 k by omega)])
                       | (rw [if_neg (show ¬ laL (z.2 3) o n1 k by omega), if_pos (by omega)]; exact zu_s.symm)
                       | (rw [if_neg (show ¬ laL (z.2 3) o n1 k by omega), if_neg (by omega)])
                     · refine u2_s.trans ?_
                       first | (rw [if_pos (by omega)]) | (rw [if_neg (by omega)]))
                · refine TGo.al0 dX10_goesOn_282 rfl ?_
                  refine TGo.getS (t := 18) 67 67 (T + 38) (hT 0 (by decide)) rfl fgX10_151_10 dX10_goesOn_283 rfl rfl rfl ?_
                  refine TGo.il1 dX10_goesOn_286 rfl ?_
                  refine TGo.iald dX10_goesOn_287 (hT 38 (by decide)) (by omega) rfl ?_
                  refine TGo.toz _ ((u2_n (Or.inl (by omega))).trans ((u2_n (Or.inl (by omega))).trans ((u2_n (Or.inl (by omega))).trans ((u2_n (Or.inl (by omega))).trans ((u2_n (Or.inl (by omega))).trans (u2_n (Or.inl (by omega)))))))) ?_
                  refine TGo.toz met (hsh) ?_
                  refine TGo.ic1 dX10_goesOn_288 ?_
                  refine TGo.iadd dX10_goesOn_289 ?_
                  refine TGo.goto 299 dX10_goesOn_290 (by decide) ?_
                  first | refine TGo.toz met hsh ?_ | skip
                  refine TGo.iast dX10_goesOn_299 (hT 38 (by decide)) (by omega) rfl ?_
                  refine TGo.ic1 dX10_goesOn_300 ?_
                  refine TGo.zret dX10_goesOn_301 rfl (by first | exact Or.inl rfl | exact Or.inr rfl | exact bZ_or _ | assumption) ?_
                  first
                  | (exfalso; omega)
                  | (refine ⟨_, rfl, rfl, rfl, (((((((hz.t 39 rfl).t 36 rfl).t 37 rfl).t 34 rfl).t 35 rfl).t 33 rfl).t 38 rfl), FrG.rf.i (by omega) |>.i (by omega) |>.i (by omega) |>.i (by omega) |>.i (by omega) |>.i (by omega) |>.i (by omega), Or.inr ⟨rfl, by omega, ?_, ⟨fun i h0 h1 => ?_, fun i h0 h1 => ?_⟩, (u2_n (Or.inl (by omega))).trans ((u2_n (Or.inl (by omega))).trans ((u2_n (Or.inl (by omega))).trans ((u2_n (Or.inl (by omega))).trans ((u2_n (Or.inl (by omega))).trans ((u2_n (Or.inl (by omega))).trans (u2_s)))))), ?_, ?_, ?_, ?_⟩⟩
                     · unfold tyL
                       first
                       | (rw [if_neg (by omega)]; omega)
                       | (rw [if_pos (by omega), if_pos (by omega)]; omega)
                       | (rw [if_pos (by omega), if_neg (by omega)]; omega)
                     · refine (u2_n (Or.inl (by omega))).trans ((u2_n (Or.inl (by omega))).trans ((u2_n (Or.inl (by omega))).trans (?_)))
                       by_cases e : i = (6 * at0 + z.2 3 (o k + 1))
                       · rw [e, zu_s]; exact u2_s
                       · rw [zu_n e]; exact (u2_n (Or.inr e)).trans ((u2_n (Or.inl (by omega))).trans ((u2_n (Or.inl (by omega))).trans ((u2_n (Or.inl (by omega))).trans (hl.1 i h0 h1))))
                     · refine (u2_n (Or.inl (by omega))).trans ((u2_n (Or.inl (by omega))).trans (?_))
                       by_cases e : i = (6 * at0 + z.2 3 (o k + 1))
                       · rw [e]; refine u2_s.trans ?_
                         first | (rw [if_pos (by omega)]; exact zu_s.symm) | (rw [if_neg (by omega)])
                       · refine (u2_n (Or.inr e)).trans (((u2_n (Or.inl (by omega))).trans ((u2_n (Or.inl (by omega))).trans ((u2_n (Or.inl (by omega))).trans ((u2_n (Or.inl (by omega))).trans (hl.2 i h0 h1))))).trans ?_)
                         first | (rw [if_pos (by omega)]; exact (zu_n e).symm) | (rw [if_neg (by omega)])
                     · refine ((u2_n (Or.inl (by omega))).trans ((u2_n (Or.inl (by omega))).trans ((u2_n (Or.inl (by omega))).trans ((u2_n (Or.inl (by omega))).trans ((u2_n (Or.inl (by omega))).trans (u2_s)))))).trans ?_
                       first | exact (bZ_t (by omega)).symm | exact (bZ_f (by omega)).symm
                     · refine ((u2_n (Or.inl (by omega))).trans ((u2_n (Or.inl (by omega))).trans ((u2_n (Or.inl (by omega))).trans ((u2_n (Or.inl (by omega))).trans (u2_s))))).trans ?_
                       first | exact (bZ_t (by omega)).symm | exact (bZ_f (by omega)).symm
                     · refine ((u2_n (Or.inl (by omega))).trans (u2_s)).trans ?_
                       first
                       | (rw [if_pos (show laL (z.2 3) o n1 k by omega)])
                       | (rw [if_neg (show ¬ laL (z.2 3) o n1 k by omega), if_pos (by omega)]; exact zu_s.symm)
                       | (rw [if_neg (show ¬ laL (z.2 3) o n1 k by omega), if_neg (by omega)])
                     · refine u2_s.trans ?_
                       first | (rw [if_pos (by omega)]) | (rw [if_neg (by omega)]))
              · refine TGo.ic0 dX10_goesOn_244 ?_
                refine TGo.goto 254 dX10_goesOn_245 (by decide) ?_
                first | refine TGo.toz t u2_s ?_ | refine TGo.toz (Nx (6 * at0 + z.2 3 (o k + 1))) u2_s ?_ | skip
                refine TGo.iast dX10_goesOn_254 (hT 33 (by decide)) (by omega) rfl ?_
                refine TGo.al0 dX10_goesOn_255 rfl ?_
                refine TGo.getS (t := 18) 67 67 (T + 38) (hT 0 (by decide)) rfl fgX10_151_10 dX10_goesOn_256 rfl rfl rfl ?_
                refine TGo.il1 dX10_goesOn_259 rfl ?_
                refine TGo.ic1 dX10_goesOn_260 ?_
                refine TGo.iadd dX10_goesOn_261 ?_
                refine TGo.il dX10_goesOn_262 rfl ?_
                refine TGo.if_eq 293 dX10_goesOn_264 (by decide) (by decide) (fun h => absurd h (by decide)) (fun _ => ?_)
                refine TGo.al0 dX10_goesOn_267 rfl ?_
                refine TGo.getS (t := 18) 68 68 (T + 39) (hT 0 (by decide)) rfl fgX10_154_10 dX10_goesOn_268 rfl rfl rfl ?_
                refine TGo.il1 dX10_goesOn_271 rfl ?_
                refine TGo.iald dX10_goesOn_272 (hT 39 (by decide)) (by omega) rfl ?_
                refine TGo.toz t ((u2_n (Or.inl (by omega))).trans ((u2_n (Or.inl (by omega))).trans ((u2_n (Or.inl (by omega))).trans ((u2_n (Or.inl (by omega))).trans ((u2_n (Or.inl (by omega))).trans (u2_s)))))) ?_
                refine TGo.al0 dX10_goesOn_273 rfl ?_
                refine TGo.getS (t := 18) 67 67 (T + 38) (hT 0 (by decide)) rfl fgX10_151_10 dX10_goesOn_274 rfl rfl rfl ?_
                refine TGo.il1 dX10_goesOn_277 rfl ?_
                refine TGo.iald dX10_goesOn_278 (hT 38 (by decide)) (by omega) rfl ?_
                refine TGo.toz _ ((u2_n (Or.inl (by omega))).trans ((u2_n (Or.inl (by omega))).trans ((u2_n (Or.inl (by omega))).trans ((u2_n (Or.inl (by omega))).trans ((u2_n (Or.inl (by omega))).trans (u2_n (Or.inl (by omega)))))))) ?_
                refine TGo.toz met (hsh) ?_
                refine TGo.icmp_ne 293 dX10_goesOn_279 (by decide) (by omega) (fun h279 => ?_) (fun h279 => ?_)
                · refine TGo.al0 dX10_goesOn_293 rfl ?_
                  refine TGo.getS (t := 18) 67 67 (T + 38) (hT 0 (by decide)) rfl fgX10_151_10 dX10_goesOn_294 rfl rfl rfl ?_
                  refine TGo.il1 dX10_goesOn_297 rfl ?_
                  refine TGo.iald dX10_goesOn_298 (hT 38 (by decide)) (by omega) rfl ?_
                  refine TGo.toz _ ((u2_n (Or.inl (by omega))).trans ((u2_n (Or.inl (by omega))).trans ((u2_n (Or.inl (by omega))).trans ((u2_n (Or.inl (by omega))).trans ((u2_n (Or.inl (by omega))).trans (u2_n (Or.inl (by omega)))))))) ?_
                  first | refine TGo.toz met hsh ?_ | skip
                  refine TGo.iast dX10_goesOn_299 (hT 38 (by decide)) (by omega) rfl ?_
                  refine TGo.ic1 dX10_goesOn_300 ?_
                  refine TGo.zret dX10_goesOn_301 rfl (by first | exact Or.inl rfl | exact Or.inr rfl | exact bZ_or _ | assumption) ?_
                  first
                  | (exfalso; omega)
                  | (refine ⟨_, rfl, rfl, rfl, (((((((hz.t 39 rfl).t 36 rfl).t 37 rfl).t 34 rfl).t 35 rfl).t 33 rfl).t 38 rfl), FrG.rf.i (by omega) |>.i (by omega) |>.i (by omega) |>.i (by omega) |>.i (by omega) |>.i (by omega) |>.i (by omega), Or.inr ⟨rfl, by omega, ?_, ⟨fun i h0 h1 => ?_, fun i h0 h1 => ?_⟩, (u2_n (Or.inl (by omega))).trans ((u2_n (Or.inl (by omega))).trans ((u2_n (Or.inl (by omega))).trans ((u2_n (Or.inl (by omega))).trans ((u2_n (Or.inl (by omega))).trans ((u2_n (Or.inl (by omega))).trans (u2_s)))))), ?_, ?_, ?_, ?_⟩⟩
                     · unfold tyL
                       first
                       | (rw [if_neg (by omega)]; omega)
                       | (rw [if_pos (by omega), if_pos (by omega)]; omega)
                       | (rw [if_pos (by omega), if_neg (by omega)]; omega)
                     · refine (u2_n (Or.inl (by omega))).trans ((u2_n (Or.inl (by omega))).trans ((u2_n (Or.inl (by omega))).trans (?_)))
                       by_cases e : i = (6 * at0 + z.2 3 (o k + 1))
                       · rw [e, zu_s]; exact u2_s
                       · rw [zu_n e]; exact (u2_n (Or.inr e)).trans ((u2_n (Or.inl (by omega))).trans ((u2_n (Or.inl (by omega))).trans ((u2_n (Or.inl (by omega))).trans (hl.1 i h0 h1))))
                     · refine (u2_n (Or.inl (by omega))).trans ((u2_n (Or.inl (by omega))).trans (?_))
                       by_cases e : i = (6 * at0 + z.2 3 (o k + 1))
                       · rw [e]; refine u2_s.trans ?_
                         first | (rw [if_pos (by omega)]; exact zu_s.symm) | (rw [if_neg (by omega)])
                       · refine (u2_n (Or.inr e)).trans (((u2_n (Or.inl (by omega))).trans ((u2_n (Or.inl (by omega))).trans ((u2_n (Or.inl (by omega))).trans ((u2_n (Or.inl (by omega))).trans (hl.2 i h0 h1))))).trans ?_)
                         first | (rw [if_pos (by omega)]; exact (zu_n e).symm) | (rw [if_neg (by omega)])
                     · refine ((u2_n (Or.inl (by omega))).trans ((u2_n (Or.inl (by omega))).trans ((u2_n (Or.inl (by omega))).trans ((u2_n (Or.inl (by omega))).trans ((u2_n (Or.inl (by omega))).trans (u2_s)))))).trans ?_
                       first | exact (bZ_t (by omega)).symm | exact (bZ_f (by omega)).symm
                     · refine ((u2_n (Or.inl (by omega))).trans ((u2_n (Or.inl (by omega))).trans ((u2_n (Or.inl (by omega))).trans ((u2_n (Or.inl (by omega))).trans (u2_s))))).trans ?_
                       first | exact (bZ_t (by omega)).symm | exact (bZ_f (by omega)).symm
                     · refine ((u2_n (Or.inl (by omega))).trans (u2_s)).trans ?_
                       first
                       | (rw [if_pos (show laL (z.2 3) o n1 k by omega)])
                       | (rw [if_neg (show ¬ laL (z.2 3) o n1 k by omega), if_pos (by omega)]; exact zu_s.symm)
                       | (rw [if_neg (show ¬ laL (z.2 3) o n1 k by omega), if_neg (by omega)])
                     · refine u2_s.trans ?_
                       first | (rw [if_pos (by omega)]) | (rw [if_neg (by omega)]))
                · refine TGo.al0 dX10_goesOn_282 rfl ?_
                  refine TGo.getS (t := 18) 67 67 (T + 38) (hT 0 (by decide)) rfl fgX10_151_10 dX10_goesOn_283 rfl rfl rfl ?_
                  refine TGo.il1 dX10_goesOn_286 rfl ?_
                  refine TGo.iald dX10_goesOn_287 (hT 38 (by decide)) (by omega) rfl ?_
                  refine TGo.toz _ ((u2_n (Or.inl (by omega))).trans ((u2_n (Or.inl (by omega))).trans ((u2_n (Or.inl (by omega))).trans ((u2_n (Or.inl (by omega))).trans ((u2_n (Or.inl (by omega))).trans (u2_n (Or.inl (by omega)))))))) ?_
                  refine TGo.toz met (hsh) ?_
                  refine TGo.ic1 dX10_goesOn_288 ?_
                  refine TGo.iadd dX10_goesOn_289 ?_
                  refine TGo.goto 299 dX10_goesOn_290 (by decide) ?_
                  first | refine TGo.toz met hsh ?_ | skip
                  refine TGo.iast dX10_goesOn_299 (hT 38 (by decide)) (by omega) rfl ?_
                  refine TGo.ic1 dX10_goesOn_300 ?_
                  refine TGo.zret dX10_goesOn_301 rfl (by first | exact Or.inl rfl | exact Or.inr rfl | exact bZ_or _ | assumption) ?_
                  first
                  | (exfalso; omega)
                  | (refine ⟨_, rfl, rfl, rfl, (((((((hz.t 39 rfl).t 36 rfl).t 37 rfl).t 34 rfl).t 35 rfl).t 33 rfl).t 38 rfl), FrG.rf.i (by omega) |>.i (by omega) |>.i (by omega) |>.i (by omega) |>.i (by omega) |>.i (by omega) |>.i (by omega), Or.inr ⟨rfl, by omega, ?_, ⟨fun i h0 h1 => ?_, fun i h0 h1 => ?_⟩, (u2_n (Or.inl (by omega))).trans ((u2_n (Or.inl (by omega))).trans ((u2_n (Or.inl (by omega))).trans ((u2_n (Or.inl (by omega))).trans ((u2_n (Or.inl (by omega))).trans ((u2_n (Or.inl (by omega))).trans (u2_s)))))), ?_, ?_, ?_, ?_⟩⟩
                     · unfold tyL
                       first
                       | (rw [if_neg (by omega)]; omega)
                       | (rw [if_pos (by omega), if_pos (by omega)]; omega)
                       | (rw [if_pos (by omega), if_neg (by omega)]; omega)
                     · refine (u2_n (Or.inl (by omega))).trans ((u2_n (Or.inl (by omega))).trans ((u2_n (Or.inl (by omega))).trans (?_)))
                       by_cases e : i = (6 * at0 + z.2 3 (o k + 1))
                       · rw [e, zu_s]; exact u2_s
                       · rw [zu_n e]; exact (u2_n (Or.inr e)).trans ((u2_n (Or.inl (by omega))).trans ((u2_n (Or.inl (by omega))).trans ((u2_n (Or.inl (by omega))).trans (hl.1 i h0 h1))))
                     · refine (u2_n (Or.inl (by omega))).trans ((u2_n (Or.inl (by omega))).trans (?_))
                       by_cases e : i = (6 * at0 + z.2 3 (o k + 1))
                       · rw [e]; refine u2_s.trans ?_
                         first | (rw [if_pos (by omega)]; exact zu_s.symm) | (rw [if_neg (by omega)])
                       · refine (u2_n (Or.inr e)).trans (((u2_n (Or.inl (by omega))).trans ((u2_n (Or.inl (by omega))).trans ((u2_n (Or.inl (by omega))).trans ((u2_n (Or.inl (by omega))).trans (hl.2 i h0 h1))))).trans ?_)
                         first | (rw [if_pos (by omega)]; exact (zu_n e).symm) | (rw [if_neg (by omega)])
                     · refine ((u2_n (Or.inl (by omega))).trans ((u2_n (Or.inl (by omega))).trans ((u2_n (Or.inl (by omega))).trans ((u2_n (Or.inl (by omega))).trans ((u2_n (Or.inl (by omega))).trans (u2_s)))))).trans ?_
                       first | exact (bZ_t (by omega)).symm | exact (bZ_f (by omega)).symm
                     · refine ((u2_n (Or.inl (by omega))).trans ((u2_n (Or.inl (by omega))).trans ((u2_n (Or.inl (by omega))).trans ((u2_n (Or.inl (by omega))).trans (u2_s))))).trans ?_
                       first | exact (bZ_t (by omega)).symm | exact (bZ_f (by omega)).symm
                     · refine ((u2_n (Or.inl (by omega))).trans (u2_s)).trans ?_
                       first
                       | (rw [if_pos (show laL (z.2 3) o n1 k by omega)])
                       | (rw [if_neg (show ¬ laL (z.2 3) o n1 k by omega), if_pos (by omega)]; exact zu_s.symm)
                       | (rw [if_neg (show ¬ laL (z.2 3) o n1 k by omega), if_neg (by omega)])
                     · refine u2_s.trans ?_
                       first | (rw [if_pos (by omega)]) | (rw [if_neg (by omega)]))
          · refine TGo.al0 dX10_goesOn_155 rfl ?_
            refine TGo.getS (t := 18) 68 68 (T + 39) (hT 0 (by decide)) rfl fgX10_154_10 dX10_goesOn_156 rfl rfl rfl ?_
            refine TGo.il1 dX10_goesOn_159 rfl ?_
            refine TGo.ldcw 1000000 dX10_goesOn_160 q2499 (by decide) ?_
            refine TGo.iast dX10_goesOn_163 (hT 39 (by decide)) (by omega) rfl ?_
            refine TGo.ic0 dX10_goesOn_164 ?_
            refine TGo.zret dX10_goesOn_165 rfl (by first | exact Or.inl rfl | exact Or.inr rfl | exact bZ_or _ | assumption) ?_
            first
            | (exfalso; omega)
            | (refine ⟨_, rfl, rfl, rfl, ((hz.t 39 rfl).t 39 rfl), FrG.rf.i (by omega) |>.i (by omega), Or.inl ⟨rfl, ?_, ⟨fun i h0 h1 => (u2_n (Or.inl (by omega))).trans ((u2_n (Or.inl (by omega))).trans (hl.1 i h0 h1)), fun i h0 h1 => (u2_n (Or.inl (by omega))).trans ((u2_n (Or.inl (by omega))).trans (hl.2 i h0 h1))⟩, (u2_n (Or.inl (by omega))).trans ((u2_n (Or.inl (by omega))).trans (ha)), (u2_n (Or.inl (by omega))).trans ((u2_n (Or.inl (by omega))).trans (hb))⟩⟩
               first
               | exact Or.inl (by omega)
               | (refine Or.inr ?_
                  unfold tyL
                  first
                  | (rw [if_neg (by omega)]; omega)
                  | (rw [if_pos (by omega), if_pos (by omega)]; omega)
                  | (rw [if_pos (by omega), if_neg (by omega)]; omega)))
        · refine TGo.al0 dX10_goesOn_121 rfl ?_
          refine TGo.getS (t := 18) 67 67 (T + 38) (hT 0 (by decide)) rfl fgX10_151_10 dX10_goesOn_122 rfl rfl rfl ?_
          refine TGo.il1 dX10_goesOn_125 rfl ?_
          refine TGo.iald dX10_goesOn_126 (hT 38 (by decide)) (by omega) rfl ?_
          refine TGo.toz _ (u2_n (Or.inl (by omega))) ?_
          refine TGo.toz met (hsh) ?_
          refine TGo.ic1 dX10_goesOn_127 ?_
          refine TGo.iadd dX10_goesOn_128 ?_
          refine TGo.goto 142 dX10_goesOn_129 (by decide) ?_
          refine TGo.is dX10_goesOn_142 rfl rfl ?_
          refine TGo.al0 dX10_goesOn_144 rfl ?_
          refine TGo.getS (t := 18) 68 68 (T + 39) (hT 0 (by decide)) rfl fgX10_154_10 dX10_goesOn_145 rfl rfl rfl ?_
          refine TGo.il1 dX10_goesOn_148 rfl ?_
          refine TGo.iald dX10_goesOn_149 (hT 39 (by decide)) (by omega) rfl ?_
          refine TGo.toz t (u2_s) ?_
          refine TGo.il dX10_goesOn_150 rfl ?_
          refine TGo.icmp_lt 166 dX10_goesOn_152 (by decide) (by omega) (fun h152 => ?_) (fun h152 => ?_)
          · refine TGo.al0 dX10_goesOn_166 rfl ?_
            refine TGo.getS (t := 18) 65 65 (T + 36) (hT 0 (by decide)) rfl fgX10_145_10 dX10_goesOn_167 rfl rfl rfl ?_
            refine TGo.il1 dX10_goesOn_170 rfl ?_
            refine TGo.al0 dX10_goesOn_171 rfl ?_
            refine TGo.getS (t := 18) 63 63 (T + 34) (hT 0 (by decide)) rfl fgX10_139_10 dX10_goesOn_172 rfl rfl rfl ?_
            refine TGo.il3 dX10_goesOn_175 rfl ?_
            refine TGo.iald dX10_goesOn_176 (hT 34 (by decide)) (by omega) rfl ?_
            refine TGo.toz _ (u2_n (Or.inl (by omega))) ?_
            refine TGo.toz (Wd (6 * at0 + z.2 3 (o k + 1))) (hl.1 _ (by omega) (by omega)) ?_
            refine TGo.icm1 dX10_goesOn_177 ?_
            refine TGo.icmp_ne 185 dX10_goesOn_178 (by decide) (by omega) (fun h178 => ?_) (fun h178 => ?_)
            · refine TGo.ic0 dX10_goesOn_185 ?_
              refine TGo.zast dX10_goesOn_186 (hT 36 (by decide)) (by omega) rfl (by first | exact Or.inl rfl | exact Or.inr rfl | exact bZ_or _ | assumption) ?_
              refine TGo.al0 dX10_goesOn_187 rfl ?_
              refine TGo.getS (t := 18) 66 66 (T + 37) (hT 0 (by decide)) rfl fgX10_148_10 dX10_goesOn_188 rfl rfl rfl ?_
              refine TGo.il1 dX10_goesOn_191 rfl ?_
              refine TGo.il dX10_goesOn_192 rfl ?_
              refine TGo.zast dX10_goesOn_194 (hT 37 (by decide)) (by omega) rfl (by first | exact Or.inl rfl | exact Or.inr rfl | exact bZ_or _ | assumption) ?_
              refine TGo.al0 dX10_goesOn_195 rfl ?_
              refine TGo.getS (t := 18) 63 63 (T + 34) (hT 0 (by decide)) rfl fgX10_139_10 dX10_goesOn_196 rfl rfl rfl ?_
              refine TGo.il3 dX10_goesOn_199 rfl ?_
              refine TGo.il dX10_goesOn_200 rfl ?_
              refine TGo.iast dX10_goesOn_202 (hT 34 (by decide)) (by omega) rfl ?_
              refine TGo.al0 dX10_goesOn_203 rfl ?_
              refine TGo.getS (t := 18) 64 64 (T + 35) (hT 0 (by decide)) rfl fgX10_142_10 dX10_goesOn_204 rfl rfl rfl ?_
              refine TGo.il3 dX10_goesOn_207 rfl ?_
              refine TGo.il dX10_goesOn_208 rfl ?_
              refine TGo.if_eq 222 dX10_goesOn_210 (by decide) (by decide) (fun h => absurd h (by decide)) (fun _ => ?_)
              refine TGo.al0 dX10_goesOn_213 rfl ?_
              refine TGo.getS (t := 18) 68 68 (T + 39) (hT 0 (by decide)) rfl fgX10_154_10 dX10_goesOn_214 rfl rfl rfl ?_
              refine TGo.il1 dX10_goesOn_217 rfl ?_
              refine TGo.iald dX10_goesOn_218 (hT 39 (by decide)) (by omega) rfl ?_
              refine TGo.toz t ((u2_n (Or.inl (by omega))).trans ((u2_n (Or.inl (by omega))).trans ((u2_n (Or.inl (by omega))).trans (u2_s)))) ?_
              refine TGo.goto 228 dX10_goesOn_219 (by decide) ?_
              first | refine TGo.toz (Nx (6 * at0 + z.2 3 (o k + 1))) (hl.2 _ (by omega) (by omega)) ?_ | skip
              refine TGo.iast dX10_goesOn_228 (hT 35 (by decide)) (by omega) rfl ?_
              refine TGo.al0 dX10_goesOn_229 rfl ?_
              refine TGo.getS (t := 18) 62 62 (T + 33) (hT 0 (by decide)) rfl fgX10_136_10 dX10_goesOn_230 rfl rfl rfl ?_
              refine TGo.il1 dX10_goesOn_233 rfl ?_
              refine TGo.ic1 dX10_goesOn_234 ?_
              refine TGo.iadd dX10_goesOn_235 ?_
              refine TGo.al0 dX10_goesOn_236 rfl ?_
              refine TGo.il1 dX10_goesOn_237 rfl ?_
              refine TGo.cF (csV1 (y2 := mX10_isLast) (t := 18) 1 rfl (hT 0 (by decide)) rfl rfl dX10_goesOn_238 q2544 q2546 qs107 okX10_isLast npX10_isLast rfl rfl) (kX10_isLast hT (((((hz.t 39 rfl).t 36 rfl).t 37 rfl).t 34 rfl).t 35 rfl) hn1 hn12 hof (fun i h0 h1 => by first | exact hov i h0 h1 | exact (u2_n (Or.inl (by omega))).trans (hov i h0 h1) | exact (u2_n (Or.inl (by omega))).trans ((u2_n (Or.inl (by omega))).trans ((u2_n (Or.inl (by omega))).trans ((u2_n (Or.inl (by omega))).trans ((u2_n (Or.inl (by omega))).trans (hov i h0 h1)))))) hk) ?_
              refine TGo.ifb_eq 248 dX10_goesOn_241 (by decide) (fun h241 => ?_) (fun h241 => ?_)
              · refine TGo.al0 dX10_goesOn_248 rfl ?_
                refine TGo.getS (t := 18) 64 64 (T + 35) (hT 0 (by decide)) rfl fgX10_142_10 dX10_goesOn_249 rfl rfl rfl ?_
                refine TGo.il3 dX10_goesOn_252 rfl ?_
                refine TGo.iald dX10_goesOn_253 (hT 35 (by decide)) (by omega) rfl ?_
                first | refine TGo.toz t u2_s ?_ | refine TGo.toz (Nx (6 * at0 + z.2 3 (o k + 1))) u2_s ?_ | skip
                refine TGo.iast dX10_goesOn_254 (hT 33 (by decide)) (by omega) rfl ?_
                refine TGo.al0 dX10_goesOn_255 rfl ?_
                refine TGo.getS (t := 18) 67 67 (T + 38) (hT 0 (by decide)) rfl fgX10_151_10 dX10_goesOn_256 rfl rfl rfl ?_
                refine TGo.il1 dX10_goesOn_259 rfl ?_
                refine TGo.ic1 dX10_goesOn_260 ?_
                refine TGo.iadd dX10_goesOn_261 ?_
                refine TGo.il dX10_goesOn_262 rfl ?_
                refine TGo.if_eq 293 dX10_goesOn_264 (by decide) (by decide) (fun h => absurd h (by decide)) (fun _ => ?_)
                refine TGo.al0 dX10_goesOn_267 rfl ?_
                refine TGo.getS (t := 18) 68 68 (T + 39) (hT 0 (by decide)) rfl fgX10_154_10 dX10_goesOn_268 rfl rfl rfl ?_
                refine TGo.il1 dX10_goesOn_271 rfl ?_
                refine TGo.iald dX10_goesOn_272 (hT 39 (by decide)) (by omega) rfl ?_
                refine TGo.toz t ((u2_n (Or.inl (by omega))).trans ((u2_n (Or.inl (by omega))).trans ((u2_n (Or.inl (by omega))).trans ((u2_n (Or.inl (by omega))).trans ((u2_n (Or.inl (by omega))).trans (u2_s)))))) ?_
                refine TGo.al0 dX10_goesOn_273 rfl ?_
                refine TGo.getS (t := 18) 67 67 (T + 38) (hT 0 (by decide)) rfl fgX10_151_10 dX10_goesOn_274 rfl rfl rfl ?_
                refine TGo.il1 dX10_goesOn_277 rfl ?_
                refine TGo.iald dX10_goesOn_278 (hT 38 (by decide)) (by omega) rfl ?_
                refine TGo.toz _ ((u2_n (Or.inl (by omega))).trans ((u2_n (Or.inl (by omega))).trans ((u2_n (Or.inl (by omega))).trans ((u2_n (Or.inl (by omega))).trans ((u2_n (Or.inl (by omega))).trans (u2_n (Or.inl (by omega)))))))) ?_
                refine TGo.toz met (hsh) ?_
                refine TGo.icmp_ne 293 dX10_goesOn_279 (by decide) (by omega) (fun h279 => ?_) (fun h279 => ?_)
                · refine TGo.al0 dX10_goesOn_293 rfl ?_
                  refine TGo.getS (t := 18) 67 67 (T + 38) (hT 0 (by decide)) rfl fgX10_151_10 dX10_goesOn_294 rfl rfl rfl ?_
                  refine TGo.il1 dX10_goesOn_297 rfl ?_
                  refine TGo.iald dX10_goesOn_298 (hT 38 (by decide)) (by omega) rfl ?_
                  refine TGo.toz _ ((u2_n (Or.inl (by omega))).trans ((u2_n (Or.inl (by omega))).trans ((u2_n (Or.inl (by omega))).trans ((u2_n (Or.inl (by omega))).trans ((u2_n (Or.inl (by omega))).trans (u2_n (Or.inl (by omega)))))))) ?_
                  first | refine TGo.toz met hsh ?_ | skip
                  refine TGo.iast dX10_goesOn_299 (hT 38 (by decide)) (by omega) rfl ?_
                  refine TGo.ic1 dX10_goesOn_300 ?_
                  refine TGo.zret dX10_goesOn_301 rfl (by first | exact Or.inl rfl | exact Or.inr rfl | exact bZ_or _ | assumption) ?_
                  first
                  | (exfalso; omega)
                  | (refine ⟨_, rfl, rfl, rfl, (((((((hz.t 39 rfl).t 36 rfl).t 37 rfl).t 34 rfl).t 35 rfl).t 33 rfl).t 38 rfl), FrG.rf.i (by omega) |>.i (by omega) |>.i (by omega) |>.i (by omega) |>.i (by omega) |>.i (by omega) |>.i (by omega), Or.inr ⟨rfl, by omega, ?_, ⟨fun i h0 h1 => ?_, fun i h0 h1 => ?_⟩, (u2_n (Or.inl (by omega))).trans ((u2_n (Or.inl (by omega))).trans ((u2_n (Or.inl (by omega))).trans ((u2_n (Or.inl (by omega))).trans ((u2_n (Or.inl (by omega))).trans ((u2_n (Or.inl (by omega))).trans (u2_s)))))), ?_, ?_, ?_, ?_⟩⟩
                     · unfold tyL
                       first
                       | (rw [if_neg (by omega)]; omega)
                       | (rw [if_pos (by omega), if_pos (by omega)]; omega)
                       | (rw [if_pos (by omega), if_neg (by omega)]; omega)
                     · refine (u2_n (Or.inl (by omega))).trans ((u2_n (Or.inl (by omega))).trans ((u2_n (Or.inl (by omega))).trans (?_)))
                       by_cases e : i = (6 * at0 + z.2 3 (o k + 1))
                       · rw [e, zu_s]; exact u2_s
                       · rw [zu_n e]; exact (u2_n (Or.inr e)).trans ((u2_n (Or.inl (by omega))).trans ((u2_n (Or.inl (by omega))).trans ((u2_n (Or.inl (by omega))).trans (hl.1 i h0 h1))))
                     · refine (u2_n (Or.inl (by omega))).trans ((u2_n (Or.inl (by omega))).trans (?_))
                       by_cases e : i = (6 * at0 + z.2 3 (o k + 1))
                       · rw [e]; refine u2_s.trans ?_
                         first | (rw [if_pos (by omega)]; exact zu_s.symm) | (rw [if_neg (by omega)])
                       · refine (u2_n (Or.inr e)).trans (((u2_n (Or.inl (by omega))).trans ((u2_n (Or.inl (by omega))).trans ((u2_n (Or.inl (by omega))).trans ((u2_n (Or.inl (by omega))).trans (hl.2 i h0 h1))))).trans ?_)
                         first | (rw [if_pos (by omega)]; exact (zu_n e).symm) | (rw [if_neg (by omega)])
                     · refine ((u2_n (Or.inl (by omega))).trans ((u2_n (Or.inl (by omega))).trans ((u2_n (Or.inl (by omega))).trans ((u2_n (Or.inl (by omega))).trans ((u2_n (Or.inl (by omega))).trans (u2_s)))))).trans ?_
                       first | exact (bZ_t (by omega)).symm | exact (bZ_f (by omega)).symm
                     · refine ((u2_n (Or.inl (by omega))).trans ((u2_n (Or.inl (by omega))).trans ((u2_n (Or.inl (by omega))).trans ((u2_n (Or.inl (by omega))).trans (u2_s))))).trans ?_
                       first | exact (bZ_t (by omega)).symm | exact (bZ_f (by omega)).symm
                     · refine ((u2_n (Or.inl (by omega))).trans (u2_s)).trans ?_
                       first
                       | (rw [if_pos (show laL (z.2 3) o n1 k by omega)])
                       | (rw [if_neg (show ¬ laL (z.2 3) o n1 k by omega), if_pos (by omega)]; exact zu_s.symm)
                       | (rw [if_neg (show ¬ laL (z.2 3) o n1 k by omega), if_neg (by omega)])
                     · refine u2_s.trans ?_
                       first | (rw [if_pos (by omega)]) | (rw [if_neg (by omega)]))
                · refine TGo.al0 dX10_goesOn_282 rfl ?_
                  refine TGo.getS (t := 18) 67 67 (T + 38) (hT 0 (by decide)) rfl fgX10_151_10 dX10_goesOn_283 rfl rfl rfl ?_
                  refine TGo.il1 dX10_goesOn_286 rfl ?_
                  refine TGo.iald dX10_goesOn_287 (hT 38 (by decide)) (by omega) rfl ?_
                  refine TGo.toz _ ((u2_n (Or.inl (by omega))).trans ((u2_n (Or.inl (by omega))).trans ((u2_n (Or.inl (by omega))).trans ((u2_n (Or.inl (by omega))).trans ((u2_n (Or.inl (by omega))).trans (u2_n (Or.inl (by omega)))))))) ?_
                  refine TGo.toz met (hsh) ?_
                  refine TGo.ic1 dX10_goesOn_288 ?_
                  refine TGo.iadd dX10_goesOn_289 ?_
                  refine TGo.goto 299 dX10_goesOn_290 (by decide) ?_
                  first | refine TGo.toz met hsh ?_ | skip
                  refine TGo.iast dX10_goesOn_299 (hT 38 (by decide)) (by omega) rfl ?_
                  refine TGo.ic1 dX10_goesOn_300 ?_
                  refine TGo.zret dX10_goesOn_301 rfl (by first | exact Or.inl rfl | exact Or.inr rfl | exact bZ_or _ | assumption) ?_
                  first
                  | (exfalso; omega)
                  | (refine ⟨_, rfl, rfl, rfl, (((((((hz.t 39 rfl).t 36 rfl).t 37 rfl).t 34 rfl).t 35 rfl).t 33 rfl).t 38 rfl), FrG.rf.i (by omega) |>.i (by omega) |>.i (by omega) |>.i (by omega) |>.i (by omega) |>.i (by omega) |>.i (by omega), Or.inr ⟨rfl, by omega, ?_, ⟨fun i h0 h1 => ?_, fun i h0 h1 => ?_⟩, (u2_n (Or.inl (by omega))).trans ((u2_n (Or.inl (by omega))).trans ((u2_n (Or.inl (by omega))).trans ((u2_n (Or.inl (by omega))).trans ((u2_n (Or.inl (by omega))).trans ((u2_n (Or.inl (by omega))).trans (u2_s)))))), ?_, ?_, ?_, ?_⟩⟩
                     · unfold tyL
                       first
                       | (rw [if_neg (by omega)]; omega)
                       | (rw [if_pos (by omega), if_pos (by omega)]; omega)
                       | (rw [if_pos (by omega), if_neg (by omega)]; omega)
                     · refine (u2_n (Or.inl (by omega))).trans ((u2_n (Or.inl (by omega))).trans ((u2_n (Or.inl (by omega))).trans (?_)))
                       by_cases e : i = (6 * at0 + z.2 3 (o k + 1))
                       · rw [e, zu_s]; exact u2_s
                       · rw [zu_n e]; exact (u2_n (Or.inr e)).trans ((u2_n (Or.inl (by omega))).trans ((u2_n (Or.inl (by omega))).trans ((u2_n (Or.inl (by omega))).trans (hl.1 i h0 h1))))
                     · refine (u2_n (Or.inl (by omega))).trans ((u2_n (Or.inl (by omega))).trans (?_))
                       by_cases e : i = (6 * at0 + z.2 3 (o k + 1))
                       · rw [e]; refine u2_s.trans ?_
                         first | (rw [if_pos (by omega)]; exact zu_s.symm) | (rw [if_neg (by omega)])
                       · refine (u2_n (Or.inr e)).trans (((u2_n (Or.inl (by omega))).trans ((u2_n (Or.inl (by omega))).trans ((u2_n (Or.inl (by omega))).trans ((u2_n (Or.inl (by omega))).trans (hl.2 i h0 h1))))).trans ?_)
                         first | (rw [if_pos (by omega)]; exact (zu_n e).symm) | (rw [if_neg (by omega)])
                     · refine ((u2_n (Or.inl (by omega))).trans ((u2_n (Or.inl (by omega))).trans ((u2_n (Or.inl (by omega))).trans ((u2_n (Or.inl (by omega))).trans ((u2_n (Or.inl (by omega))).trans (u2_s)))))).trans ?_
                       first | exact (bZ_t (by omega)).symm | exact (bZ_f (by omega)).symm
                     · refine ((u2_n (Or.inl (by omega))).trans ((u2_n (Or.inl (by omega))).trans ((u2_n (Or.inl (by omega))).trans ((u2_n (Or.inl (by omega))).trans (u2_s))))).trans ?_
                       first | exact (bZ_t (by omega)).symm | exact (bZ_f (by omega)).symm
                     · refine ((u2_n (Or.inl (by omega))).trans (u2_s)).trans ?_
                       first
                       | (rw [if_pos (show laL (z.2 3) o n1 k by omega)])
                       | (rw [if_neg (show ¬ laL (z.2 3) o n1 k by omega), if_pos (by omega)]; exact zu_s.symm)
                       | (rw [if_neg (show ¬ laL (z.2 3) o n1 k by omega), if_neg (by omega)])
                     · refine u2_s.trans ?_
                       first | (rw [if_pos (by omega)]) | (rw [if_neg (by omega)]))
              · refine TGo.ic0 dX10_goesOn_244 ?_
                refine TGo.goto 254 dX10_goesOn_245 (by decide) ?_
                first | refine TGo.toz t u2_s ?_ | refine TGo.toz (Nx (6 * at0 + z.2 3 (o k + 1))) u2_s ?_ | skip
                refine TGo.iast dX10_goesOn_254 (hT 33 (by decide)) (by omega) rfl ?_
                refine TGo.al0 dX10_goesOn_255 rfl ?_
                refine TGo.getS (t := 18) 67 67 (T + 38) (hT 0 (by decide)) rfl fgX10_151_10 dX10_goesOn_256 rfl rfl rfl ?_
                refine TGo.il1 dX10_goesOn_259 rfl ?_
                refine TGo.ic1 dX10_goesOn_260 ?_
                refine TGo.iadd dX10_goesOn_261 ?_
                refine TGo.il dX10_goesOn_262 rfl ?_
                refine TGo.if_eq 293 dX10_goesOn_264 (by decide) (by decide) (fun h => absurd h (by decide)) (fun _ => ?_)
                refine TGo.al0 dX10_goesOn_267 rfl ?_
                refine TGo.getS (t := 18) 68 68 (T + 39) (hT 0 (by decide)) rfl fgX10_154_10 dX10_goesOn_268 rfl rfl rfl ?_
                refine TGo.il1 dX10_goesOn_271 rfl ?_
                refine TGo.iald dX10_goesOn_272 (hT 39 (by decide)) (by omega) rfl ?_
                refine TGo.toz t ((u2_n (Or.inl (by omega))).trans ((u2_n (Or.inl (by omega))).trans ((u2_n (Or.inl (by omega))).trans ((u2_n (Or.inl (by omega))).trans ((u2_n (Or.inl (by omega))).trans (u2_s)))))) ?_
                refine TGo.al0 dX10_goesOn_273 rfl ?_
                refine TGo.getS (t := 18) 67 67 (T + 38) (hT 0 (by decide)) rfl fgX10_151_10 dX10_goesOn_274 rfl rfl rfl ?_
                refine TGo.il1 dX10_goesOn_277 rfl ?_
                refine TGo.iald dX10_goesOn_278 (hT 38 (by decide)) (by omega) rfl ?_
                refine TGo.toz _ ((u2_n (Or.inl (by omega))).trans ((u2_n (Or.inl (by omega))).trans ((u2_n (Or.inl (by omega))).trans ((u2_n (Or.inl (by omega))).trans ((u2_n (Or.inl (by omega))).trans (u2_n (Or.inl (by omega)))))))) ?_
                refine TGo.toz met (hsh) ?_
                refine TGo.icmp_ne 293 dX10_goesOn_279 (by decide) (by omega) (fun h279 => ?_) (fun h279 => ?_)
                · refine TGo.al0 dX10_goesOn_293 rfl ?_
                  refine TGo.getS (t := 18) 67 67 (T + 38) (hT 0 (by decide)) rfl fgX10_151_10 dX10_goesOn_294 rfl rfl rfl ?_
                  refine TGo.il1 dX10_goesOn_297 rfl ?_
                  refine TGo.iald dX10_goesOn_298 (hT 38 (by decide)) (by omega) rfl ?_
                  refine TGo.toz _ ((u2_n (Or.inl (by omega))).trans ((u2_n (Or.inl (by omega))).trans ((u2_n (Or.inl (by omega))).trans ((u2_n (Or.inl (by omega))).trans ((u2_n (Or.inl (by omega))).trans (u2_n (Or.inl (by omega)))))))) ?_
                  first | refine TGo.toz met hsh ?_ | skip
                  refine TGo.iast dX10_goesOn_299 (hT 38 (by decide)) (by omega) rfl ?_
                  refine TGo.ic1 dX10_goesOn_300 ?_
                  refine TGo.zret dX10_goesOn_301 rfl (by first | exact Or.inl rfl | exact Or.inr rfl | exact bZ_or _ | assumption) ?_
                  first
                  | (exfalso; omega)
                  | (refine ⟨_, rfl, rfl, rfl, (((((((hz.t 39 rfl).t 36 rfl).t 37 rfl).t 34 rfl).t 35 rfl).t 33 rfl).t 38 rfl), FrG.rf.i (by omega) |>.i (by omega) |>.i (by omega) |>.i (by omega) |>.i (by omega) |>.i (by omega) |>.i (by omega), Or.inr ⟨rfl, by omega, ?_, ⟨fun i h0 h1 => ?_, fun i h0 h1 => ?_⟩, (u2_n (Or.inl (by omega))).trans ((u2_n (Or.inl (by omega))).trans ((u2_n (Or.inl (by omega))).trans ((u2_n (Or.inl (by omega))).trans ((u2_n (Or.inl (by omega))).trans ((u2_n (Or.inl (by omega))).trans (u2_s)))))), ?_, ?_, ?_, ?_⟩⟩
                     · unfold tyL
                       first
                       | (rw [if_neg (by omega)]; omega)
                       | (rw [if_pos (by omega), if_pos (by omega)]; omega)
                       | (rw [if_pos (by omega), if_neg (by omega)]; omega)
                     · refine (u2_n (Or.inl (by omega))).trans ((u2_n (Or.inl (by omega))).trans ((u2_n (Or.inl (by omega))).trans (?_)))
                       by_cases e : i = (6 * at0 + z.2 3 (o k + 1))
                       · rw [e, zu_s]; exact u2_s
                       · rw [zu_n e]; exact (u2_n (Or.inr e)).trans ((u2_n (Or.inl (by omega))).trans ((u2_n (Or.inl (by omega))).trans ((u2_n (Or.inl (by omega))).trans (hl.1 i h0 h1))))
                     · refine (u2_n (Or.inl (by omega))).trans ((u2_n (Or.inl (by omega))).trans (?_))
                       by_cases e : i = (6 * at0 + z.2 3 (o k + 1))
                       · rw [e]; refine u2_s.trans ?_
                         first | (rw [if_pos (by omega)]; exact zu_s.symm) | (rw [if_neg (by omega)])
                       · refine (u2_n (Or.inr e)).trans (((u2_n (Or.inl (by omega))).trans ((u2_n (Or.inl (by omega))).trans ((u2_n (Or.inl (by omega))).trans ((u2_n (Or.inl (by omega))).trans (hl.2 i h0 h1))))).trans ?_)
                         first | (rw [if_pos (by omega)]; exact (zu_n e).symm) | (rw [if_neg (by omega)])
                     · refine ((u2_n (Or.inl (by omega))).trans ((u2_n (Or.inl (by omega))).trans ((u2_n (Or.inl (by omega))).trans ((u2_n (Or.inl (by omega))).trans ((u2_n (Or.inl (by omega))).trans (u2_s)))))).trans ?_
                       first | exact (bZ_t (by omega)).symm | exact (bZ_f (by omega)).symm
                     · refine ((u2_n (Or.inl (by omega))).trans ((u2_n (Or.inl (by omega))).trans ((u2_n (Or.inl (by omega))).trans ((u2_n (Or.inl (by omega))).trans (u2_s))))).trans ?_
                       first | exact (bZ_t (by omega)).symm | exact (bZ_f (by omega)).symm
                     · refine ((u2_n (Or.inl (by omega))).trans (u2_s)).trans ?_
                       first
                       | (rw [if_pos (show laL (z.2 3) o n1 k by omega)])
                       | (rw [if_neg (show ¬ laL (z.2 3) o n1 k by omega), if_pos (by omega)]; exact zu_s.symm)
                       | (rw [if_neg (show ¬ laL (z.2 3) o n1 k by omega), if_neg (by omega)])
                     · refine u2_s.trans ?_
                       first | (rw [if_pos (by omega)]) | (rw [if_neg (by omega)]))
                · refine TGo.al0 dX10_goesOn_282 rfl ?_
                  refine TGo.getS (t := 18) 67 67 (T + 38) (hT 0 (by decide)) rfl fgX10_151_10 dX10_goesOn_283 rfl rfl rfl ?_
                  refine TGo.il1 dX10_goesOn_286 rfl ?_
                  refine TGo.iald dX10_goesOn_287 (hT 38 (by decide)) (by omega) rfl ?_
                  refine TGo.toz _ ((u2_n (Or.inl (by omega))).trans ((u2_n (Or.inl (by omega))).trans ((u2_n (Or.inl (by omega))).trans ((u2_n (Or.inl (by omega))).trans ((u2_n (Or.inl (by omega))).trans (u2_n (Or.inl (by omega)))))))) ?_
                  refine TGo.toz met (hsh) ?_
                  refine TGo.ic1 dX10_goesOn_288 ?_
                  refine TGo.iadd dX10_goesOn_289 ?_
                  refine TGo.goto 299 dX10_goesOn_290 (by decide) ?_
                  first | refine TGo.toz met hsh ?_ | skip
                  refine TGo.iast dX10_goesOn_299 (hT 38 (by decide)) (by omega) rfl ?_
                  refine TGo.ic1 dX10_goesOn_300 ?_
                  refine TGo.zret dX10_goesOn_301 rfl (by first | exact Or.inl rfl | exact Or.inr rfl | exact bZ_or _ | assumption) ?_
                  first
                  | (exfalso; omega)
                  | (refine ⟨_, rfl, rfl, rfl, (((((((hz.t 39 rfl).t 36 rfl).t 37 rfl).t 34 rfl).t 35 rfl).t 33 rfl).t 38 rfl), FrG.rf.i (by omega) |>.i (by omega) |>.i (by omega) |>.i (by omega) |>.i (by omega) |>.i (by omega) |>.i (by omega), Or.inr ⟨rfl, by omega, ?_, ⟨fun i h0 h1 => ?_, fun i h0 h1 => ?_⟩, (u2_n (Or.inl (by omega))).trans ((u2_n (Or.inl (by omega))).trans ((u2_n (Or.inl (by omega))).trans ((u2_n (Or.inl (by omega))).trans ((u2_n (Or.inl (by omega))).trans ((u2_n (Or.inl (by omega))).trans (u2_s)))))), ?_, ?_, ?_, ?_⟩⟩
                     · unfold tyL
                       first
                       | (rw [if_neg (by omega)]; omega)
                       | (rw [if_pos (by omega), if_pos (by omega)]; omega)
                       | (rw [if_pos (by omega), if_neg (by omega)]; omega)
                     · refine (u2_n (Or.inl (by omega))).trans ((u2_n (Or.inl (by omega))).trans ((u2_n (Or.inl (by omega))).trans (?_)))
                       by_cases e : i = (6 * at0 + z.2 3 (o k + 1))
                       · rw [e, zu_s]; exact u2_s
                       · rw [zu_n e]; exact (u2_n (Or.inr e)).trans ((u2_n (Or.inl (by omega))).trans ((u2_n (Or.inl (by omega))).trans ((u2_n (Or.inl (by omega))).trans (hl.1 i h0 h1))))
                     · refine (u2_n (Or.inl (by omega))).trans ((u2_n (Or.inl (by omega))).trans (?_))
                       by_cases e : i = (6 * at0 + z.2 3 (o k + 1))
                       · rw [e]; refine u2_s.trans ?_
                         first | (rw [if_pos (by omega)]; exact zu_s.symm) | (rw [if_neg (by omega)])
                       · refine (u2_n (Or.inr e)).trans (((u2_n (Or.inl (by omega))).trans ((u2_n (Or.inl (by omega))).trans ((u2_n (Or.inl (by omega))).trans ((u2_n (Or.inl (by omega))).trans (hl.2 i h0 h1))))).trans ?_)
                         first | (rw [if_pos (by omega)]; exact (zu_n e).symm) | (rw [if_neg (by omega)])
                     · refine ((u2_n (Or.inl (by omega))).trans ((u2_n (Or.inl (by omega))).trans ((u2_n (Or.inl (by omega))).trans ((u2_n (Or.inl (by omega))).trans ((u2_n (Or.inl (by omega))).trans (u2_s)))))).trans ?_
                       first | exact (bZ_t (by omega)).symm | exact (bZ_f (by omega)).symm
                     · refine ((u2_n (Or.inl (by omega))).trans ((u2_n (Or.inl (by omega))).trans ((u2_n (Or.inl (by omega))).trans ((u2_n (Or.inl (by omega))).trans (u2_s))))).trans ?_
                       first | exact (bZ_t (by omega)).symm | exact (bZ_f (by omega)).symm
                     · refine ((u2_n (Or.inl (by omega))).trans (u2_s)).trans ?_
                       first
                       | (rw [if_pos (show laL (z.2 3) o n1 k by omega)])
                       | (rw [if_neg (show ¬ laL (z.2 3) o n1 k by omega), if_pos (by omega)]; exact zu_s.symm)
                       | (rw [if_neg (show ¬ laL (z.2 3) o n1 k by omega), if_neg (by omega)])
                     · refine u2_s.trans ?_
                       first | (rw [if_pos (by omega)]) | (rw [if_neg (by omega)]))
            · refine TGo.ic1 dX10_goesOn_181 ?_
              refine TGo.goto 186 dX10_goesOn_182 (by decide) ?_
              refine TGo.zast dX10_goesOn_186 (hT 36 (by decide)) (by omega) rfl (by first | exact Or.inl rfl | exact Or.inr rfl | exact bZ_or _ | assumption) ?_
              refine TGo.al0 dX10_goesOn_187 rfl ?_
              refine TGo.getS (t := 18) 66 66 (T + 37) (hT 0 (by decide)) rfl fgX10_148_10 dX10_goesOn_188 rfl rfl rfl ?_
              refine TGo.il1 dX10_goesOn_191 rfl ?_
              refine TGo.il dX10_goesOn_192 rfl ?_
              refine TGo.zast dX10_goesOn_194 (hT 37 (by decide)) (by omega) rfl (by first | exact Or.inl rfl | exact Or.inr rfl | exact bZ_or _ | assumption) ?_
              refine TGo.al0 dX10_goesOn_195 rfl ?_
              refine TGo.getS (t := 18) 63 63 (T + 34) (hT 0 (by decide)) rfl fgX10_139_10 dX10_goesOn_196 rfl rfl rfl ?_
              refine TGo.il3 dX10_goesOn_199 rfl ?_
              refine TGo.il dX10_goesOn_200 rfl ?_
              refine TGo.iast dX10_goesOn_202 (hT 34 (by decide)) (by omega) rfl ?_
              refine TGo.al0 dX10_goesOn_203 rfl ?_
              refine TGo.getS (t := 18) 64 64 (T + 35) (hT 0 (by decide)) rfl fgX10_142_10 dX10_goesOn_204 rfl rfl rfl ?_
              refine TGo.il3 dX10_goesOn_207 rfl ?_
              refine TGo.il dX10_goesOn_208 rfl ?_
              refine TGo.if_eq 222 dX10_goesOn_210 (by decide) (by decide) (fun h => absurd h (by decide)) (fun _ => ?_)
              refine TGo.al0 dX10_goesOn_213 rfl ?_
              refine TGo.getS (t := 18) 68 68 (T + 39) (hT 0 (by decide)) rfl fgX10_154_10 dX10_goesOn_214 rfl rfl rfl ?_
              refine TGo.il1 dX10_goesOn_217 rfl ?_
              refine TGo.iald dX10_goesOn_218 (hT 39 (by decide)) (by omega) rfl ?_
              refine TGo.toz t ((u2_n (Or.inl (by omega))).trans ((u2_n (Or.inl (by omega))).trans ((u2_n (Or.inl (by omega))).trans (u2_s)))) ?_
              refine TGo.goto 228 dX10_goesOn_219 (by decide) ?_
              first | refine TGo.toz (Nx (6 * at0 + z.2 3 (o k + 1))) (hl.2 _ (by omega) (by omega)) ?_ | skip
              refine TGo.iast dX10_goesOn_228 (hT 35 (by decide)) (by omega) rfl ?_
              refine TGo.al0 dX10_goesOn_229 rfl ?_
              refine TGo.getS (t := 18) 62 62 (T + 33) (hT 0 (by decide)) rfl fgX10_136_10 dX10_goesOn_230 rfl rfl rfl ?_
              refine TGo.il1 dX10_goesOn_233 rfl ?_
              refine TGo.ic1 dX10_goesOn_234 ?_
              refine TGo.iadd dX10_goesOn_235 ?_
              refine TGo.al0 dX10_goesOn_236 rfl ?_
              refine TGo.il1 dX10_goesOn_237 rfl ?_
              refine TGo.cF (csV1 (y2 := mX10_isLast) (t := 18) 1 rfl (hT 0 (by decide)) rfl rfl dX10_goesOn_238 q2544 q2546 qs107 okX10_isLast npX10_isLast rfl rfl) (kX10_isLast hT (((((hz.t 39 rfl).t 36 rfl).t 37 rfl).t 34 rfl).t 35 rfl) hn1 hn12 hof (fun i h0 h1 => by first | exact hov i h0 h1 | exact (u2_n (Or.inl (by omega))).trans (hov i h0 h1) | exact (u2_n (Or.inl (by omega))).trans ((u2_n (Or.inl (by omega))).trans ((u2_n (Or.inl (by omega))).trans ((u2_n (Or.inl (by omega))).trans ((u2_n (Or.inl (by omega))).trans (hov i h0 h1)))))) hk) ?_
              refine TGo.ifb_eq 248 dX10_goesOn_241 (by decide) (fun h241 => ?_) (fun h241 => ?_)
              · refine TGo.al0 dX10_goesOn_248 rfl ?_
                refine TGo.getS (t := 18) 64 64 (T + 35) (hT 0 (by decide)) rfl fgX10_142_10 dX10_goesOn_249 rfl rfl rfl ?_
                refine TGo.il3 dX10_goesOn_252 rfl ?_
                refine TGo.iald dX10_goesOn_253 (hT 35 (by decide)) (by omega) rfl ?_
                first | refine TGo.toz t u2_s ?_ | refine TGo.toz (Nx (6 * at0 + z.2 3 (o k + 1))) u2_s ?_ | skip
                refine TGo.iast dX10_goesOn_254 (hT 33 (by decide)) (by omega) rfl ?_
                refine TGo.al0 dX10_goesOn_255 rfl ?_
                refine TGo.getS (t := 18) 67 67 (T + 38) (hT 0 (by decide)) rfl fgX10_151_10 dX10_goesOn_256 rfl rfl rfl ?_
                refine TGo.il1 dX10_goesOn_259 rfl ?_
                refine TGo.ic1 dX10_goesOn_260 ?_
                refine TGo.iadd dX10_goesOn_261 ?_
                refine TGo.il dX10_goesOn_262 rfl ?_
                refine TGo.if_eq 293 dX10_goesOn_264 (by decide) (by decide) (fun h => absurd h (by decide)) (fun _ => ?_)
                refine TGo.al0 dX10_goesOn_267 rfl ?_
                refine TGo.getS (t := 18) 68 68 (T + 39) (hT 0 (by decide)) rfl fgX10_154_10 dX10_goesOn_268 rfl rfl rfl ?_
                refine TGo.il1 dX10_goesOn_271 rfl ?_
                refine TGo.iald dX10_goesOn_272 (hT 39 (by decide)) (by omega) rfl ?_
                refine TGo.toz t ((u2_n (Or.inl (by omega))).trans ((u2_n (Or.inl (by omega))).trans ((u2_n (Or.inl (by omega))).trans ((u2_n (Or.inl (by omega))).trans ((u2_n (Or.inl (by omega))).trans (u2_s)))))) ?_
                refine TGo.al0 dX10_goesOn_273 rfl ?_
                refine TGo.getS (t := 18) 67 67 (T + 38) (hT 0 (by decide)) rfl fgX10_151_10 dX10_goesOn_274 rfl rfl rfl ?_
                refine TGo.il1 dX10_goesOn_277 rfl ?_
                refine TGo.iald dX10_goesOn_278 (hT 38 (by decide)) (by omega) rfl ?_
                refine TGo.toz _ ((u2_n (Or.inl (by omega))).trans ((u2_n (Or.inl (by omega))).trans ((u2_n (Or.inl (by omega))).trans ((u2_n (Or.inl (by omega))).trans ((u2_n (Or.inl (by omega))).trans (u2_n (Or.inl (by omega)))))))) ?_
                refine TGo.toz met (hsh) ?_
                refine TGo.icmp_ne 293 dX10_goesOn_279 (by decide) (by omega) (fun h279 => ?_) (fun h279 => ?_)
                · refine TGo.al0 dX10_goesOn_293 rfl ?_
                  refine TGo.getS (t := 18) 67 67 (T + 38) (hT 0 (by decide)) rfl fgX10_151_10 dX10_goesOn_294 rfl rfl rfl ?_
                  refine TGo.il1 dX10_goesOn_297 rfl ?_
                  refine TGo.iald dX10_goesOn_298 (hT 38 (by decide)) (by omega) rfl ?_
                  refine TGo.toz _ ((u2_n (Or.inl (by omega))).trans ((u2_n (Or.inl (by omega))).trans ((u2_n (Or.inl (by omega))).trans ((u2_n (Or.inl (by omega))).trans ((u2_n (Or.inl (by omega))).trans (u2_n (Or.inl (by omega)))))))) ?_
                  first | refine TGo.toz met hsh ?_ | skip
                  refine TGo.iast dX10_goesOn_299 (hT 38 (by decide)) (by omega) rfl ?_
                  refine TGo.ic1 dX10_goesOn_300 ?_
                  refine TGo.zret dX10_goesOn_301 rfl (by first | exact Or.inl rfl | exact Or.inr rfl | exact bZ_or _ | assumption) ?_
                  first
                  | (exfalso; omega)
                  | (refine ⟨_, rfl, rfl, rfl, (((((((hz.t 39 rfl).t 36 rfl).t 37 rfl).t 34 rfl).t 35 rfl).t 33 rfl).t 38 rfl), FrG.rf.i (by omega) |>.i (by omega) |>.i (by omega) |>.i (by omega) |>.i (by omega) |>.i (by omega) |>.i (by omega), Or.inr ⟨rfl, by omega, ?_, ⟨fun i h0 h1 => ?_, fun i h0 h1 => ?_⟩, (u2_n (Or.inl (by omega))).trans ((u2_n (Or.inl (by omega))).trans ((u2_n (Or.inl (by omega))).trans ((u2_n (Or.inl (by omega))).trans ((u2_n (Or.inl (by omega))).trans ((u2_n (Or.inl (by omega))).trans (u2_s)))))), ?_, ?_, ?_, ?_⟩⟩
                     · unfold tyL
                       first
                       | (rw [if_neg (by omega)]; omega)
                       | (rw [if_pos (by omega), if_pos (by omega)]; omega)
                       | (rw [if_pos (by omega), if_neg (by omega)]; omega)
                     · refine (u2_n (Or.inl (by omega))).trans ((u2_n (Or.inl (by omega))).trans ((u2_n (Or.inl (by omega))).trans (?_)))
                       by_cases e : i = (6 * at0 + z.2 3 (o k + 1))
                       · rw [e, zu_s]; exact u2_s
                       · rw [zu_n e]; exact (u2_n (Or.inr e)).trans ((u2_n (Or.inl (by omega))).trans ((u2_n (Or.inl (by omega))).trans ((u2_n (Or.inl (by omega))).trans (hl.1 i h0 h1))))
                     · refine (u2_n (Or.inl (by omega))).trans ((u2_n (Or.inl (by omega))).trans (?_))
                       by_cases e : i = (6 * at0 + z.2 3 (o k + 1))
                       · rw [e]; refine u2_s.trans ?_
                         first | (rw [if_pos (by omega)]; exact zu_s.symm) | (rw [if_neg (by omega)])
                       · refine (u2_n (Or.inr e)).trans (((u2_n (Or.inl (by omega))).trans ((u2_n (Or.inl (by omega))).trans ((u2_n (Or.inl (by omega))).trans ((u2_n (Or.inl (by omega))).trans (hl.2 i h0 h1))))).trans ?_)
                         first | (rw [if_pos (by omega)]; exact (zu_n e).symm) | (rw [if_neg (by omega)])
                     · refine ((u2_n (Or.inl (by omega))).trans ((u2_n (Or.inl (by omega))).trans ((u2_n (Or.inl (by omega))).trans ((u2_n (Or.inl (by omega))).trans ((u2_n (Or.inl (by omega))).trans (u2_s)))))).trans ?_
                       first | exact (bZ_t (by omega)).symm | exact (bZ_f (by omega)).symm
                     · refine ((u2_n (Or.inl (by omega))).trans ((u2_n (Or.inl (by omega))).trans ((u2_n (Or.inl (by omega))).trans ((u2_n (Or.inl (by omega))).trans (u2_s))))).trans ?_
                       first | exact (bZ_t (by omega)).symm | exact (bZ_f (by omega)).symm
                     · refine ((u2_n (Or.inl (by omega))).trans (u2_s)).trans ?_
                       first
                       | (rw [if_pos (show laL (z.2 3) o n1 k by omega)])
                       | (rw [if_neg (show ¬ laL (z.2 3) o n1 k by omega), if_pos (by omega)]; exact zu_s.symm)
                       | (rw [if_neg (show ¬ laL (z.2 3) o n1 k by omega), if_neg (by omega)])
                     · refine u2_s.trans ?_
                       first | (rw [if_pos (by omega)]) | (rw [if_neg (by omega)]))
                · refine TGo.al0 dX10_goesOn_282 rfl ?_
                  refine TGo.getS (t := 18) 67 67 (T + 38) (hT 0 (by decide)) rfl fgX10_151_10 dX10_goesOn_283 rfl rfl rfl ?_
                  refine TGo.il1 dX10_goesOn_286 rfl ?_
                  refine TGo.iald dX10_goesOn_287 (hT 38 (by decide)) (by omega) rfl ?_
                  refine TGo.toz _ ((u2_n (Or.inl (by omega))).trans ((u2_n (Or.inl (by omega))).trans ((u2_n (Or.inl (by omega))).trans ((u2_n (Or.inl (by omega))).trans ((u2_n (Or.inl (by omega))).trans (u2_n (Or.inl (by omega)))))))) ?_
                  refine TGo.toz met (hsh) ?_
                  refine TGo.ic1 dX10_goesOn_288 ?_
                  refine TGo.iadd dX10_goesOn_289 ?_
                  refine TGo.goto 299 dX10_goesOn_290 (by decide) ?_
                  first | refine TGo.toz met hsh ?_ | skip
                  refine TGo.iast dX10_goesOn_299 (hT 38 (by decide)) (by omega) rfl ?_
                  refine TGo.ic1 dX10_goesOn_300 ?_
                  refine TGo.zret dX10_goesOn_301 rfl (by first | exact Or.inl rfl | exact Or.inr rfl | exact bZ_or _ | assumption) ?_
                  first
                  | (exfalso; omega)
                  | (refine ⟨_, rfl, rfl, rfl, (((((((hz.t 39 rfl).t 36 rfl).t 37 rfl).t 34 rfl).t 35 rfl).t 33 rfl).t 38 rfl), FrG.rf.i (by omega) |>.i (by omega) |>.i (by omega) |>.i (by omega) |>.i (by omega) |>.i (by omega) |>.i (by omega), Or.inr ⟨rfl, by omega, ?_, ⟨fun i h0 h1 => ?_, fun i h0 h1 => ?_⟩, (u2_n (Or.inl (by omega))).trans ((u2_n (Or.inl (by omega))).trans ((u2_n (Or.inl (by omega))).trans ((u2_n (Or.inl (by omega))).trans ((u2_n (Or.inl (by omega))).trans ((u2_n (Or.inl (by omega))).trans (u2_s)))))), ?_, ?_, ?_, ?_⟩⟩
                     · unfold tyL
                       first
                       | (rw [if_neg (by omega)]; omega)
                       | (rw [if_pos (by omega), if_pos (by omega)]; omega)
                       | (rw [if_pos (by omega), if_neg (by omega)]; omega)
                     · refine (u2_n (Or.inl (by omega))).trans ((u2_n (Or.inl (by omega))).trans ((u2_n (Or.inl (by omega))).trans (?_)))
                       by_cases e : i = (6 * at0 + z.2 3 (o k + 1))
                       · rw [e, zu_s]; exact u2_s
                       · rw [zu_n e]; exact (u2_n (Or.inr e)).trans ((u2_n (Or.inl (by omega))).trans ((u2_n (Or.inl (by omega))).trans ((u2_n (Or.inl (by omega))).trans (hl.1 i h0 h1))))
                     · refine (u2_n (Or.inl (by omega))).trans ((u2_n (Or.inl (by omega))).trans (?_))
                       by_cases e : i = (6 * at0 + z.2 3 (o k + 1))
                       · rw [e]; refine u2_s.trans ?_
                         first | (rw [if_pos (by omega)]; exact zu_s.symm) | (rw [if_neg (by omega)])
                       · refine (u2_n (Or.inr e)).trans (((u2_n (Or.inl (by omega))).trans ((u2_n (Or.inl (by omega))).trans ((u2_n (Or.inl (by omega))).trans ((u2_n (Or.inl (by omega))).trans (hl.2 i h0 h1))))).trans ?_)
                         first | (rw [if_pos (by omega)]; exact (zu_n e).symm) | (rw [if_neg (by omega)])
                     · refine ((u2_n (Or.inl (by omega))).trans ((u2_n (Or.inl (by omega))).trans ((u2_n (Or.inl (by omega))).trans ((u2_n (Or.inl (by omega))).trans ((u2_n (Or.inl (by omega))).trans (u2_s)))))).trans ?_
                       first | exact (bZ_t (by omega)).symm | exact (bZ_f (by omega)).symm
                     · refine ((u2_n (Or.inl (by omega))).trans ((u2_n (Or.inl (by omega))).trans ((u2_n (Or.inl (by omega))).trans ((u2_n (Or.inl (by omega))).trans (u2_s))))).trans ?_
                       first | exact (bZ_t (by omega)).symm | exact (bZ_f (by omega)).symm
                     · refine ((u2_n (Or.inl (by omega))).trans (u2_s)).trans ?_
                       first
                       | (rw [if_pos (show laL (z.2 3) o n1 k by omega)])
                       | (rw [if_neg (show ¬ laL (z.2 3) o n1 k by omega), if_pos (by omega)]; exact zu_s.symm)
                       | (rw [if_neg (show ¬ laL (z.2 3) o n1 k by omega), if_neg (by omega)])
                     · refine u2_s.trans ?_
                       first | (rw [if_pos (by omega)]) | (rw [if_neg (by omega)]))
              · refine TGo.ic0 dX10_goesOn_244 ?_
                refine TGo.goto 254 dX10_goesOn_245 (by decide) ?_
                first | refine TGo.toz t u2_s ?_ | refine TGo.toz (Nx (6 * at0 + z.2 3 (o k + 1))) u2_s ?_ | skip
                refine TGo.iast dX10_goesOn_254 (hT 33 (by decide)) (by omega) rfl ?_
                refine TGo.al0 dX10_goesOn_255 rfl ?_
                refine TGo.getS (t := 18) 67 67 (T + 38) (hT 0 (by decide)) rfl fgX10_151_10 dX10_goesOn_256 rfl rfl rfl ?_
                refine TGo.il1 dX10_goesOn_259 rfl ?_
                refine TGo.ic1 dX10_goesOn_260 ?_
                refine TGo.iadd dX10_goesOn_261 ?_
                refine TGo.il dX10_goesOn_262 rfl ?_
                refine TGo.if_eq 293 dX10_goesOn_264 (by decide) (by decide) (fun h => absurd h (by decide)) (fun _ => ?_)
                refine TGo.al0 dX10_goesOn_267 rfl ?_
                refine TGo.getS (t := 18) 68 68 (T + 39) (hT 0 (by decide)) rfl fgX10_154_10 dX10_goesOn_268 rfl rfl rfl ?_
                refine TGo.il1 dX10_goesOn_271 rfl ?_
                refine TGo.iald dX10_goesOn_272 (hT 39 (by decide)) (by omega) rfl ?_
                refine TGo.toz t ((u2_n (Or.inl (by omega))).trans ((u2_n (Or.inl (by omega))).trans ((u2_n (Or.inl (by omega))).trans ((u2_n (Or.inl (by omega))).trans ((u2_n (Or.inl (by omega))).trans (u2_s)))))) ?_
                refine TGo.al0 dX10_goesOn_273 rfl ?_
                refine TGo.getS (t := 18) 67 67 (T + 38) (hT 0 (by decide)) rfl fgX10_151_10 dX10_goesOn_274 rfl rfl rfl ?_
                refine TGo.il1 dX10_goesOn_277 rfl ?_
                refine TGo.iald dX10_goesOn_278 (hT 38 (by decide)) (by omega) rfl ?_
                refine TGo.toz _ ((u2_n (Or.inl (by omega))).trans ((u2_n (Or.inl (by omega))).trans ((u2_n (Or.inl (by omega))).trans ((u2_n (Or.inl (by omega))).trans ((u2_n (Or.inl (by omega))).trans (u2_n (Or.inl (by omega)))))))) ?_
                refine TGo.toz met (hsh) ?_
                refine TGo.icmp_ne 293 dX10_goesOn_279 (by decide) (by omega) (fun h279 => ?_) (fun h279 => ?_)
                · refine TGo.al0 dX10_goesOn_293 rfl ?_
                  refine TGo.getS (t := 18) 67 67 (T + 38) (hT 0 (by decide)) rfl fgX10_151_10 dX10_goesOn_294 rfl rfl rfl ?_
                  refine TGo.il1 dX10_goesOn_297 rfl ?_
                  refine TGo.iald dX10_goesOn_298 (hT 38 (by decide)) (by omega) rfl ?_
                  refine TGo.toz _ ((u2_n (Or.inl (by omega))).trans ((u2_n (Or.inl (by omega))).trans ((u2_n (Or.inl (by omega))).trans ((u2_n (Or.inl (by omega))).trans ((u2_n (Or.inl (by omega))).trans (u2_n (Or.inl (by omega)))))))) ?_
                  first | refine TGo.toz met hsh ?_ | skip
                  refine TGo.iast dX10_goesOn_299 (hT 38 (by decide)) (by omega) rfl ?_
                  refine TGo.ic1 dX10_goesOn_300 ?_
                  refine TGo.zret dX10_goesOn_301 rfl (by first | exact Or.inl rfl | exact Or.inr rfl | exact bZ_or _ | assumption) ?_
                  first
                  | (exfalso; omega)
                  | (refine ⟨_, rfl, rfl, rfl, (((((((hz.t 39 rfl).t 36 rfl).t 37 rfl).t 34 rfl).t 35 rfl).t 33 rfl).t 38 rfl), FrG.rf.i (by omega) |>.i (by omega) |>.i (by omega) |>.i (by omega) |>.i (by omega) |>.i (by omega) |>.i (by omega), Or.inr ⟨rfl, by omega, ?_, ⟨fun i h0 h1 => ?_, fun i h0 h1 => ?_⟩, (u2_n (Or.inl (by omega))).trans ((u2_n (Or.inl (by omega))).trans ((u2_n (Or.inl (by omega))).trans ((u2_n (Or.inl (by omega))).trans ((u2_n (Or.inl (by omega))).trans ((u2_n (Or.inl (by omega))).trans (u2_s)))))), ?_, ?_, ?_, ?_⟩⟩
                     · unfold tyL
                       first
                       | (rw [if_neg (by omega)]; omega)
                       | (rw [if_pos (by omega), if_pos (by omega)]; omega)
                       | (rw [if_pos (by omega), if_neg (by omega)]; omega)
                     · refine (u2_n (Or.inl (by omega))).trans ((u2_n (Or.inl (by omega))).trans ((u2_n (Or.inl (by omega))).trans (?_)))
                       by_cases e : i = (6 * at0 + z.2 3 (o k + 1))
                       · rw [e, zu_s]; exact u2_s
                       · rw [zu_n e]; exact (u2_n (Or.inr e)).trans ((u2_n (Or.inl (by omega))).trans ((u2_n (Or.inl (by omega))).trans ((u2_n (Or.inl (by omega))).trans (hl.1 i h0 h1))))
                     · refine (u2_n (Or.inl (by omega))).trans ((u2_n (Or.inl (by omega))).trans (?_))
                       by_cases e : i = (6 * at0 + z.2 3 (o k + 1))
                       · rw [e]; refine u2_s.trans ?_
                         first | (rw [if_pos (by omega)]; exact zu_s.symm) | (rw [if_neg (by omega)])
                       · refine (u2_n (Or.inr e)).trans (((u2_n (Or.inl (by omega))).trans ((u2_n (Or.inl (by omega))).trans ((u2_n (Or.inl (by omega))).trans ((u2_n (Or.inl (by omega))).trans (hl.2 i h0 h1))))).trans ?_)
                         first | (rw [if_pos (by omega)]; exact (zu_n e).symm) | (rw [if_neg (by omega)])
                     · refine ((u2_n (Or.inl (by omega))).trans ((u2_n (Or.inl (by omega))).trans ((u2_n (Or.inl (by omega))).trans ((u2_n (Or.inl (by omega))).trans ((u2_n (Or.inl (by omega))).trans (u2_s)))))).trans ?_
                       first | exact (bZ_t (by omega)).symm | exact (bZ_f (by omega)).symm
                     · refine ((u2_n (Or.inl (by omega))).trans ((u2_n (Or.inl (by omega))).trans ((u2_n (Or.inl (by omega))).trans ((u2_n (Or.inl (by omega))).trans (u2_s))))).trans ?_
                       first | exact (bZ_t (by omega)).symm | exact (bZ_f (by omega)).symm
                     · refine ((u2_n (Or.inl (by omega))).trans (u2_s)).trans ?_
                       first
                       | (rw [if_pos (show laL (z.2 3) o n1 k by omega)])
                       | (rw [if_neg (show ¬ laL (z.2 3) o n1 k by omega), if_pos (by omega)]; exact zu_s.symm)
                       | (rw [if_neg (show ¬ laL (z.2 3) o n1 k by omega), if_neg (by omega)])
                     · refine u2_s.trans ?_
                       first | (rw [if_pos (by omega)]) | (rw [if_neg (by omega)]))
                · refine TGo.al0 dX10_goesOn_282 rfl ?_
                  refine TGo.getS (t := 18) 67 67 (T + 38) (hT 0 (by decide)) rfl fgX10_151_10 dX10_goesOn_283 rfl rfl rfl ?_
                  refine TGo.il1 dX10_goesOn_286 rfl ?_
                  refine TGo.iald dX10_goesOn_287 (hT 38 (by decide)) (by omega) rfl ?_
                  refine TGo.toz _ ((u2_n (Or.inl (by omega))).trans ((u2_n (Or.inl (by omega))).trans ((u2_n (Or.inl (by omega))).trans ((u2_n (Or.inl (by omega))).trans ((u2_n (Or.inl (by omega))).trans (u2_n (Or.inl (by omega)))))))) ?_
                  refine TGo.toz met (hsh) ?_
                  refine TGo.ic1 dX10_goesOn_288 ?_
                  refine TGo.iadd dX10_goesOn_289 ?_
                  refine TGo.goto 299 dX10_goesOn_290 (by decide) ?_
                  first | refine TGo.toz met hsh ?_ | skip
                  refine TGo.iast dX10_goesOn_299 (hT 38 (by decide)) (by omega) rfl ?_
                  refine TGo.ic1 dX10_goesOn_300 ?_
                  refine TGo.zret dX10_goesOn_301 rfl (by first | exact Or.inl rfl | exact Or.inr rfl | exact bZ_or _ | assumption) ?_
                  first
                  | (exfalso; omega)
                  | (refine ⟨_, rfl, rfl, rfl, (((((((hz.t 39 rfl).t 36 rfl).t 37 rfl).t 34 rfl).t 35 rfl).t 33 rfl).t 38 rfl), FrG.rf.i (by omega) |>.i (by omega) |>.i (by omega) |>.i (by omega) |>.i (by omega) |>.i (by omega) |>.i (by omega), Or.inr ⟨rfl, by omega, ?_, ⟨fun i h0 h1 => ?_, fun i h0 h1 => ?_⟩, (u2_n (Or.inl (by omega))).trans ((u2_n (Or.inl (by omega))).trans ((u2_n (Or.inl (by omega))).trans ((u2_n (Or.inl (by omega))).trans ((u2_n (Or.inl (by omega))).trans ((u2_n (Or.inl (by omega))).trans (u2_s)))))), ?_, ?_, ?_, ?_⟩⟩
                     · unfold tyL
                       first
                       | (rw [if_neg (by omega)]; omega)
                       | (rw [if_pos (by omega), if_pos (by omega)]; omega)
                       | (rw [if_pos (by omega), if_neg (by omega)]; omega)
                     · refine (u2_n (Or.inl (by omega))).trans ((u2_n (Or.inl (by omega))).trans ((u2_n (Or.inl (by omega))).trans (?_)))
                       by_cases e : i = (6 * at0 + z.2 3 (o k + 1))
                       · rw [e, zu_s]; exact u2_s
                       · rw [zu_n e]; exact (u2_n (Or.inr e)).trans ((u2_n (Or.inl (by omega))).trans ((u2_n (Or.inl (by omega))).trans ((u2_n (Or.inl (by omega))).trans (hl.1 i h0 h1))))
                     · refine (u2_n (Or.inl (by omega))).trans ((u2_n (Or.inl (by omega))).trans (?_))
                       by_cases e : i = (6 * at0 + z.2 3 (o k + 1))
                       · rw [e]; refine u2_s.trans ?_
                         first | (rw [if_pos (by omega)]; exact zu_s.symm) | (rw [if_neg (by omega)])
                       · refine (u2_n (Or.inr e)).trans (((u2_n (Or.inl (by omega))).trans ((u2_n (Or.inl (by omega))).trans ((u2_n (Or.inl (by omega))).trans ((u2_n (Or.inl (by omega))).trans (hl.2 i h0 h1))))).trans ?_)
                         first | (rw [if_pos (by omega)]; exact (zu_n e).symm) | (rw [if_neg (by omega)])
                     · refine ((u2_n (Or.inl (by omega))).trans ((u2_n (Or.inl (by omega))).trans ((u2_n (Or.inl (by omega))).trans ((u2_n (Or.inl (by omega))).trans ((u2_n (Or.inl (by omega))).trans (u2_s)))))).trans ?_
                       first | exact (bZ_t (by omega)).symm | exact (bZ_f (by omega)).symm
                     · refine ((u2_n (Or.inl (by omega))).trans ((u2_n (Or.inl (by omega))).trans ((u2_n (Or.inl (by omega))).trans ((u2_n (Or.inl (by omega))).trans (u2_s))))).trans ?_
                       first | exact (bZ_t (by omega)).symm | exact (bZ_f (by omega)).symm
                     · refine ((u2_n (Or.inl (by omega))).trans (u2_s)).trans ?_
                       first
                       | (rw [if_pos (show laL (z.2 3) o n1 k by omega)])
                       | (rw [if_neg (show ¬ laL (z.2 3) o n1 k by omega), if_pos (by omega)]; exact zu_s.symm)
                       | (rw [if_neg (show ¬ laL (z.2 3) o n1 k by omega), if_neg (by omega)])
                     · refine u2_s.trans ?_
                       first | (rw [if_pos (by omega)]) | (rw [if_neg (by omega)]))
          · refine TGo.al0 dX10_goesOn_155 rfl ?_
            refine TGo.getS (t := 18) 68 68 (T + 39) (hT 0 (by decide)) rfl fgX10_154_10 dX10_goesOn_156 rfl rfl rfl ?_
            refine TGo.il1 dX10_goesOn_159 rfl ?_
            refine TGo.ldcw 1000000 dX10_goesOn_160 q2499 (by decide) ?_
            refine TGo.iast dX10_goesOn_163 (hT 39 (by decide)) (by omega) rfl ?_
            refine TGo.ic0 dX10_goesOn_164 ?_
            refine TGo.zret dX10_goesOn_165 rfl (by first | exact Or.inl rfl | exact Or.inr rfl | exact bZ_or _ | assumption) ?_
            first
            | (exfalso; omega)
            | (refine ⟨_, rfl, rfl, rfl, ((hz.t 39 rfl).t 39 rfl), FrG.rf.i (by omega) |>.i (by omega), Or.inl ⟨rfl, ?_, ⟨fun i h0 h1 => (u2_n (Or.inl (by omega))).trans ((u2_n (Or.inl (by omega))).trans (hl.1 i h0 h1)), fun i h0 h1 => (u2_n (Or.inl (by omega))).trans ((u2_n (Or.inl (by omega))).trans (hl.2 i h0 h1))⟩, (u2_n (Or.inl (by omega))).trans ((u2_n (Or.inl (by omega))).trans (ha)), (u2_n (Or.inl (by omega))).trans ((u2_n (Or.inl (by omega))).trans (hb))⟩⟩
               first
               | exact Or.inl (by omega)
               | (refine Or.inr ?_
                  unfold tyL
                  first
                  | (rw [if_neg (by omega)]; omega)
                  | (rw [if_pos (by omega), if_pos (by omega)]; omega)
                  | (rw [if_pos (by omega), if_neg (by omega)]; omega)))
  · refine TGo.al0 dX10_goesOn_59 rfl ?_
    refine TGo.getS (t := 18) 63 63 (T + 34) (hT 0 (by decide)) rfl fgX10_139_10 dX10_goesOn_60 rfl rfl rfl ?_
    refine TGo.il3 dX10_goesOn_63 rfl ?_
    refine TGo.iald dX10_goesOn_64 (hT 34 (by decide)) (by omega) rfl ?_
    refine TGo.toz _ (u2_n (Or.inl (by omega))) ?_
    refine TGo.toz (Wd (6 * at0 + z.2 3 (o k + 1))) (hl.1 _ (by omega) (by omega)) ?_
    refine TGo.il dX10_goesOn_65 rfl ?_
    refine TGo.icmp_eq 81 dX10_goesOn_67 (by decide) (by omega) (fun h67 => ?_) (fun h67 => ?_)
    · refine TGo.al0 dX10_goesOn_81 rfl ?_
      refine TGo.getS (t := 18) 64 64 (T + 35) (hT 0 (by decide)) rfl fgX10_142_10 dX10_goesOn_82 rfl rfl rfl ?_
      refine TGo.il3 dX10_goesOn_85 rfl ?_
      refine TGo.iald dX10_goesOn_86 (hT 35 (by decide)) (by omega) rfl ?_
      refine TGo.toz _ (u2_n (Or.inl (by omega))) ?_
      refine TGo.toz (Nx (6 * at0 + z.2 3 (o k + 1))) (hl.2 _ (by omega) (by omega)) ?_
      refine TGo.icm1 dX10_goesOn_87 ?_
      refine TGo.icmp_ne 103 dX10_goesOn_88 (by decide) (by omega) (fun h88 => ?_) (fun h88 => ?_)
      · refine TGo.ic0 dX10_goesOn_103 ?_
        refine TGo.is dX10_goesOn_104 rfl rfl ?_
        refine TGo.il dX10_goesOn_106 rfl ?_
        refine TGo.if_eq 141 dX10_goesOn_108 (by decide) (by decide) (fun _ => ?_) (fun h => absurd h (by decide))
        refine TGo.ic1 dX10_goesOn_141 ?_
        refine TGo.is dX10_goesOn_142 rfl rfl ?_
        refine TGo.al0 dX10_goesOn_144 rfl ?_
        refine TGo.getS (t := 18) 68 68 (T + 39) (hT 0 (by decide)) rfl fgX10_154_10 dX10_goesOn_145 rfl rfl rfl ?_
        refine TGo.il1 dX10_goesOn_148 rfl ?_
        refine TGo.iald dX10_goesOn_149 (hT 39 (by decide)) (by omega) rfl ?_
        refine TGo.toz t (u2_s) ?_
        refine TGo.il dX10_goesOn_150 rfl ?_
        refine TGo.icmp_lt 166 dX10_goesOn_152 (by decide) (by omega) (fun h152 => ?_) (fun h152 => ?_)
        · refine TGo.al0 dX10_goesOn_166 rfl ?_
          refine TGo.getS (t := 18) 65 65 (T + 36) (hT 0 (by decide)) rfl fgX10_145_10 dX10_goesOn_167 rfl rfl rfl ?_
          refine TGo.il1 dX10_goesOn_170 rfl ?_
          refine TGo.al0 dX10_goesOn_171 rfl ?_
          refine TGo.getS (t := 18) 63 63 (T + 34) (hT 0 (by decide)) rfl fgX10_139_10 dX10_goesOn_172 rfl rfl rfl ?_
          refine TGo.il3 dX10_goesOn_175 rfl ?_
          refine TGo.iald dX10_goesOn_176 (hT 34 (by decide)) (by omega) rfl ?_
          refine TGo.toz _ (u2_n (Or.inl (by omega))) ?_
          refine TGo.toz (Wd (6 * at0 + z.2 3 (o k + 1))) (hl.1 _ (by omega) (by omega)) ?_
          refine TGo.icm1 dX10_goesOn_177 ?_
          refine TGo.icmp_ne 185 dX10_goesOn_178 (by decide) (by omega) (fun h178 => ?_) (fun h178 => ?_)
          · refine TGo.ic0 dX10_goesOn_185 ?_
            refine TGo.zast dX10_goesOn_186 (hT 36 (by decide)) (by omega) rfl (by first | exact Or.inl rfl | exact Or.inr rfl | exact bZ_or _ | assumption) ?_
            refine TGo.al0 dX10_goesOn_187 rfl ?_
            refine TGo.getS (t := 18) 66 66 (T + 37) (hT 0 (by decide)) rfl fgX10_148_10 dX10_goesOn_188 rfl rfl rfl ?_
            refine TGo.il1 dX10_goesOn_191 rfl ?_
            refine TGo.il dX10_goesOn_192 rfl ?_
            refine TGo.zast dX10_goesOn_194 (hT 37 (by decide)) (by omega) rfl (by first | exact Or.inl rfl | exact Or.inr rfl | exact bZ_or _ | assumption) ?_
            refine TGo.al0 dX10_goesOn_195 rfl ?_
            refine TGo.getS (t := 18) 63 63 (T + 34) (hT 0 (by decide)) rfl fgX10_139_10 dX10_goesOn_196 rfl rfl rfl ?_
            refine TGo.il3 dX10_goesOn_199 rfl ?_
            refine TGo.il dX10_goesOn_200 rfl ?_
            refine TGo.iast dX10_goesOn_202 (hT 34 (by decide)) (by omega) rfl ?_
            refine TGo.al0 dX10_goesOn_203 rfl ?_
            refine TGo.getS (t := 18) 64 64 (T + 35) (hT 0 (by decide)) rfl fgX10_142_10 dX10_goesOn_204 rfl rfl rfl ?_
            refine TGo.il3 dX10_goesOn_207 rfl ?_
            refine TGo.il dX10_goesOn_208 rfl ?_
            refine TGo.if_eq 222 dX10_goesOn_210 (by decide) (by decide) (fun _ => ?_) (fun h => absurd h (by decide))
            refine TGo.al0 dX10_goesOn_222 rfl ?_
            refine TGo.getS (t := 18) 64 64 (T + 35) (hT 0 (by decide)) rfl fgX10_142_10 dX10_goesOn_223 rfl rfl rfl ?_
            refine TGo.il3 dX10_goesOn_226 rfl ?_
            refine TGo.iald dX10_goesOn_227 (hT 35 (by decide)) (by omega) rfl ?_
            refine TGo.toz _ ((u2_n (Or.inl (by omega))).trans ((u2_n (Or.inl (by omega))).trans ((u2_n (Or.inl (by omega))).trans (u2_n (Or.inl (by omega)))))) ?_
            first | refine TGo.toz (Nx (6 * at0 + z.2 3 (o k + 1))) (hl.2 _ (by omega) (by omega)) ?_ | skip
            refine TGo.iast dX10_goesOn_228 (hT 35 (by decide)) (by omega) rfl ?_
            refine TGo.al0 dX10_goesOn_229 rfl ?_
            refine TGo.getS (t := 18) 62 62 (T + 33) (hT 0 (by decide)) rfl fgX10_136_10 dX10_goesOn_230 rfl rfl rfl ?_
            refine TGo.il1 dX10_goesOn_233 rfl ?_
            refine TGo.ic1 dX10_goesOn_234 ?_
            refine TGo.iadd dX10_goesOn_235 ?_
            refine TGo.al0 dX10_goesOn_236 rfl ?_
            refine TGo.il1 dX10_goesOn_237 rfl ?_
            refine TGo.cF (csV1 (y2 := mX10_isLast) (t := 18) 1 rfl (hT 0 (by decide)) rfl rfl dX10_goesOn_238 q2544 q2546 qs107 okX10_isLast npX10_isLast rfl rfl) (kX10_isLast hT (((((hz.t 39 rfl).t 36 rfl).t 37 rfl).t 34 rfl).t 35 rfl) hn1 hn12 hof (fun i h0 h1 => by first | exact hov i h0 h1 | exact (u2_n (Or.inl (by omega))).trans (hov i h0 h1) | exact (u2_n (Or.inl (by omega))).trans ((u2_n (Or.inl (by omega))).trans ((u2_n (Or.inl (by omega))).trans ((u2_n (Or.inl (by omega))).trans ((u2_n (Or.inl (by omega))).trans (hov i h0 h1)))))) hk) ?_
            refine TGo.ifb_eq 248 dX10_goesOn_241 (by decide) (fun h241 => ?_) (fun h241 => ?_)
            · refine TGo.al0 dX10_goesOn_248 rfl ?_
              refine TGo.getS (t := 18) 64 64 (T + 35) (hT 0 (by decide)) rfl fgX10_142_10 dX10_goesOn_249 rfl rfl rfl ?_
              refine TGo.il3 dX10_goesOn_252 rfl ?_
              refine TGo.iald dX10_goesOn_253 (hT 35 (by decide)) (by omega) rfl ?_
              first | refine TGo.toz t u2_s ?_ | refine TGo.toz (Nx (6 * at0 + z.2 3 (o k + 1))) u2_s ?_ | skip
              refine TGo.iast dX10_goesOn_254 (hT 33 (by decide)) (by omega) rfl ?_
              refine TGo.al0 dX10_goesOn_255 rfl ?_
              refine TGo.getS (t := 18) 67 67 (T + 38) (hT 0 (by decide)) rfl fgX10_151_10 dX10_goesOn_256 rfl rfl rfl ?_
              refine TGo.il1 dX10_goesOn_259 rfl ?_
              refine TGo.ic1 dX10_goesOn_260 ?_
              refine TGo.iadd dX10_goesOn_261 ?_
              refine TGo.il dX10_goesOn_262 rfl ?_
              refine TGo.if_eq 293 dX10_goesOn_264 (by decide) (by decide) (fun _ => ?_) (fun h => absurd h (by decide))
              refine TGo.al0 dX10_goesOn_293 rfl ?_
              refine TGo.getS (t := 18) 67 67 (T + 38) (hT 0 (by decide)) rfl fgX10_151_10 dX10_goesOn_294 rfl rfl rfl ?_
              refine TGo.il1 dX10_goesOn_297 rfl ?_
              refine TGo.iald dX10_goesOn_298 (hT 38 (by decide)) (by omega) rfl ?_
              refine TGo.toz _ ((u2_n (Or.inl (by omega))).trans ((u2_n (Or.inl (by omega))).trans ((u2_n (Or.inl (by omega))).trans ((u2_n (Or.inl (by omega))).trans ((u2_n (Or.inl (by omega))).trans (u2_n (Or.inl (by omega)))))))) ?_
              first | refine TGo.toz met hsh ?_ | skip
              refine TGo.iast dX10_goesOn_299 (hT 38 (by decide)) (by omega) rfl ?_
              refine TGo.ic1 dX10_goesOn_300 ?_
              refine TGo.zret dX10_goesOn_301 rfl (by first | exact Or.inl rfl | exact Or.inr rfl | exact bZ_or _ | assumption) ?_
              first
              | (exfalso; omega)
              | (refine ⟨_, rfl, rfl, rfl, (((((((hz.t 39 rfl).t 36 rfl).t 37 rfl).t 34 rfl).t 35 rfl).t 33 rfl).t 38 rfl), FrG.rf.i (by omega) |>.i (by omega) |>.i (by omega) |>.i (by omega) |>.i (by omega) |>.i (by omega) |>.i (by omega), Or.inr ⟨rfl, by omega, ?_, ⟨fun i h0 h1 => ?_, fun i h0 h1 => ?_⟩, (u2_n (Or.inl (by omega))).trans ((u2_n (Or.inl (by omega))).trans ((u2_n (Or.inl (by omega))).trans ((u2_n (Or.inl (by omega))).trans ((u2_n (Or.inl (by omega))).trans ((u2_n (Or.inl (by omega))).trans (u2_s)))))), ?_, ?_, ?_, ?_⟩⟩
                 · unfold tyL
                   first
                   | (rw [if_neg (by omega)]; omega)
                   | (rw [if_pos (by omega), if_pos (by omega)]; omega)
                   | (rw [if_pos (by omega), if_neg (by omega)]; omega)
                 · refine (u2_n (Or.inl (by omega))).trans ((u2_n (Or.inl (by omega))).trans ((u2_n (Or.inl (by omega))).trans (?_)))
                   by_cases e : i = (6 * at0 + z.2 3 (o k + 1))
                   · rw [e, zu_s]; exact u2_s
                   · rw [zu_n e]; exact (u2_n (Or.inr e)).trans ((u2_n (Or.inl (by omega))).trans ((u2_n (Or.inl (by omega))).trans ((u2_n (Or.inl (by omega))).trans (hl.1 i h0 h1))))
                 · refine (u2_n (Or.inl (by omega))).trans ((u2_n (Or.inl (by omega))).trans (?_))
                   by_cases e : i = (6 * at0 + z.2 3 (o k + 1))
                   · rw [e]; refine u2_s.trans ?_
                     first | (rw [if_pos (by omega)]; exact zu_s.symm) | (rw [if_neg (by omega)])
                   · refine (u2_n (Or.inr e)).trans (((u2_n (Or.inl (by omega))).trans ((u2_n (Or.inl (by omega))).trans ((u2_n (Or.inl (by omega))).trans ((u2_n (Or.inl (by omega))).trans (hl.2 i h0 h1))))).trans ?_)
                     first | (rw [if_pos (by omega)]; exact (zu_n e).symm) | (rw [if_neg (by omega)])
                 · refine ((u2_n (Or.inl (by omega))).trans ((u2_n (Or.inl (by omega))).trans ((u2_n (Or.inl (by omega))).trans ((u2_n (Or.inl (by omega))).trans ((u2_n (Or.inl (by omega))).trans (u2_s)))))).trans ?_
                   first | exact (bZ_t (by omega)).symm | exact (bZ_f (by omega)).symm
                 · refine ((u2_n (Or.inl (by omega))).trans ((u2_n (Or.inl (by omega))).trans ((u2_n (Or.inl (by omega))).trans ((u2_n (Or.inl (by omega))).trans (u2_s))))).trans ?_
                   first | exact (bZ_t (by omega)).symm | exact (bZ_f (by omega)).symm
                 · refine ((u2_n (Or.inl (by omega))).trans (u2_s)).trans ?_
                   first
                   | (rw [if_pos (show laL (z.2 3) o n1 k by omega)])
                   | (rw [if_neg (show ¬ laL (z.2 3) o n1 k by omega), if_pos (by omega)]; exact zu_s.symm)
                   | (rw [if_neg (show ¬ laL (z.2 3) o n1 k by omega), if_neg (by omega)])
                 · refine u2_s.trans ?_
                   first | (rw [if_pos (by omega)]) | (rw [if_neg (by omega)]))
            · refine TGo.ic0 dX10_goesOn_244 ?_
              refine TGo.goto 254 dX10_goesOn_245 (by decide) ?_
              first | refine TGo.toz t u2_s ?_ | refine TGo.toz (Nx (6 * at0 + z.2 3 (o k + 1))) u2_s ?_ | skip
              refine TGo.iast dX10_goesOn_254 (hT 33 (by decide)) (by omega) rfl ?_
              refine TGo.al0 dX10_goesOn_255 rfl ?_
              refine TGo.getS (t := 18) 67 67 (T + 38) (hT 0 (by decide)) rfl fgX10_151_10 dX10_goesOn_256 rfl rfl rfl ?_
              refine TGo.il1 dX10_goesOn_259 rfl ?_
              refine TGo.ic1 dX10_goesOn_260 ?_
              refine TGo.iadd dX10_goesOn_261 ?_
              refine TGo.il dX10_goesOn_262 rfl ?_
              refine TGo.if_eq 293 dX10_goesOn_264 (by decide) (by decide) (fun _ => ?_) (fun h => absurd h (by decide))
              refine TGo.al0 dX10_goesOn_293 rfl ?_
              refine TGo.getS (t := 18) 67 67 (T + 38) (hT 0 (by decide)) rfl fgX10_151_10 dX10_goesOn_294 rfl rfl rfl ?_
              refine TGo.il1 dX10_goesOn_297 rfl ?_
              refine TGo.iald dX10_goesOn_298 (hT 38 (by decide)) (by omega) rfl ?_
              refine TGo.toz _ ((u2_n (Or.inl (by omega))).trans ((u2_n (Or.inl (by omega))).trans ((u2_n (Or.inl (by omega))).trans ((u2_n (Or.inl (by omega))).trans ((u2_n (Or.inl (by omega))).trans (u2_n (Or.inl (by omega)))))))) ?_
              first | refine TGo.toz met hsh ?_ | skip
              refine TGo.iast dX10_goesOn_299 (hT 38 (by decide)) (by omega) rfl ?_
              refine TGo.ic1 dX10_goesOn_300 ?_
              refine TGo.zret dX10_goesOn_301 rfl (by first | exact Or.inl rfl | exact Or.inr rfl | exact bZ_or _ | assumption) ?_
              first
              | (exfalso; omega)
              | (refine ⟨_, rfl, rfl, rfl, (((((((hz.t 39 rfl).t 36 rfl).t 37 rfl).t 34 rfl).t 35 rfl).t 33 rfl).t 38 rfl), FrG.rf.i (by omega) |>.i (by omega) |>.i (by omega) |>.i (by omega) |>.i (by omega) |>.i (by omega) |>.i (by omega), Or.inr ⟨rfl, by omega, ?_, ⟨fun i h0 h1 => ?_, fun i h0 h1 => ?_⟩, (u2_n (Or.inl (by omega))).trans ((u2_n (Or.inl (by omega))).trans ((u2_n (Or.inl (by omega))).trans ((u2_n (Or.inl (by omega))).trans ((u2_n (Or.inl (by omega))).trans ((u2_n (Or.inl (by omega))).trans (u2_s)))))), ?_, ?_, ?_, ?_⟩⟩
                 · unfold tyL
                   first
                   | (rw [if_neg (by omega)]; omega)
                   | (rw [if_pos (by omega), if_pos (by omega)]; omega)
                   | (rw [if_pos (by omega), if_neg (by omega)]; omega)
                 · refine (u2_n (Or.inl (by omega))).trans ((u2_n (Or.inl (by omega))).trans ((u2_n (Or.inl (by omega))).trans (?_)))
                   by_cases e : i = (6 * at0 + z.2 3 (o k + 1))
                   · rw [e, zu_s]; exact u2_s
                   · rw [zu_n e]; exact (u2_n (Or.inr e)).trans ((u2_n (Or.inl (by omega))).trans ((u2_n (Or.inl (by omega))).trans ((u2_n (Or.inl (by omega))).trans (hl.1 i h0 h1))))
                 · refine (u2_n (Or.inl (by omega))).trans ((u2_n (Or.inl (by omega))).trans (?_))
                   by_cases e : i = (6 * at0 + z.2 3 (o k + 1))
                   · rw [e]; refine u2_s.trans ?_
                     first | (rw [if_pos (by omega)]; exact zu_s.symm) | (rw [if_neg (by omega)])
                   · refine (u2_n (Or.inr e)).trans (((u2_n (Or.inl (by omega))).trans ((u2_n (Or.inl (by omega))).trans ((u2_n (Or.inl (by omega))).trans ((u2_n (Or.inl (by omega))).trans (hl.2 i h0 h1))))).trans ?_)
                     first | (rw [if_pos (by omega)]; exact (zu_n e).symm) | (rw [if_neg (by omega)])
                 · refine ((u2_n (Or.inl (by omega))).trans ((u2_n (Or.inl (by omega))).trans ((u2_n (Or.inl (by omega))).trans ((u2_n (Or.inl (by omega))).trans ((u2_n (Or.inl (by omega))).trans (u2_s)))))).trans ?_
                   first | exact (bZ_t (by omega)).symm | exact (bZ_f (by omega)).symm
                 · refine ((u2_n (Or.inl (by omega))).trans ((u2_n (Or.inl (by omega))).trans ((u2_n (Or.inl (by omega))).trans ((u2_n (Or.inl (by omega))).trans (u2_s))))).trans ?_
                   first | exact (bZ_t (by omega)).symm | exact (bZ_f (by omega)).symm
                 · refine ((u2_n (Or.inl (by omega))).trans (u2_s)).trans ?_
                   first
                   | (rw [if_pos (show laL (z.2 3) o n1 k by omega)])
                   | (rw [if_neg (show ¬ laL (z.2 3) o n1 k by omega), if_pos (by omega)]; exact zu_s.symm)
                   | (rw [if_neg (show ¬ laL (z.2 3) o n1 k by omega), if_neg (by omega)])
                 · refine u2_s.trans ?_
                   first | (rw [if_pos (by omega)]) | (rw [if_neg (by omega)]))
          · refine TGo.ic1 dX10_goesOn_181 ?_
            refine TGo.goto 186 dX10_goesOn_182 (by decide) ?_
            refine TGo.zast dX10_goesOn_186 (hT 36 (by decide)) (by omega) rfl (by first | exact Or.inl rfl | exact Or.inr rfl | exact bZ_or _ | assumption) ?_
            refine TGo.al0 dX10_goesOn_187 rfl ?_
            refine TGo.getS (t := 18) 66 66 (T + 37) (hT 0 (by decide)) rfl fgX10_148_10 dX10_goesOn_188 rfl rfl rfl ?_
            refine TGo.il1 dX10_goesOn_191 rfl ?_
            refine TGo.il dX10_goesOn_192 rfl ?_
            refine TGo.zast dX10_goesOn_194 (hT 37 (by decide)) (by omega) rfl (by first | exact Or.inl rfl | exact Or.inr rfl | exact bZ_or _ | assumption) ?_
            refine TGo.al0 dX10_goesOn_195 rfl ?_
            refine TGo.getS (t := 18) 63 63 (T + 34) (hT 0 (by decide)) rfl fgX10_139_10 dX10_goesOn_196 rfl rfl rfl ?_
            refine TGo.il3 dX10_goesOn_199 rfl ?_
            refine TGo.il dX10_goesOn_200 rfl ?_
            refine TGo.iast dX10_goesOn_202 (hT 34 (by decide)) (by omega) rfl ?_
            refine TGo.al0 dX10_goesOn_203 rfl ?_
            refine TGo.getS (t := 18) 64 64 (T + 35) (hT 0 (by decide)) rfl fgX10_142_10 dX10_goesOn_204 rfl rfl rfl ?_
            refine TGo.il3 dX10_goesOn_207 rfl ?_
            refine TGo.il dX10_goesOn_208 rfl ?_
            refine TGo.if_eq 222 dX10_goesOn_210 (by decide) (by decide) (fun _ => ?_) (fun h => absurd h (by decide))
            refine TGo.al0 dX10_goesOn_222 rfl ?_
            refine TGo.getS (t := 18) 64 64 (T + 35) (hT 0 (by decide)) rfl fgX10_142_10 dX10_goesOn_223 rfl rfl rfl ?_
            refine TGo.il3 dX10_goesOn_226 rfl ?_
            refine TGo.iald dX10_goesOn_227 (hT 35 (by decide)) (by omega) rfl ?_
            refine TGo.toz _ ((u2_n (Or.inl (by omega))).trans ((u2_n (Or.inl (by omega))).trans ((u2_n (Or.inl (by omega))).trans (u2_n (Or.inl (by omega)))))) ?_
            first | refine TGo.toz (Nx (6 * at0 + z.2 3 (o k + 1))) (hl.2 _ (by omega) (by omega)) ?_ | skip
            refine TGo.iast dX10_goesOn_228 (hT 35 (by decide)) (by omega) rfl ?_
            refine TGo.al0 dX10_goesOn_229 rfl ?_
            refine TGo.getS (t := 18) 62 62 (T + 33) (hT 0 (by decide)) rfl fgX10_136_10 dX10_goesOn_230 rfl rfl rfl ?_
            refine TGo.il1 dX10_goesOn_233 rfl ?_
            refine TGo.ic1 dX10_goesOn_234 ?_
            refine TGo.iadd dX10_goesOn_235 ?_
            refine TGo.al0 dX10_goesOn_236 rfl ?_
            refine TGo.il1 dX10_goesOn_237 rfl ?_
            refine TGo.cF (csV1 (y2 := mX10_isLast) (t := 18) 1 rfl (hT 0 (by decide)) rfl rfl dX10_goesOn_238 q2544 q2546 qs107 okX10_isLast npX10_isLast rfl rfl) (kX10_isLast hT (((((hz.t 39 rfl).t 36 rfl).t 37 rfl).t 34 rfl).t 35 rfl) hn1 hn12 hof (fun i h0 h1 => by first | exact hov i h0 h1 | exact (u2_n (Or.inl (by omega))).trans (hov i h0 h1) | exact (u2_n (Or.inl (by omega))).trans ((u2_n (Or.inl (by omega))).trans ((u2_n (Or.inl (by omega))).trans ((u2_n (Or.inl (by omega))).trans ((u2_n (Or.inl (by omega))).trans (hov i h0 h1)))))) hk) ?_
            refine TGo.ifb_eq 248 dX10_goesOn_241 (by decide) (fun h241 => ?_) (fun h241 => ?_)
            · refine TGo.al0 dX10_goesOn_248 rfl ?_
              refine TGo.getS (t := 18) 64 64 (T + 35) (hT 0 (by decide)) rfl fgX10_142_10 dX10_goesOn_249 rfl rfl rfl ?_
              refine TGo.il3 dX10_goesOn_252 rfl ?_
              refine TGo.iald dX10_goesOn_253 (hT 35 (by decide)) (by omega) rfl ?_
              first | refine TGo.toz t u2_s ?_ | refine TGo.toz (Nx (6 * at0 + z.2 3 (o k + 1))) u2_s ?_ | skip
              refine TGo.iast dX10_goesOn_254 (hT 33 (by decide)) (by omega) rfl ?_
              refine TGo.al0 dX10_goesOn_255 rfl ?_
              refine TGo.getS (t := 18) 67 67 (T + 38) (hT 0 (by decide)) rfl fgX10_151_10 dX10_goesOn_256 rfl rfl rfl ?_
              refine TGo.il1 dX10_goesOn_259 rfl ?_
              refine TGo.ic1 dX10_goesOn_260 ?_
              refine TGo.iadd dX10_goesOn_261 ?_
              refine TGo.il dX10_goesOn_262 rfl ?_
              refine TGo.if_eq 293 dX10_goesOn_264 (by decide) (by decide) (fun _ => ?_) (fun h => absurd h (by decide))
              refine TGo.al0 dX10_goesOn_293 rfl ?_
              refine TGo.getS (t := 18) 67 67 (T + 38) (hT 0 (by decide)) rfl fgX10_151_10 dX10_goesOn_294 rfl rfl rfl ?_
              refine TGo.il1 dX10_goesOn_297 rfl ?_
              refine TGo.iald dX10_goesOn_298 (hT 38 (by decide)) (by omega) rfl ?_
              refine TGo.toz _ ((u2_n (Or.inl (by omega))).trans ((u2_n (Or.inl (by omega))).trans ((u2_n (Or.inl (by omega))).trans ((u2_n (Or.inl (by omega))).trans ((u2_n (Or.inl (by omega))).trans (u2_n (Or.inl (by omega)))))))) ?_
              first | refine TGo.toz met hsh ?_ | skip
              refine TGo.iast dX10_goesOn_299 (hT 38 (by decide)) (by omega) rfl ?_
              refine TGo.ic1 dX10_goesOn_300 ?_
              refine TGo.zret dX10_goesOn_301 rfl (by first | exact Or.inl rfl | exact Or.inr rfl | exact bZ_or _ | assumption) ?_
              first
              | (exfalso; omega)
              | (refine ⟨_, rfl, rfl, rfl, (((((((hz.t 39 rfl).t 36 rfl).t 37 rfl).t 34 rfl).t 35 rfl).t 33 rfl).t 38 rfl), FrG.rf.i (by omega) |>.i (by omega) |>.i (by omega) |>.i (by omega) |>.i (by omega) |>.i (by omega) |>.i (by omega), Or.inr ⟨rfl, by omega, ?_, ⟨fun i h0 h1 => ?_, fun i h0 h1 => ?_⟩, (u2_n (Or.inl (by omega))).trans ((u2_n (Or.inl (by omega))).trans ((u2_n (Or.inl (by omega))).trans ((u2_n (Or.inl (by omega))).trans ((u2_n (Or.inl (by omega))).trans ((u2_n (Or.inl (by omega))).trans (u2_s)))))), ?_, ?_, ?_, ?_⟩⟩
                 · unfold tyL
                   first
                   | (rw [if_neg (by omega)]; omega)
                   | (rw [if_pos (by omega), if_pos (by omega)]; omega)
                   | (rw [if_pos (by omega), if_neg (by omega)]; omega)
                 · refine (u2_n (Or.inl (by omega))).trans ((u2_n (Or.inl (by omega))).trans ((u2_n (Or.inl (by omega))).trans (?_)))
                   by_cases e : i = (6 * at0 + z.2 3 (o k + 1))
                   · rw [e, zu_s]; exact u2_s
                   · rw [zu_n e]; exact (u2_n (Or.inr e)).trans ((u2_n (Or.inl (by omega))).trans ((u2_n (Or.inl (by omega))).trans ((u2_n (Or.inl (by omega))).trans (hl.1 i h0 h1))))
                 · refine (u2_n (Or.inl (by omega))).trans ((u2_n (Or.inl (by omega))).trans (?_))
                   by_cases e : i = (6 * at0 + z.2 3 (o k + 1))
                   · rw [e]; refine u2_s.trans ?_
                     first | (rw [if_pos (by omega)]; exact zu_s.symm) | (rw [if_neg (by omega)])
                   · refine (u2_n (Or.inr e)).trans (((u2_n (Or.inl (by omega))).trans ((u2_n (Or.inl (by omega))).trans ((u2_n (Or.inl (by omega))).trans ((u2_n (Or.inl (by omega))).trans (hl.2 i h0 h1))))).trans ?_)
                     first | (rw [if_pos (by omega)]; exact (zu_n e).symm) | (rw [if_neg (by omega)])
                 · refine ((u2_n (Or.inl (by omega))).trans ((u2_n (Or.inl (by omega))).trans ((u2_n (Or.inl (by omega))).trans ((u2_n (Or.inl (by omega))).trans ((u2_n (Or.inl (by omega))).trans (u2_s)))))).trans ?_
                   first | exact (bZ_t (by omega)).symm | exact (bZ_f (by omega)).symm
                 · refine ((u2_n (Or.inl (by omega))).trans ((u2_n (Or.inl (by omega))).trans ((u2_n (Or.inl (by omega))).trans ((u2_n (Or.inl (by omega))).trans (u2_s))))).trans ?_
                   first | exact (bZ_t (by omega)).symm | exact (bZ_f (by omega)).symm
                 · refine ((u2_n (Or.inl (by omega))).trans (u2_s)).trans ?_
                   first
                   | (rw [if_pos (show laL (z.2 3) o n1 k by omega)])
                   | (rw [if_neg (show ¬ laL (z.2 3) o n1 k by omega), if_pos (by omega)]; exact zu_s.symm)
                   | (rw [if_neg (show ¬ laL (z.2 3) o n1 k by omega), if_neg (by omega)])
                 · refine u2_s.trans ?_
                   first | (rw [if_pos (by omega)]) | (rw [if_neg (by omega)]))
            · refine TGo.ic0 dX10_goesOn_244 ?_
              refine TGo.goto 254 dX10_goesOn_245 (by decide) ?_
              first | refine TGo.toz t u2_s ?_ | refine TGo.toz (Nx (6 * at0 + z.2 3 (o k + 1))) u2_s ?_ | skip
              refine TGo.iast dX10_goesOn_254 (hT 33 (by decide)) (by omega) rfl ?_
              refine TGo.al0 dX10_goesOn_255 rfl ?_
              refine TGo.getS (t := 18) 67 67 (T + 38) (hT 0 (by decide)) rfl fgX10_151_10 dX10_goesOn_256 rfl rfl rfl ?_
              refine TGo.il1 dX10_goesOn_259 rfl ?_
              refine TGo.ic1 dX10_goesOn_260 ?_
              refine TGo.iadd dX10_goesOn_261 ?_
              refine TGo.il dX10_goesOn_262 rfl ?_
              refine TGo.if_eq 293 dX10_goesOn_264 (by decide) (by decide) (fun _ => ?_) (fun h => absurd h (by decide))
              refine TGo.al0 dX10_goesOn_293 rfl ?_
              refine TGo.getS (t := 18) 67 67 (T + 38) (hT 0 (by decide)) rfl fgX10_151_10 dX10_goesOn_294 rfl rfl rfl ?_
              refine TGo.il1 dX10_goesOn_297 rfl ?_
              refine TGo.iald dX10_goesOn_298 (hT 38 (by decide)) (by omega) rfl ?_
              refine TGo.toz _ ((u2_n (Or.inl (by omega))).trans ((u2_n (Or.inl (by omega))).trans ((u2_n (Or.inl (by omega))).trans ((u2_n (Or.inl (by omega))).trans ((u2_n (Or.inl (by omega))).trans (u2_n (Or.inl (by omega)))))))) ?_
              first | refine TGo.toz met hsh ?_ | skip
              refine TGo.iast dX10_goesOn_299 (hT 38 (by decide)) (by omega) rfl ?_
              refine TGo.ic1 dX10_goesOn_300 ?_
              refine TGo.zret dX10_goesOn_301 rfl (by first | exact Or.inl rfl | exact Or.inr rfl | exact bZ_or _ | assumption) ?_
              first
              | (exfalso; omega)
              | (refine ⟨_, rfl, rfl, rfl, (((((((hz.t 39 rfl).t 36 rfl).t 37 rfl).t 34 rfl).t 35 rfl).t 33 rfl).t 38 rfl), FrG.rf.i (by omega) |>.i (by omega) |>.i (by omega) |>.i (by omega) |>.i (by omega) |>.i (by omega) |>.i (by omega), Or.inr ⟨rfl, by omega, ?_, ⟨fun i h0 h1 => ?_, fun i h0 h1 => ?_⟩, (u2_n (Or.inl (by omega))).trans ((u2_n (Or.inl (by omega))).trans ((u2_n (Or.inl (by omega))).trans ((u2_n (Or.inl (by omega))).trans ((u2_n (Or.inl (by omega))).trans ((u2_n (Or.inl (by omega))).trans (u2_s)))))), ?_, ?_, ?_, ?_⟩⟩
                 · unfold tyL
                   first
                   | (rw [if_neg (by omega)]; omega)
                   | (rw [if_pos (by omega), if_pos (by omega)]; omega)
                   | (rw [if_pos (by omega), if_neg (by omega)]; omega)
                 · refine (u2_n (Or.inl (by omega))).trans ((u2_n (Or.inl (by omega))).trans ((u2_n (Or.inl (by omega))).trans (?_)))
                   by_cases e : i = (6 * at0 + z.2 3 (o k + 1))
                   · rw [e, zu_s]; exact u2_s
                   · rw [zu_n e]; exact (u2_n (Or.inr e)).trans ((u2_n (Or.inl (by omega))).trans ((u2_n (Or.inl (by omega))).trans ((u2_n (Or.inl (by omega))).trans (hl.1 i h0 h1))))
                 · refine (u2_n (Or.inl (by omega))).trans ((u2_n (Or.inl (by omega))).trans (?_))
                   by_cases e : i = (6 * at0 + z.2 3 (o k + 1))
                   · rw [e]; refine u2_s.trans ?_
                     first | (rw [if_pos (by omega)]; exact zu_s.symm) | (rw [if_neg (by omega)])
                   · refine (u2_n (Or.inr e)).trans (((u2_n (Or.inl (by omega))).trans ((u2_n (Or.inl (by omega))).trans ((u2_n (Or.inl (by omega))).trans ((u2_n (Or.inl (by omega))).trans (hl.2 i h0 h1))))).trans ?_)
                     first | (rw [if_pos (by omega)]; exact (zu_n e).symm) | (rw [if_neg (by omega)])
                 · refine ((u2_n (Or.inl (by omega))).trans ((u2_n (Or.inl (by omega))).trans ((u2_n (Or.inl (by omega))).trans ((u2_n (Or.inl (by omega))).trans ((u2_n (Or.inl (by omega))).trans (u2_s)))))).trans ?_
                   first | exact (bZ_t (by omega)).symm | exact (bZ_f (by omega)).symm
                 · refine ((u2_n (Or.inl (by omega))).trans ((u2_n (Or.inl (by omega))).trans ((u2_n (Or.inl (by omega))).trans ((u2_n (Or.inl (by omega))).trans (u2_s))))).trans ?_
                   first | exact (bZ_t (by omega)).symm | exact (bZ_f (by omega)).symm
                 · refine ((u2_n (Or.inl (by omega))).trans (u2_s)).trans ?_
                   first
                   | (rw [if_pos (show laL (z.2 3) o n1 k by omega)])
                   | (rw [if_neg (show ¬ laL (z.2 3) o n1 k by omega), if_pos (by omega)]; exact zu_s.symm)
                   | (rw [if_neg (show ¬ laL (z.2 3) o n1 k by omega), if_neg (by omega)])
                 · refine u2_s.trans ?_
                   first | (rw [if_pos (by omega)]) | (rw [if_neg (by omega)]))
        · refine TGo.al0 dX10_goesOn_155 rfl ?_
          refine TGo.getS (t := 18) 68 68 (T + 39) (hT 0 (by decide)) rfl fgX10_154_10 dX10_goesOn_156 rfl rfl rfl ?_
          refine TGo.il1 dX10_goesOn_159 rfl ?_
          refine TGo.ldcw 1000000 dX10_goesOn_160 q2499 (by decide) ?_
          refine TGo.iast dX10_goesOn_163 (hT 39 (by decide)) (by omega) rfl ?_
          refine TGo.ic0 dX10_goesOn_164 ?_
          refine TGo.zret dX10_goesOn_165 rfl (by first | exact Or.inl rfl | exact Or.inr rfl | exact bZ_or _ | assumption) ?_
          first
          | (exfalso; omega)
          | (refine ⟨_, rfl, rfl, rfl, ((hz.t 39 rfl).t 39 rfl), FrG.rf.i (by omega) |>.i (by omega), Or.inl ⟨rfl, ?_, ⟨fun i h0 h1 => (u2_n (Or.inl (by omega))).trans ((u2_n (Or.inl (by omega))).trans (hl.1 i h0 h1)), fun i h0 h1 => (u2_n (Or.inl (by omega))).trans ((u2_n (Or.inl (by omega))).trans (hl.2 i h0 h1))⟩, (u2_n (Or.inl (by omega))).trans ((u2_n (Or.inl (by omega))).trans (ha)), (u2_n (Or.inl (by omega))).trans ((u2_n (Or.inl (by omega))).trans (hb))⟩⟩
             first
             | exact Or.inl (by omega)
             | (refine Or.inr ?_
                unfold tyL
                first
                | (rw [if_neg (by omega)]; omega)
                | (rw [if_pos (by omega), if_pos (by omega)]; omega)
                | (rw [if_pos (by omega), if_neg (by omega)]; omega)))
      · refine TGo.al0 dX10_goesOn_91 rfl ?_
        refine TGo.il1 dX10_goesOn_92 rfl ?_
        refine TGo.cF (csV1 (y2 := mX10_isLast) (t := 18) 1 rfl (hT 0 (by decide)) rfl rfl dX10_goesOn_93 q2544 q2546 qs107 okX10_isLast npX10_isLast rfl rfl) (kX10_isLast hT (hz.t 39 rfl) hn1 hn12 hof (fun i h0 h1 => by first | exact hov i h0 h1 | exact (u2_n (Or.inl (by omega))).trans (hov i h0 h1) | exact (u2_n (Or.inl (by omega))).trans ((u2_n (Or.inl (by omega))).trans ((u2_n (Or.inl (by omega))).trans ((u2_n (Or.inl (by omega))).trans ((u2_n (Or.inl (by omega))).trans (hov i h0 h1)))))) hk) ?_
        refine TGo.ifb_ne 103 dX10_goesOn_96 (by decide) (fun h96 => ?_) (fun h96 => ?_)
        · refine TGo.ic0 dX10_goesOn_103 ?_
          refine TGo.is dX10_goesOn_104 rfl rfl ?_
          refine TGo.il dX10_goesOn_106 rfl ?_
          refine TGo.if_eq 141 dX10_goesOn_108 (by decide) (by decide) (fun _ => ?_) (fun h => absurd h (by decide))
          refine TGo.ic1 dX10_goesOn_141 ?_
          refine TGo.is dX10_goesOn_142 rfl rfl ?_
          refine TGo.al0 dX10_goesOn_144 rfl ?_
          refine TGo.getS (t := 18) 68 68 (T + 39) (hT 0 (by decide)) rfl fgX10_154_10 dX10_goesOn_145 rfl rfl rfl ?_
          refine TGo.il1 dX10_goesOn_148 rfl ?_
          refine TGo.iald dX10_goesOn_149 (hT 39 (by decide)) (by omega) rfl ?_
          refine TGo.toz t (u2_s) ?_
          refine TGo.il dX10_goesOn_150 rfl ?_
          refine TGo.icmp_lt 166 dX10_goesOn_152 (by decide) (by omega) (fun h152 => ?_) (fun h152 => ?_)
          · refine TGo.al0 dX10_goesOn_166 rfl ?_
            refine TGo.getS (t := 18) 65 65 (T + 36) (hT 0 (by decide)) rfl fgX10_145_10 dX10_goesOn_167 rfl rfl rfl ?_
            refine TGo.il1 dX10_goesOn_170 rfl ?_
            refine TGo.al0 dX10_goesOn_171 rfl ?_
            refine TGo.getS (t := 18) 63 63 (T + 34) (hT 0 (by decide)) rfl fgX10_139_10 dX10_goesOn_172 rfl rfl rfl ?_
            refine TGo.il3 dX10_goesOn_175 rfl ?_
            refine TGo.iald dX10_goesOn_176 (hT 34 (by decide)) (by omega) rfl ?_
            refine TGo.toz _ (u2_n (Or.inl (by omega))) ?_
            refine TGo.toz (Wd (6 * at0 + z.2 3 (o k + 1))) (hl.1 _ (by omega) (by omega)) ?_
            refine TGo.icm1 dX10_goesOn_177 ?_
            refine TGo.icmp_ne 185 dX10_goesOn_178 (by decide) (by omega) (fun h178 => ?_) (fun h178 => ?_)
            · refine TGo.ic0 dX10_goesOn_185 ?_
              refine TGo.zast dX10_goesOn_186 (hT 36 (by decide)) (by omega) rfl (by first | exact Or.inl rfl | exact Or.inr rfl | exact bZ_or _ | assumption) ?_
              refine TGo.al0 dX10_goesOn_187 rfl ?_
              refine TGo.getS (t := 18) 66 66 (T + 37) (hT 0 (by decide)) rfl fgX10_148_10 dX10_goesOn_188 rfl rfl rfl ?_
              refine TGo.il1 dX10_goesOn_191 rfl ?_
              refine TGo.il dX10_goesOn_192 rfl ?_
              refine TGo.zast dX10_goesOn_194 (hT 37 (by decide)) (by omega) rfl (by first | exact Or.inl rfl | exact Or.inr rfl | exact bZ_or _ | assumption) ?_
              refine TGo.al0 dX10_goesOn_195 rfl ?_
              refine TGo.getS (t := 18) 63 63 (T + 34) (hT 0 (by decide)) rfl fgX10_139_10 dX10_goesOn_196 rfl rfl rfl ?_
              refine TGo.il3 dX10_goesOn_199 rfl ?_
              refine TGo.il dX10_goesOn_200 rfl ?_
              refine TGo.iast dX10_goesOn_202 (hT 34 (by decide)) (by omega) rfl ?_
              refine TGo.al0 dX10_goesOn_203 rfl ?_
              refine TGo.getS (t := 18) 64 64 (T + 35) (hT 0 (by decide)) rfl fgX10_142_10 dX10_goesOn_204 rfl rfl rfl ?_
              refine TGo.il3 dX10_goesOn_207 rfl ?_
              refine TGo.il dX10_goesOn_208 rfl ?_
              refine TGo.if_eq 222 dX10_goesOn_210 (by decide) (by decide) (fun _ => ?_) (fun h => absurd h (by decide))
              refine TGo.al0 dX10_goesOn_222 rfl ?_
              refine TGo.getS (t := 18) 64 64 (T + 35) (hT 0 (by decide)) rfl fgX10_142_10 dX10_goesOn_223 rfl rfl rfl ?_
              refine TGo.il3 dX10_goesOn_226 rfl ?_
              refine TGo.iald dX10_goesOn_227 (hT 35 (by decide)) (by omega) rfl ?_
              refine TGo.toz _ ((u2_n (Or.inl (by omega))).trans ((u2_n (Or.inl (by omega))).trans ((u2_n (Or.inl (by omega))).trans (u2_n (Or.inl (by omega)))))) ?_
              first | refine TGo.toz (Nx (6 * at0 + z.2 3 (o k + 1))) (hl.2 _ (by omega) (by omega)) ?_ | skip
              refine TGo.iast dX10_goesOn_228 (hT 35 (by decide)) (by omega) rfl ?_
              refine TGo.al0 dX10_goesOn_229 rfl ?_
              refine TGo.getS (t := 18) 62 62 (T + 33) (hT 0 (by decide)) rfl fgX10_136_10 dX10_goesOn_230 rfl rfl rfl ?_
              refine TGo.il1 dX10_goesOn_233 rfl ?_
              refine TGo.ic1 dX10_goesOn_234 ?_
              refine TGo.iadd dX10_goesOn_235 ?_
              refine TGo.al0 dX10_goesOn_236 rfl ?_
              refine TGo.il1 dX10_goesOn_237 rfl ?_
              refine TGo.cF (csV1 (y2 := mX10_isLast) (t := 18) 1 rfl (hT 0 (by decide)) rfl rfl dX10_goesOn_238 q2544 q2546 qs107 okX10_isLast npX10_isLast rfl rfl) (kX10_isLast hT (((((hz.t 39 rfl).t 36 rfl).t 37 rfl).t 34 rfl).t 35 rfl) hn1 hn12 hof (fun i h0 h1 => by first | exact hov i h0 h1 | exact (u2_n (Or.inl (by omega))).trans (hov i h0 h1) | exact (u2_n (Or.inl (by omega))).trans ((u2_n (Or.inl (by omega))).trans ((u2_n (Or.inl (by omega))).trans ((u2_n (Or.inl (by omega))).trans ((u2_n (Or.inl (by omega))).trans (hov i h0 h1)))))) hk) ?_
              refine TGo.ifb_eq 248 dX10_goesOn_241 (by decide) (fun h241 => ?_) (fun h241 => ?_)
              · refine TGo.al0 dX10_goesOn_248 rfl ?_
                refine TGo.getS (t := 18) 64 64 (T + 35) (hT 0 (by decide)) rfl fgX10_142_10 dX10_goesOn_249 rfl rfl rfl ?_
                refine TGo.il3 dX10_goesOn_252 rfl ?_
                refine TGo.iald dX10_goesOn_253 (hT 35 (by decide)) (by omega) rfl ?_
                first | refine TGo.toz t u2_s ?_ | refine TGo.toz (Nx (6 * at0 + z.2 3 (o k + 1))) u2_s ?_ | skip
                refine TGo.iast dX10_goesOn_254 (hT 33 (by decide)) (by omega) rfl ?_
                refine TGo.al0 dX10_goesOn_255 rfl ?_
                refine TGo.getS (t := 18) 67 67 (T + 38) (hT 0 (by decide)) rfl fgX10_151_10 dX10_goesOn_256 rfl rfl rfl ?_
                refine TGo.il1 dX10_goesOn_259 rfl ?_
                refine TGo.ic1 dX10_goesOn_260 ?_
                refine TGo.iadd dX10_goesOn_261 ?_
                refine TGo.il dX10_goesOn_262 rfl ?_
                refine TGo.if_eq 293 dX10_goesOn_264 (by decide) (by decide) (fun _ => ?_) (fun h => absurd h (by decide))
                refine TGo.al0 dX10_goesOn_293 rfl ?_
                refine TGo.getS (t := 18) 67 67 (T + 38) (hT 0 (by decide)) rfl fgX10_151_10 dX10_goesOn_294 rfl rfl rfl ?_
                refine TGo.il1 dX10_goesOn_297 rfl ?_
                refine TGo.iald dX10_goesOn_298 (hT 38 (by decide)) (by omega) rfl ?_
                refine TGo.toz _ ((u2_n (Or.inl (by omega))).trans ((u2_n (Or.inl (by omega))).trans ((u2_n (Or.inl (by omega))).trans ((u2_n (Or.inl (by omega))).trans ((u2_n (Or.inl (by omega))).trans (u2_n (Or.inl (by omega)))))))) ?_
                first | refine TGo.toz met hsh ?_ | skip
                refine TGo.iast dX10_goesOn_299 (hT 38 (by decide)) (by omega) rfl ?_
                refine TGo.ic1 dX10_goesOn_300 ?_
                refine TGo.zret dX10_goesOn_301 rfl (by first | exact Or.inl rfl | exact Or.inr rfl | exact bZ_or _ | assumption) ?_
                first
                | (exfalso; omega)
                | (refine ⟨_, rfl, rfl, rfl, (((((((hz.t 39 rfl).t 36 rfl).t 37 rfl).t 34 rfl).t 35 rfl).t 33 rfl).t 38 rfl), FrG.rf.i (by omega) |>.i (by omega) |>.i (by omega) |>.i (by omega) |>.i (by omega) |>.i (by omega) |>.i (by omega), Or.inr ⟨rfl, by omega, ?_, ⟨fun i h0 h1 => ?_, fun i h0 h1 => ?_⟩, (u2_n (Or.inl (by omega))).trans ((u2_n (Or.inl (by omega))).trans ((u2_n (Or.inl (by omega))).trans ((u2_n (Or.inl (by omega))).trans ((u2_n (Or.inl (by omega))).trans ((u2_n (Or.inl (by omega))).trans (u2_s)))))), ?_, ?_, ?_, ?_⟩⟩
                   · unfold tyL
                     first
                     | (rw [if_neg (by omega)]; omega)
                     | (rw [if_pos (by omega), if_pos (by omega)]; omega)
                     | (rw [if_pos (by omega), if_neg (by omega)]; omega)
                   · refine (u2_n (Or.inl (by omega))).trans ((u2_n (Or.inl (by omega))).trans ((u2_n (Or.inl (by omega))).trans (?_)))
                     by_cases e : i = (6 * at0 + z.2 3 (o k + 1))
                     · rw [e, zu_s]; exact u2_s
                     · rw [zu_n e]; exact (u2_n (Or.inr e)).trans ((u2_n (Or.inl (by omega))).trans ((u2_n (Or.inl (by omega))).trans ((u2_n (Or.inl (by omega))).trans (hl.1 i h0 h1))))
                   · refine (u2_n (Or.inl (by omega))).trans ((u2_n (Or.inl (by omega))).trans (?_))
                     by_cases e : i = (6 * at0 + z.2 3 (o k + 1))
                     · rw [e]; refine u2_s.trans ?_
                       first | (rw [if_pos (by omega)]; exact zu_s.symm) | (rw [if_neg (by omega)])
                     · refine (u2_n (Or.inr e)).trans (((u2_n (Or.inl (by omega))).trans ((u2_n (Or.inl (by omega))).trans ((u2_n (Or.inl (by omega))).trans ((u2_n (Or.inl (by omega))).trans (hl.2 i h0 h1))))).trans ?_)
                       first | (rw [if_pos (by omega)]; exact (zu_n e).symm) | (rw [if_neg (by omega)])
                   · refine ((u2_n (Or.inl (by omega))).trans ((u2_n (Or.inl (by omega))).trans ((u2_n (Or.inl (by omega))).trans ((u2_n (Or.inl (by omega))).trans ((u2_n (Or.inl (by omega))).trans (u2_s)))))).trans ?_
                     first | exact (bZ_t (by omega)).symm | exact (bZ_f (by omega)).symm
                   · refine ((u2_n (Or.inl (by omega))).trans ((u2_n (Or.inl (by omega))).trans ((u2_n (Or.inl (by omega))).trans ((u2_n (Or.inl (by omega))).trans (u2_s))))).trans ?_
                     first | exact (bZ_t (by omega)).symm | exact (bZ_f (by omega)).symm
                   · refine ((u2_n (Or.inl (by omega))).trans (u2_s)).trans ?_
                     first
                     | (rw [if_pos (show laL (z.2 3) o n1 k by omega)])
                     | (rw [if_neg (show ¬ laL (z.2 3) o n1 k by omega), if_pos (by omega)]; exact zu_s.symm)
                     | (rw [if_neg (show ¬ laL (z.2 3) o n1 k by omega), if_neg (by omega)])
                   · refine u2_s.trans ?_
                     first | (rw [if_pos (by omega)]) | (rw [if_neg (by omega)]))
              · refine TGo.ic0 dX10_goesOn_244 ?_
                refine TGo.goto 254 dX10_goesOn_245 (by decide) ?_
                first | refine TGo.toz t u2_s ?_ | refine TGo.toz (Nx (6 * at0 + z.2 3 (o k + 1))) u2_s ?_ | skip
                refine TGo.iast dX10_goesOn_254 (hT 33 (by decide)) (by omega) rfl ?_
                refine TGo.al0 dX10_goesOn_255 rfl ?_
                refine TGo.getS (t := 18) 67 67 (T + 38) (hT 0 (by decide)) rfl fgX10_151_10 dX10_goesOn_256 rfl rfl rfl ?_
                refine TGo.il1 dX10_goesOn_259 rfl ?_
                refine TGo.ic1 dX10_goesOn_260 ?_
                refine TGo.iadd dX10_goesOn_261 ?_
                refine TGo.il dX10_goesOn_262 rfl ?_
                refine TGo.if_eq 293 dX10_goesOn_264 (by decide) (by decide) (fun _ => ?_) (fun h => absurd h (by decide))
                refine TGo.al0 dX10_goesOn_293 rfl ?_
                refine TGo.getS (t := 18) 67 67 (T + 38) (hT 0 (by decide)) rfl fgX10_151_10 dX10_goesOn_294 rfl rfl rfl ?_
                refine TGo.il1 dX10_goesOn_297 rfl ?_
                refine TGo.iald dX10_goesOn_298 (hT 38 (by decide)) (by omega) rfl ?_
                refine TGo.toz _ ((u2_n (Or.inl (by omega))).trans ((u2_n (Or.inl (by omega))).trans ((u2_n (Or.inl (by omega))).trans ((u2_n (Or.inl (by omega))).trans ((u2_n (Or.inl (by omega))).trans (u2_n (Or.inl (by omega)))))))) ?_
                first | refine TGo.toz met hsh ?_ | skip
                refine TGo.iast dX10_goesOn_299 (hT 38 (by decide)) (by omega) rfl ?_
                refine TGo.ic1 dX10_goesOn_300 ?_
                refine TGo.zret dX10_goesOn_301 rfl (by first | exact Or.inl rfl | exact Or.inr rfl | exact bZ_or _ | assumption) ?_
                first
                | (exfalso; omega)
                | (refine ⟨_, rfl, rfl, rfl, (((((((hz.t 39 rfl).t 36 rfl).t 37 rfl).t 34 rfl).t 35 rfl).t 33 rfl).t 38 rfl), FrG.rf.i (by omega) |>.i (by omega) |>.i (by omega) |>.i (by omega) |>.i (by omega) |>.i (by omega) |>.i (by omega), Or.inr ⟨rfl, by omega, ?_, ⟨fun i h0 h1 => ?_, fun i h0 h1 => ?_⟩, (u2_n (Or.inl (by omega))).trans ((u2_n (Or.inl (by omega))).trans ((u2_n (Or.inl (by omega))).trans ((u2_n (Or.inl (by omega))).trans ((u2_n (Or.inl (by omega))).trans ((u2_n (Or.inl (by omega))).trans (u2_s)))))), ?_, ?_, ?_, ?_⟩⟩
                   · unfold tyL
                     first
                     | (rw [if_neg (by omega)]; omega)
                     | (rw [if_pos (by omega), if_pos (by omega)]; omega)
                     | (rw [if_pos (by omega), if_neg (by omega)]; omega)
                   · refine (u2_n (Or.inl (by omega))).trans ((u2_n (Or.inl (by omega))).trans ((u2_n (Or.inl (by omega))).trans (?_)))
                     by_cases e : i = (6 * at0 + z.2 3 (o k + 1))
                     · rw [e, zu_s]; exact u2_s
                     · rw [zu_n e]; exact (u2_n (Or.inr e)).trans ((u2_n (Or.inl (by omega))).trans ((u2_n (Or.inl (by omega))).trans ((u2_n (Or.inl (by omega))).trans (hl.1 i h0 h1))))
                   · refine (u2_n (Or.inl (by omega))).trans ((u2_n (Or.inl (by omega))).trans (?_))
                     by_cases e : i = (6 * at0 + z.2 3 (o k + 1))
                     · rw [e]; refine u2_s.trans ?_
                       first | (rw [if_pos (by omega)]; exact zu_s.symm) | (rw [if_neg (by omega)])
                     · refine (u2_n (Or.inr e)).trans (((u2_n (Or.inl (by omega))).trans ((u2_n (Or.inl (by omega))).trans ((u2_n (Or.inl (by omega))).trans ((u2_n (Or.inl (by omega))).trans (hl.2 i h0 h1))))).trans ?_)
                       first | (rw [if_pos (by omega)]; exact (zu_n e).symm) | (rw [if_neg (by omega)])
                   · refine ((u2_n (Or.inl (by omega))).trans ((u2_n (Or.inl (by omega))).trans ((u2_n (Or.inl (by omega))).trans ((u2_n (Or.inl (by omega))).trans ((u2_n (Or.inl (by omega))).trans (u2_s)))))).trans ?_
                     first | exact (bZ_t (by omega)).symm | exact (bZ_f (by omega)).symm
                   · refine ((u2_n (Or.inl (by omega))).trans ((u2_n (Or.inl (by omega))).trans ((u2_n (Or.inl (by omega))).trans ((u2_n (Or.inl (by omega))).trans (u2_s))))).trans ?_
                     first | exact (bZ_t (by omega)).symm | exact (bZ_f (by omega)).symm
                   · refine ((u2_n (Or.inl (by omega))).trans (u2_s)).trans ?_
                     first
                     | (rw [if_pos (show laL (z.2 3) o n1 k by omega)])
                     | (rw [if_neg (show ¬ laL (z.2 3) o n1 k by omega), if_pos (by omega)]; exact zu_s.symm)
                     | (rw [if_neg (show ¬ laL (z.2 3) o n1 k by omega), if_neg (by omega)])
                   · refine u2_s.trans ?_
                     first | (rw [if_pos (by omega)]) | (rw [if_neg (by omega)]))
            · refine TGo.ic1 dX10_goesOn_181 ?_
              refine TGo.goto 186 dX10_goesOn_182 (by decide) ?_
              refine TGo.zast dX10_goesOn_186 (hT 36 (by decide)) (by omega) rfl (by first | exact Or.inl rfl | exact Or.inr rfl | exact bZ_or _ | assumption) ?_
              refine TGo.al0 dX10_goesOn_187 rfl ?_
              refine TGo.getS (t := 18) 66 66 (T + 37) (hT 0 (by decide)) rfl fgX10_148_10 dX10_goesOn_188 rfl rfl rfl ?_
              refine TGo.il1 dX10_goesOn_191 rfl ?_
              refine TGo.il dX10_goesOn_192 rfl ?_
              refine TGo.zast dX10_goesOn_194 (hT 37 (by decide)) (by omega) rfl (by first | exact Or.inl rfl | exact Or.inr rfl | exact bZ_or _ | assumption) ?_
              refine TGo.al0 dX10_goesOn_195 rfl ?_
              refine TGo.getS (t := 18) 63 63 (T + 34) (hT 0 (by decide)) rfl fgX10_139_10 dX10_goesOn_196 rfl rfl rfl ?_
              refine TGo.il3 dX10_goesOn_199 rfl ?_
              refine TGo.il dX10_goesOn_200 rfl ?_
              refine TGo.iast dX10_goesOn_202 (hT 34 (by decide)) (by omega) rfl ?_
              refine TGo.al0 dX10_goesOn_203 rfl ?_
              refine TGo.getS (t := 18) 64 64 (T + 35) (hT 0 (by decide)) rfl fgX10_142_10 dX10_goesOn_204 rfl rfl rfl ?_
              refine TGo.il3 dX10_goesOn_207 rfl ?_
              refine TGo.il dX10_goesOn_208 rfl ?_
              refine TGo.if_eq 222 dX10_goesOn_210 (by decide) (by decide) (fun _ => ?_) (fun h => absurd h (by decide))
              refine TGo.al0 dX10_goesOn_222 rfl ?_
              refine TGo.getS (t := 18) 64 64 (T + 35) (hT 0 (by decide)) rfl fgX10_142_10 dX10_goesOn_223 rfl rfl rfl ?_
              refine TGo.il3 dX10_goesOn_226 rfl ?_
              refine TGo.iald dX10_goesOn_227 (hT 35 (by decide)) (by omega) rfl ?_
              refine TGo.toz _ ((u2_n (Or.inl (by omega))).trans ((u2_n (Or.inl (by omega))).trans ((u2_n (Or.inl (by omega))).trans (u2_n (Or.inl (by omega)))))) ?_
              first | refine TGo.toz (Nx (6 * at0 + z.2 3 (o k + 1))) (hl.2 _ (by omega) (by omega)) ?_ | skip
              refine TGo.iast dX10_goesOn_228 (hT 35 (by decide)) (by omega) rfl ?_
              refine TGo.al0 dX10_goesOn_229 rfl ?_
              refine TGo.getS (t := 18) 62 62 (T + 33) (hT 0 (by decide)) rfl fgX10_136_10 dX10_goesOn_230 rfl rfl rfl ?_
              refine TGo.il1 dX10_goesOn_233 rfl ?_
              refine TGo.ic1 dX10_goesOn_234 ?_
              refine TGo.iadd dX10_goesOn_235 ?_
              refine TGo.al0 dX10_goesOn_236 rfl ?_
              refine TGo.il1 dX10_goesOn_237 rfl ?_
              refine TGo.cF (csV1 (y2 := mX10_isLast) (t := 18) 1 rfl (hT 0 (by decide)) rfl rfl dX10_goesOn_238 q2544 q2546 qs107 okX10_isLast npX10_isLast rfl rfl) (kX10_isLast hT (((((hz.t 39 rfl).t 36 rfl).t 37 rfl).t 34 rfl).t 35 rfl) hn1 hn12 hof (fun i h0 h1 => by first | exact hov i h0 h1 | exact (u2_n (Or.inl (by omega))).trans (hov i h0 h1) | exact (u2_n (Or.inl (by omega))).trans ((u2_n (Or.inl (by omega))).trans ((u2_n (Or.inl (by omega))).trans ((u2_n (Or.inl (by omega))).trans ((u2_n (Or.inl (by omega))).trans (hov i h0 h1)))))) hk) ?_
              refine TGo.ifb_eq 248 dX10_goesOn_241 (by decide) (fun h241 => ?_) (fun h241 => ?_)
              · refine TGo.al0 dX10_goesOn_248 rfl ?_
                refine TGo.getS (t := 18) 64 64 (T + 35) (hT 0 (by decide)) rfl fgX10_142_10 dX10_goesOn_249 rfl rfl rfl ?_
                refine TGo.il3 dX10_goesOn_252 rfl ?_
                refine TGo.iald dX10_goesOn_253 (hT 35 (by decide)) (by omega) rfl ?_
                first | refine TGo.toz t u2_s ?_ | refine TGo.toz (Nx (6 * at0 + z.2 3 (o k + 1))) u2_s ?_ | skip
                refine TGo.iast dX10_goesOn_254 (hT 33 (by decide)) (by omega) rfl ?_
                refine TGo.al0 dX10_goesOn_255 rfl ?_
                refine TGo.getS (t := 18) 67 67 (T + 38) (hT 0 (by decide)) rfl fgX10_151_10 dX10_goesOn_256 rfl rfl rfl ?_
                refine TGo.il1 dX10_goesOn_259 rfl ?_
                refine TGo.ic1 dX10_goesOn_260 ?_
                refine TGo.iadd dX10_goesOn_261 ?_
                refine TGo.il dX10_goesOn_262 rfl ?_
                refine TGo.if_eq 293 dX10_goesOn_264 (by decide) (by decide) (fun _ => ?_) (fun h => absurd h (by decide))
                refine TGo.al0 dX10_goesOn_293 rfl ?_
                refine TGo.getS (t := 18) 67 67 (T + 38) (hT 0 (by decide)) rfl fgX10_151_10 dX10_goesOn_294 rfl rfl rfl ?_
                refine TGo.il1 dX10_goesOn_297 rfl ?_
                refine TGo.iald dX10_goesOn_298 (hT 38 (by decide)) (by omega) rfl ?_
                refine TGo.toz _ ((u2_n (Or.inl (by omega))).trans ((u2_n (Or.inl (by omega))).trans ((u2_n (Or.inl (by omega))).trans ((u2_n (Or.inl (by omega))).trans ((u2_n (Or.inl (by omega))).trans (u2_n (Or.inl (by omega)))))))) ?_
                first | refine TGo.toz met hsh ?_ | skip
                refine TGo.iast dX10_goesOn_299 (hT 38 (by decide)) (by omega) rfl ?_
                refine TGo.ic1 dX10_goesOn_300 ?_
                refine TGo.zret dX10_goesOn_301 rfl (by first | exact Or.inl rfl | exact Or.inr rfl | exact bZ_or _ | assumption) ?_
                first
                | (exfalso; omega)
                | (refine ⟨_, rfl, rfl, rfl, (((((((hz.t 39 rfl).t 36 rfl).t 37 rfl).t 34 rfl).t 35 rfl).t 33 rfl).t 38 rfl), FrG.rf.i (by omega) |>.i (by omega) |>.i (by omega) |>.i (by omega) |>.i (by omega) |>.i (by omega) |>.i (by omega), Or.inr ⟨rfl, by omega, ?_, ⟨fun i h0 h1 => ?_, fun i h0 h1 => ?_⟩, (u2_n (Or.inl (by omega))).trans ((u2_n (Or.inl (by omega))).trans ((u2_n (Or.inl (by omega))).trans ((u2_n (Or.inl (by omega))).trans ((u2_n (Or.inl (by omega))).trans ((u2_n (Or.inl (by omega))).trans (u2_s)))))), ?_, ?_, ?_, ?_⟩⟩
                   · unfold tyL
                     first
                     | (rw [if_neg (by omega)]; omega)
                     | (rw [if_pos (by omega), if_pos (by omega)]; omega)
                     | (rw [if_pos (by omega), if_neg (by omega)]; omega)
                   · refine (u2_n (Or.inl (by omega))).trans ((u2_n (Or.inl (by omega))).trans ((u2_n (Or.inl (by omega))).trans (?_)))
                     by_cases e : i = (6 * at0 + z.2 3 (o k + 1))
                     · rw [e, zu_s]; exact u2_s
                     · rw [zu_n e]; exact (u2_n (Or.inr e)).trans ((u2_n (Or.inl (by omega))).trans ((u2_n (Or.inl (by omega))).trans ((u2_n (Or.inl (by omega))).trans (hl.1 i h0 h1))))
                   · refine (u2_n (Or.inl (by omega))).trans ((u2_n (Or.inl (by omega))).trans (?_))
                     by_cases e : i = (6 * at0 + z.2 3 (o k + 1))
                     · rw [e]; refine u2_s.trans ?_
                       first | (rw [if_pos (by omega)]; exact zu_s.symm) | (rw [if_neg (by omega)])
                     · refine (u2_n (Or.inr e)).trans (((u2_n (Or.inl (by omega))).trans ((u2_n (Or.inl (by omega))).trans ((u2_n (Or.inl (by omega))).trans ((u2_n (Or.inl (by omega))).trans (hl.2 i h0 h1))))).trans ?_)
                       first | (rw [if_pos (by omega)]; exact (zu_n e).symm) | (rw [if_neg (by omega)])
                   · refine ((u2_n (Or.inl (by omega))).trans ((u2_n (Or.inl (by omega))).trans ((u2_n (Or.inl (by omega))).trans ((u2_n (Or.inl (by omega))).trans ((u2_n (Or.inl (by omega))).trans (u2_s)))))).trans ?_
                     first | exact (bZ_t (by omega)).symm | exact (bZ_f (by omega)).symm
                   · refine ((u2_n (Or.inl (by omega))).trans ((u2_n (Or.inl (by omega))).trans ((u2_n (Or.inl (by omega))).trans ((u2_n (Or.inl (by omega))).trans (u2_s))))).trans ?_
                     first | exact (bZ_t (by omega)).symm | exact (bZ_f (by omega)).symm
                   · refine ((u2_n (Or.inl (by omega))).trans (u2_s)).trans ?_
                     first
                     | (rw [if_pos (show laL (z.2 3) o n1 k by omega)])
                     | (rw [if_neg (show ¬ laL (z.2 3) o n1 k by omega), if_pos (by omega)]; exact zu_s.symm)
                     | (rw [if_neg (show ¬ laL (z.2 3) o n1 k by omega), if_neg (by omega)])
                   · refine u2_s.trans ?_
                     first | (rw [if_pos (by omega)]) | (rw [if_neg (by omega)]))
              · refine TGo.ic0 dX10_goesOn_244 ?_
                refine TGo.goto 254 dX10_goesOn_245 (by decide) ?_
                first | refine TGo.toz t u2_s ?_ | refine TGo.toz (Nx (6 * at0 + z.2 3 (o k + 1))) u2_s ?_ | skip
                refine TGo.iast dX10_goesOn_254 (hT 33 (by decide)) (by omega) rfl ?_
                refine TGo.al0 dX10_goesOn_255 rfl ?_
                refine TGo.getS (t := 18) 67 67 (T + 38) (hT 0 (by decide)) rfl fgX10_151_10 dX10_goesOn_256 rfl rfl rfl ?_
                refine TGo.il1 dX10_goesOn_259 rfl ?_
                refine TGo.ic1 dX10_goesOn_260 ?_
                refine TGo.iadd dX10_goesOn_261 ?_
                refine TGo.il dX10_goesOn_262 rfl ?_
                refine TGo.if_eq 293 dX10_goesOn_264 (by decide) (by decide) (fun _ => ?_) (fun h => absurd h (by decide))
                refine TGo.al0 dX10_goesOn_293 rfl ?_
                refine TGo.getS (t := 18) 67 67 (T + 38) (hT 0 (by decide)) rfl fgX10_151_10 dX10_goesOn_294 rfl rfl rfl ?_
                refine TGo.il1 dX10_goesOn_297 rfl ?_
                refine TGo.iald dX10_goesOn_298 (hT 38 (by decide)) (by omega) rfl ?_
                refine TGo.toz _ ((u2_n (Or.inl (by omega))).trans ((u2_n (Or.inl (by omega))).trans ((u2_n (Or.inl (by omega))).trans ((u2_n (Or.inl (by omega))).trans ((u2_n (Or.inl (by omega))).trans (u2_n (Or.inl (by omega)))))))) ?_
                first | refine TGo.toz met hsh ?_ | skip
                refine TGo.iast dX10_goesOn_299 (hT 38 (by decide)) (by omega) rfl ?_
                refine TGo.ic1 dX10_goesOn_300 ?_
                refine TGo.zret dX10_goesOn_301 rfl (by first | exact Or.inl rfl | exact Or.inr rfl | exact bZ_or _ | assumption) ?_
                first
                | (exfalso; omega)
                | (refine ⟨_, rfl, rfl, rfl, (((((((hz.t 39 rfl).t 36 rfl).t 37 rfl).t 34 rfl).t 35 rfl).t 33 rfl).t 38 rfl), FrG.rf.i (by omega) |>.i (by omega) |>.i (by omega) |>.i (by omega) |>.i (by omega) |>.i (by omega) |>.i (by omega), Or.inr ⟨rfl, by omega, ?_, ⟨fun i h0 h1 => ?_, fun i h0 h1 => ?_⟩, (u2_n (Or.inl (by omega))).trans ((u2_n (Or.inl (by omega))).trans ((u2_n (Or.inl (by omega))).trans ((u2_n (Or.inl (by omega))).trans ((u2_n (Or.inl (by omega))).trans ((u2_n (Or.inl (by omega))).trans (u2_s)))))), ?_, ?_, ?_, ?_⟩⟩
                   · unfold tyL
                     first
                     | (rw [if_neg (by omega)]; omega)
                     | (rw [if_pos (by omega), if_pos (by omega)]; omega)
                     | (rw [if_pos (by omega), if_neg (by omega)]; omega)
                   · refine (u2_n (Or.inl (by omega))).trans ((u2_n (Or.inl (by omega))).trans ((u2_n (Or.inl (by omega))).trans (?_)))
                     by_cases e : i = (6 * at0 + z.2 3 (o k + 1))
                     · rw [e, zu_s]; exact u2_s
                     · rw [zu_n e]; exact (u2_n (Or.inr e)).trans ((u2_n (Or.inl (by omega))).trans ((u2_n (Or.inl (by omega))).trans ((u2_n (Or.inl (by omega))).trans (hl.1 i h0 h1))))
                   · refine (u2_n (Or.inl (by omega))).trans ((u2_n (Or.inl (by omega))).trans (?_))
                     by_cases e : i = (6 * at0 + z.2 3 (o k + 1))
                     · rw [e]; refine u2_s.trans ?_
                       first | (rw [if_pos (by omega)]; exact zu_s.symm) | (rw [if_neg (by omega)])
                     · refine (u2_n (Or.inr e)).trans (((u2_n (Or.inl (by omega))).trans ((u2_n (Or.inl (by omega))).trans ((u2_n (Or.inl (by omega))).trans ((u2_n (Or.inl (by omega))).trans (hl.2 i h0 h1))))).trans ?_)
                       first | (rw [if_pos (by omega)]; exact (zu_n e).symm) | (rw [if_neg (by omega)])
                   · refine ((u2_n (Or.inl (by omega))).trans ((u2_n (Or.inl (by omega))).trans ((u2_n (Or.inl (by omega))).trans ((u2_n (Or.inl (by omega))).trans ((u2_n (Or.inl (by omega))).trans (u2_s)))))).trans ?_
                     first | exact (bZ_t (by omega)).symm | exact (bZ_f (by omega)).symm
                   · refine ((u2_n (Or.inl (by omega))).trans ((u2_n (Or.inl (by omega))).trans ((u2_n (Or.inl (by omega))).trans ((u2_n (Or.inl (by omega))).trans (u2_s))))).trans ?_
                     first | exact (bZ_t (by omega)).symm | exact (bZ_f (by omega)).symm
                   · refine ((u2_n (Or.inl (by omega))).trans (u2_s)).trans ?_
                     first
                     | (rw [if_pos (show laL (z.2 3) o n1 k by omega)])
                     | (rw [if_neg (show ¬ laL (z.2 3) o n1 k by omega), if_pos (by omega)]; exact zu_s.symm)
                     | (rw [if_neg (show ¬ laL (z.2 3) o n1 k by omega), if_neg (by omega)])
                   · refine u2_s.trans ?_
                     first | (rw [if_pos (by omega)]) | (rw [if_neg (by omega)]))
          · refine TGo.al0 dX10_goesOn_155 rfl ?_
            refine TGo.getS (t := 18) 68 68 (T + 39) (hT 0 (by decide)) rfl fgX10_154_10 dX10_goesOn_156 rfl rfl rfl ?_
            refine TGo.il1 dX10_goesOn_159 rfl ?_
            refine TGo.ldcw 1000000 dX10_goesOn_160 q2499 (by decide) ?_
            refine TGo.iast dX10_goesOn_163 (hT 39 (by decide)) (by omega) rfl ?_
            refine TGo.ic0 dX10_goesOn_164 ?_
            refine TGo.zret dX10_goesOn_165 rfl (by first | exact Or.inl rfl | exact Or.inr rfl | exact bZ_or _ | assumption) ?_
            first
            | (exfalso; omega)
            | (refine ⟨_, rfl, rfl, rfl, ((hz.t 39 rfl).t 39 rfl), FrG.rf.i (by omega) |>.i (by omega), Or.inl ⟨rfl, ?_, ⟨fun i h0 h1 => (u2_n (Or.inl (by omega))).trans ((u2_n (Or.inl (by omega))).trans (hl.1 i h0 h1)), fun i h0 h1 => (u2_n (Or.inl (by omega))).trans ((u2_n (Or.inl (by omega))).trans (hl.2 i h0 h1))⟩, (u2_n (Or.inl (by omega))).trans ((u2_n (Or.inl (by omega))).trans (ha)), (u2_n (Or.inl (by omega))).trans ((u2_n (Or.inl (by omega))).trans (hb))⟩⟩
               first
               | exact Or.inl (by omega)
               | (refine Or.inr ?_
                  unfold tyL
                  first
                  | (rw [if_neg (by omega)]; omega)
                  | (rw [if_pos (by omega), if_pos (by omega)]; omega)
                  | (rw [if_pos (by omega), if_neg (by omega)]; omega)))
        · refine TGo.ic1 dX10_goesOn_99 ?_
          refine TGo.goto 104 dX10_goesOn_100 (by decide) ?_
          refine TGo.is dX10_goesOn_104 rfl rfl ?_
          refine TGo.il dX10_goesOn_106 rfl ?_
          refine TGo.if_eq 141 dX10_goesOn_108 (by decide) (by decide) (fun h => absurd h (by decide)) (fun _ => ?_)
          refine TGo.al0 dX10_goesOn_111 rfl ?_
          refine TGo.getS (t := 18) 67 67 (T + 38) (hT 0 (by decide)) rfl fgX10_151_10 dX10_goesOn_112 rfl rfl rfl ?_
          refine TGo.il1 dX10_goesOn_115 rfl ?_
          refine TGo.iald dX10_goesOn_116 (hT 38 (by decide)) (by omega) rfl ?_
          refine TGo.toz _ (u2_n (Or.inl (by omega))) ?_
          refine TGo.toz met (hsh) ?_
          refine TGo.il2 dX10_goesOn_117 rfl ?_
          refine TGo.icmp_ge 132 dX10_goesOn_118 (by decide) (by omega) (fun h118 => ?_) (fun h118 => ?_)
          · refine TGo.al0 dX10_goesOn_132 rfl ?_
            refine TGo.getS (t := 18) 67 67 (T + 38) (hT 0 (by decide)) rfl fgX10_151_10 dX10_goesOn_133 rfl rfl rfl ?_
            refine TGo.il1 dX10_goesOn_136 rfl ?_
            refine TGo.iald dX10_goesOn_137 (hT 38 (by decide)) (by omega) rfl ?_
            refine TGo.toz _ (u2_n (Or.inl (by omega))) ?_
            refine TGo.toz met (hsh) ?_
            refine TGo.goto 142 dX10_goesOn_138 (by decide) ?_
            refine TGo.is dX10_goesOn_142 rfl rfl ?_
            refine TGo.al0 dX10_goesOn_144 rfl ?_
            refine TGo.getS (t := 18) 68 68 (T + 39) (hT 0 (by decide)) rfl fgX10_154_10 dX10_goesOn_145 rfl rfl rfl ?_
            refine TGo.il1 dX10_goesOn_148 rfl ?_
            refine TGo.iald dX10_goesOn_149 (hT 39 (by decide)) (by omega) rfl ?_
            refine TGo.toz t (u2_s) ?_
            refine TGo.il dX10_goesOn_150 rfl ?_
            refine TGo.icmp_lt 166 dX10_goesOn_152 (by decide) (by omega) (fun h152 => ?_) (fun h152 => ?_)
            · refine TGo.al0 dX10_goesOn_166 rfl ?_
              refine TGo.getS (t := 18) 65 65 (T + 36) (hT 0 (by decide)) rfl fgX10_145_10 dX10_goesOn_167 rfl rfl rfl ?_
              refine TGo.il1 dX10_goesOn_170 rfl ?_
              refine TGo.al0 dX10_goesOn_171 rfl ?_
              refine TGo.getS (t := 18) 63 63 (T + 34) (hT 0 (by decide)) rfl fgX10_139_10 dX10_goesOn_172 rfl rfl rfl ?_
              refine TGo.il3 dX10_goesOn_175 rfl ?_
              refine TGo.iald dX10_goesOn_176 (hT 34 (by decide)) (by omega) rfl ?_
              refine TGo.toz _ (u2_n (Or.inl (by omega))) ?_
              refine TGo.toz (Wd (6 * at0 + z.2 3 (o k + 1))) (hl.1 _ (by omega) (by omega)) ?_
              refine TGo.icm1 dX10_goesOn_177 ?_
              refine TGo.icmp_ne 185 dX10_goesOn_178 (by decide) (by omega) (fun h178 => ?_) (fun h178 => ?_)
              · refine TGo.ic0 dX10_goesOn_185 ?_
                refine TGo.zast dX10_goesOn_186 (hT 36 (by decide)) (by omega) rfl (by first | exact Or.inl rfl | exact Or.inr rfl | exact bZ_or _ | assumption) ?_
                refine TGo.al0 dX10_goesOn_187 rfl ?_
                refine TGo.getS (t := 18) 66 66 (T + 37) (hT 0 (by decide)) rfl fgX10_148_10 dX10_goesOn_188 rfl rfl rfl ?_
                refine TGo.il1 dX10_goesOn_191 rfl ?_
                refine TGo.il dX10_goesOn_192 rfl ?_
                refine TGo.zast dX10_goesOn_194 (hT 37 (by decide)) (by omega) rfl (by first | exact Or.inl rfl | exact Or.inr rfl | exact bZ_or _ | assumption) ?_
                refine TGo.al0 dX10_goesOn_195 rfl ?_
                refine TGo.getS (t := 18) 63 63 (T + 34) (hT 0 (by decide)) rfl fgX10_139_10 dX10_goesOn_196 rfl rfl rfl ?_
                refine TGo.il3 dX10_goesOn_199 rfl ?_
                refine TGo.il dX10_goesOn_200 rfl ?_
                refine TGo.iast dX10_goesOn_202 (hT 34 (by decide)) (by omega) rfl ?_
                refine TGo.al0 dX10_goesOn_203 rfl ?_
                refine TGo.getS (t := 18) 64 64 (T + 35) (hT 0 (by decide)) rfl fgX10_142_10 dX10_goesOn_204 rfl rfl rfl ?_
                refine TGo.il3 dX10_goesOn_207 rfl ?_
                refine TGo.il dX10_goesOn_208 rfl ?_
                refine TGo.if_eq 222 dX10_goesOn_210 (by decide) (by decide) (fun h => absurd h (by decide)) (fun _ => ?_)
                refine TGo.al0 dX10_goesOn_213 rfl ?_
                refine TGo.getS (t := 18) 68 68 (T + 39) (hT 0 (by decide)) rfl fgX10_154_10 dX10_goesOn_214 rfl rfl rfl ?_
                refine TGo.il1 dX10_goesOn_217 rfl ?_
                refine TGo.iald dX10_goesOn_218 (hT 39 (by decide)) (by omega) rfl ?_
                refine TGo.toz t ((u2_n (Or.inl (by omega))).trans ((u2_n (Or.inl (by omega))).trans ((u2_n (Or.inl (by omega))).trans (u2_s)))) ?_
                refine TGo.goto 228 dX10_goesOn_219 (by decide) ?_
                first | refine TGo.toz (Nx (6 * at0 + z.2 3 (o k + 1))) (hl.2 _ (by omega) (by omega)) ?_ | skip
                refine TGo.iast dX10_goesOn_228 (hT 35 (by decide)) (by omega) rfl ?_
                refine TGo.al0 dX10_goesOn_229 rfl ?_
                refine TGo.getS (t := 18) 62 62 (T + 33) (hT 0 (by decide)) rfl fgX10_136_10 dX10_goesOn_230 rfl rfl rfl ?_
                refine TGo.il1 dX10_goesOn_233 rfl ?_
                refine TGo.ic1 dX10_goesOn_234 ?_
                refine TGo.iadd dX10_goesOn_235 ?_
                refine TGo.al0 dX10_goesOn_236 rfl ?_
                refine TGo.il1 dX10_goesOn_237 rfl ?_
                refine TGo.cF (csV1 (y2 := mX10_isLast) (t := 18) 1 rfl (hT 0 (by decide)) rfl rfl dX10_goesOn_238 q2544 q2546 qs107 okX10_isLast npX10_isLast rfl rfl) (kX10_isLast hT (((((hz.t 39 rfl).t 36 rfl).t 37 rfl).t 34 rfl).t 35 rfl) hn1 hn12 hof (fun i h0 h1 => by first | exact hov i h0 h1 | exact (u2_n (Or.inl (by omega))).trans (hov i h0 h1) | exact (u2_n (Or.inl (by omega))).trans ((u2_n (Or.inl (by omega))).trans ((u2_n (Or.inl (by omega))).trans ((u2_n (Or.inl (by omega))).trans ((u2_n (Or.inl (by omega))).trans (hov i h0 h1)))))) hk) ?_
                refine TGo.ifb_eq 248 dX10_goesOn_241 (by decide) (fun h241 => ?_) (fun h241 => ?_)
                · refine TGo.al0 dX10_goesOn_248 rfl ?_
                  refine TGo.getS (t := 18) 64 64 (T + 35) (hT 0 (by decide)) rfl fgX10_142_10 dX10_goesOn_249 rfl rfl rfl ?_
                  refine TGo.il3 dX10_goesOn_252 rfl ?_
                  refine TGo.iald dX10_goesOn_253 (hT 35 (by decide)) (by omega) rfl ?_
                  first | refine TGo.toz t u2_s ?_ | refine TGo.toz (Nx (6 * at0 + z.2 3 (o k + 1))) u2_s ?_ | skip
                  refine TGo.iast dX10_goesOn_254 (hT 33 (by decide)) (by omega) rfl ?_
                  refine TGo.al0 dX10_goesOn_255 rfl ?_
                  refine TGo.getS (t := 18) 67 67 (T + 38) (hT 0 (by decide)) rfl fgX10_151_10 dX10_goesOn_256 rfl rfl rfl ?_
                  refine TGo.il1 dX10_goesOn_259 rfl ?_
                  refine TGo.ic1 dX10_goesOn_260 ?_
                  refine TGo.iadd dX10_goesOn_261 ?_
                  refine TGo.il dX10_goesOn_262 rfl ?_
                  refine TGo.if_eq 293 dX10_goesOn_264 (by decide) (by decide) (fun h => absurd h (by decide)) (fun _ => ?_)
                  refine TGo.al0 dX10_goesOn_267 rfl ?_
                  refine TGo.getS (t := 18) 68 68 (T + 39) (hT 0 (by decide)) rfl fgX10_154_10 dX10_goesOn_268 rfl rfl rfl ?_
                  refine TGo.il1 dX10_goesOn_271 rfl ?_
                  refine TGo.iald dX10_goesOn_272 (hT 39 (by decide)) (by omega) rfl ?_
                  refine TGo.toz t ((u2_n (Or.inl (by omega))).trans ((u2_n (Or.inl (by omega))).trans ((u2_n (Or.inl (by omega))).trans ((u2_n (Or.inl (by omega))).trans ((u2_n (Or.inl (by omega))).trans (u2_s)))))) ?_
                  refine TGo.al0 dX10_goesOn_273 rfl ?_
                  refine TGo.getS (t := 18) 67 67 (T + 38) (hT 0 (by decide)) rfl fgX10_151_10 dX10_goesOn_274 rfl rfl rfl ?_
                  refine TGo.il1 dX10_goesOn_277 rfl ?_
                  refine TGo.iald dX10_goesOn_278 (hT 38 (by decide)) (by omega) rfl ?_
                  refine TGo.toz _ ((u2_n (Or.inl (by omega))).trans ((u2_n (Or.inl (by omega))).trans ((u2_n (Or.inl (by omega))).trans ((u2_n (Or.inl (by omega))).trans ((u2_n (Or.inl (by omega))).trans (u2_n (Or.inl (by omega)))))))) ?_
                  refine TGo.toz met (hsh) ?_
                  refine TGo.icmp_ne 293 dX10_goesOn_279 (by decide) (by omega) (fun h279 => ?_) (fun h279 => ?_)
                  · refine TGo.al0 dX10_goesOn_293 rfl ?_
                    refine TGo.getS (t := 18) 67 67 (T + 38) (hT 0 (by decide)) rfl fgX10_151_10 dX10_goesOn_294 rfl rfl rfl ?_
                    refine TGo.il1 dX10_goesOn_297 rfl ?_
                    refine TGo.iald dX10_goesOn_298 (hT 38 (by decide)) (by omega) rfl ?_
                    refine TGo.toz _ ((u2_n (Or.inl (by omega))).trans ((u2_n (Or.inl (by omega))).trans ((u2_n (Or.inl (by omega))).trans ((u2_n (Or.inl (by omega))).trans ((u2_n (Or.inl (by omega))).trans (u2_n (Or.inl (by omega)))))))) ?_
                    first | refine TGo.toz met hsh ?_ | skip
                    refine TGo.iast dX10_goesOn_299 (hT 38 (by decide)) (by omega) rfl ?_
                    refine TGo.ic1 dX10_goesOn_300 ?_
                    refine TGo.zret dX10_goesOn_301 rfl (by first | exact Or.inl rfl | exact Or.inr rfl | exact bZ_or _ | assumption) ?_
                    first
                    | (exfalso; omega)
                    | (refine ⟨_, rfl, rfl, rfl, (((((((hz.t 39 rfl).t 36 rfl).t 37 rfl).t 34 rfl).t 35 rfl).t 33 rfl).t 38 rfl), FrG.rf.i (by omega) |>.i (by omega) |>.i (by omega) |>.i (by omega) |>.i (by omega) |>.i (by omega) |>.i (by omega), Or.inr ⟨rfl, by omega, ?_, ⟨fun i h0 h1 => ?_, fun i h0 h1 => ?_⟩, (u2_n (Or.inl (by omega))).trans ((u2_n (Or.inl (by omega))).trans ((u2_n (Or.inl (by omega))).trans ((u2_n (Or.inl (by omega))).trans ((u2_n (Or.inl (by omega))).trans ((u2_n (Or.inl (by omega))).trans (u2_s)))))), ?_, ?_, ?_, ?_⟩⟩
                       · unfold tyL
                         first
                         | (rw [if_neg (by omega)]; omega)
                         | (rw [if_pos (by omega), if_pos (by omega)]; omega)
                         | (rw [if_pos (by omega), if_neg (by omega)]; omega)
                       · refine (u2_n (Or.inl (by omega))).trans ((u2_n (Or.inl (by omega))).trans ((u2_n (Or.inl (by omega))).trans (?_)))
                         by_cases e : i = (6 * at0 + z.2 3 (o k + 1))
                         · rw [e, zu_s]; exact u2_s
                         · rw [zu_n e]; exact (u2_n (Or.inr e)).trans ((u2_n (Or.inl (by omega))).trans ((u2_n (Or.inl (by omega))).trans ((u2_n (Or.inl (by omega))).trans (hl.1 i h0 h1))))
                       · refine (u2_n (Or.inl (by omega))).trans ((u2_n (Or.inl (by omega))).trans (?_))
                         by_cases e : i = (6 * at0 + z.2 3 (o k + 1))
                         · rw [e]; refine u2_s.trans ?_
                           first | (rw [if_pos (by omega)]; exact zu_s.symm) | (rw [if_neg (by omega)])
                         · refine (u2_n (Or.inr e)).trans (((u2_n (Or.inl (by omega))).trans ((u2_n (Or.inl (by omega))).trans ((u2_n (Or.inl (by omega))).trans ((u2_n (Or.inl (by omega))).trans (hl.2 i h0 h1))))).trans ?_)
                           first | (rw [if_pos (by omega)]; exact (zu_n e).symm) | (rw [if_neg (by omega)])
                       · refine ((u2_n (Or.inl (by omega))).trans ((u2_n (Or.inl (by omega))).trans ((u2_n (Or.inl (by omega))).trans ((u2_n (Or.inl (by omega))).trans ((u2_n (Or.inl (by omega))).trans (u2_s)))))).trans ?_
                         first | exact (bZ_t (by omega)).symm | exact (bZ_f (by omega)).symm
                       · refine ((u2_n (Or.inl (by omega))).trans ((u2_n (Or.inl (by omega))).trans ((u2_n (Or.inl (by omega))).trans ((u2_n (Or.inl (by omega))).trans (u2_s))))).trans ?_
                         first | exact (bZ_t (by omega)).symm | exact (bZ_f (by omega)).symm
                       · refine ((u2_n (Or.inl (by omega))).trans (u2_s)).trans ?_
                         first
                         | (rw [if_pos (show laL (z.2 3) o n1 k by omega)])
                         | (rw [if_neg (show ¬ laL (z.2 3) o n1 k by omega), if_pos (by omega)]; exact zu_s.symm)
                         | (rw [if_neg (show ¬ laL (z.2 3) o n1 k by omega), if_neg (by omega)])
                       · refine u2_s.trans ?_
                         first | (rw [if_pos (by omega)]) | (rw [if_neg (by omega)]))
                  · refine TGo.al0 dX10_goesOn_282 rfl ?_
                    refine TGo.getS (t := 18) 67 67 (T + 38) (hT 0 (by decide)) rfl fgX10_151_10 dX10_goesOn_283 rfl rfl rfl ?_
                    refine TGo.il1 dX10_goesOn_286 rfl ?_
                    refine TGo.iald dX10_goesOn_287 (hT 38 (by decide)) (by omega) rfl ?_
                    refine TGo.toz _ ((u2_n (Or.inl (by omega))).trans ((u2_n (Or.inl (by omega))).trans ((u2_n (Or.inl (by omega))).trans ((u2_n (Or.inl (by omega))).trans ((u2_n (Or.inl (by omega))).trans (u2_n (Or.inl (by omega)))))))) ?_
                    refine TGo.toz met (hsh) ?_
                    refine TGo.ic1 dX10_goesOn_288 ?_
                    refine TGo.iadd dX10_goesOn_289 ?_
                    refine TGo.goto 299 dX10_goesOn_290 (by decide) ?_
                    first | refine TGo.toz met hsh ?_ | skip
                    refine TGo.iast dX10_goesOn_299 (hT 38 (by decide)) (by omega) rfl ?_
                    refine TGo.ic1 dX10_goesOn_300 ?_
                    refine TGo.zret dX10_goesOn_301 rfl (by first | exact Or.inl rfl | exact Or.inr rfl | exact bZ_or _ | assumption) ?_
                    first
                    | (exfalso; omega)
                    | (refine ⟨_, rfl, rfl, rfl, (((((((hz.t 39 rfl).t 36 rfl).t 37 rfl).t 34 rfl).t 35 rfl).t 33 rfl).t 38 rfl), FrG.rf.i (by omega) |>.i (by omega) |>.i (by omega) |>.i (by omega) |>.i (by omega) |>.i (by omega) |>.i (by omega), Or.inr ⟨rfl, by omega, ?_, ⟨fun i h0 h1 => ?_, fun i h0 h1 => ?_⟩, (u2_n (Or.inl (by omega))).trans ((u2_n (Or.inl (by omega))).trans ((u2_n (Or.inl (by omega))).trans ((u2_n (Or.inl (by omega))).trans ((u2_n (Or.inl (by omega))).trans ((u2_n (Or.inl (by omega))).trans (u2_s)))))), ?_, ?_, ?_, ?_⟩⟩
                       · unfold tyL
                         first
                         | (rw [if_neg (by omega)]; omega)
                         | (rw [if_pos (by omega), if_pos (by omega)]; omega)
                         | (rw [if_pos (by omega), if_neg (by omega)]; omega)
                       · refine (u2_n (Or.inl (by omega))).trans ((u2_n (Or.inl (by omega))).trans ((u2_n (Or.inl (by omega))).trans (?_)))
                         by_cases e : i = (6 * at0 + z.2 3 (o k + 1))
                         · rw [e, zu_s]; exact u2_s
                         · rw [zu_n e]; exact (u2_n (Or.inr e)).trans ((u2_n (Or.inl (by omega))).trans ((u2_n (Or.inl (by omega))).trans ((u2_n (Or.inl (by omega))).trans (hl.1 i h0 h1))))
                       · refine (u2_n (Or.inl (by omega))).trans ((u2_n (Or.inl (by omega))).trans (?_))
                         by_cases e : i = (6 * at0 + z.2 3 (o k + 1))
                         · rw [e]; refine u2_s.trans ?_
                           first | (rw [if_pos (by omega)]; exact zu_s.symm) | (rw [if_neg (by omega)])
                         · refine (u2_n (Or.inr e)).trans (((u2_n (Or.inl (by omega))).trans ((u2_n (Or.inl (by omega))).trans ((u2_n (Or.inl (by omega))).trans ((u2_n (Or.inl (by omega))).trans (hl.2 i h0 h1))))).trans ?_)
                           first | (rw [if_pos (by omega)]; exact (zu_n e).symm) | (rw [if_neg (by omega)])
                       · refine ((u2_n (Or.inl (by omega))).trans ((u2_n (Or.inl (by omega))).trans ((u2_n (Or.inl (by omega))).trans ((u2_n (Or.inl (by omega))).trans ((u2_n (Or.inl (by omega))).trans (u2_s)))))).trans ?_
                         first | exact (bZ_t (by omega)).symm | exact (bZ_f (by omega)).symm
                       · refine ((u2_n (Or.inl (by omega))).trans ((u2_n (Or.inl (by omega))).trans ((u2_n (Or.inl (by omega))).trans ((u2_n (Or.inl (by omega))).trans (u2_s))))).trans ?_
                         first | exact (bZ_t (by omega)).symm | exact (bZ_f (by omega)).symm
                       · refine ((u2_n (Or.inl (by omega))).trans (u2_s)).trans ?_
                         first
                         | (rw [if_pos (show laL (z.2 3) o n1 k by omega)])
                         | (rw [if_neg (show ¬ laL (z.2 3) o n1 k by omega), if_pos (by omega)]; exact zu_s.symm)
                         | (rw [if_neg (show ¬ laL (z.2 3) o n1 k by omega), if_neg (by omega)])
                       · refine u2_s.trans ?_
                         first | (rw [if_pos (by omega)]) | (rw [if_neg (by omega)]))
                · refine TGo.ic0 dX10_goesOn_244 ?_
                  refine TGo.goto 254 dX10_goesOn_245 (by decide) ?_
                  first | refine TGo.toz t u2_s ?_ | refine TGo.toz (Nx (6 * at0 + z.2 3 (o k + 1))) u2_s ?_ | skip
                  refine TGo.iast dX10_goesOn_254 (hT 33 (by decide)) (by omega) rfl ?_
                  refine TGo.al0 dX10_goesOn_255 rfl ?_
                  refine TGo.getS (t := 18) 67 67 (T + 38) (hT 0 (by decide)) rfl fgX10_151_10 dX10_goesOn_256 rfl rfl rfl ?_
                  refine TGo.il1 dX10_goesOn_259 rfl ?_
                  refine TGo.ic1 dX10_goesOn_260 ?_
                  refine TGo.iadd dX10_goesOn_261 ?_
                  refine TGo.il dX10_goesOn_262 rfl ?_
                  refine TGo.if_eq 293 dX10_goesOn_264 (by decide) (by decide) (fun h => absurd h (by decide)) (fun _ => ?_)
                  refine TGo.al0 dX10_goesOn_267 rfl ?_
                  refine TGo.getS (t := 18) 68 68 (T + 39) (hT 0 (by decide)) rfl fgX10_154_10 dX10_goesOn_268 rfl rfl rfl ?_
                  refine TGo.il1 dX10_goesOn_271 rfl ?_
                  refine TGo.iald dX10_goesOn_272 (hT 39 (by decide)) (by omega) rfl ?_
                  refine TGo.toz t ((u2_n (Or.inl (by omega))).trans ((u2_n (Or.inl (by omega))).trans ((u2_n (Or.inl (by omega))).trans ((u2_n (Or.inl (by omega))).trans ((u2_n (Or.inl (by omega))).trans (u2_s)))))) ?_
                  refine TGo.al0 dX10_goesOn_273 rfl ?_
                  refine TGo.getS (t := 18) 67 67 (T + 38) (hT 0 (by decide)) rfl fgX10_151_10 dX10_goesOn_274 rfl rfl rfl ?_
                  refine TGo.il1 dX10_goesOn_277 rfl ?_
                  refine TGo.iald dX10_goesOn_278 (hT 38 (by decide)) (by omega) rfl ?_
                  refine TGo.toz _ ((u2_n (Or.inl (by omega))).trans ((u2_n (Or.inl (by omega))).trans ((u2_n (Or.inl (by omega))).trans ((u2_n (Or.inl (by omega))).trans ((u2_n (Or.inl (by omega))).trans (u2_n (Or.inl (by omega)))))))) ?_
                  refine TGo.toz met (hsh) ?_
                  refine TGo.icmp_ne 293 dX10_goesOn_279 (by decide) (by omega) (fun h279 => ?_) (fun h279 => ?_)
                  · refine TGo.al0 dX10_goesOn_293 rfl ?_
                    refine TGo.getS (t := 18) 67 67 (T + 38) (hT 0 (by decide)) rfl fgX10_151_10 dX10_goesOn_294 rfl rfl rfl ?_
                    refine TGo.il1 dX10_goesOn_297 rfl ?_
                    refine TGo.iald dX10_goesOn_298 (hT 38 (by decide)) (by omega) rfl ?_
                    refine TGo.toz _ ((u2_n (Or.inl (by omega))).trans ((u2_n (Or.inl (by omega))).trans ((u2_n (Or.inl (by omega))).trans ((u2_n (Or.inl (by omega))).trans ((u2_n (Or.inl (by omega))).trans (u2_n (Or.inl (by omega)))))))) ?_
                    first | refine TGo.toz met hsh ?_ | skip
                    refine TGo.iast dX10_goesOn_299 (hT 38 (by decide)) (by omega) rfl ?_
                    refine TGo.ic1 dX10_goesOn_300 ?_
                    refine TGo.zret dX10_goesOn_301 rfl (by first | exact Or.inl rfl | exact Or.inr rfl | exact bZ_or _ | assumption) ?_
                    first
                    | (exfalso; omega)
                    | (refine ⟨_, rfl, rfl, rfl, (((((((hz.t 39 rfl).t 36 rfl).t 37 rfl).t 34 rfl).t 35 rfl).t 33 rfl).t 38 rfl), FrG.rf.i (by omega) |>.i (by omega) |>.i (by omega) |>.i (by omega) |>.i (by omega) |>.i (by omega) |>.i (by omega), Or.inr ⟨rfl, by omega, ?_, ⟨fun i h0 h1 => ?_, fun i h0 h1 => ?_⟩, (u2_n (Or.inl (by omega))).trans ((u2_n (Or.inl (by omega))).trans ((u2_n (Or.inl (by omega))).trans ((u2_n (Or.inl (by omega))).trans ((u2_n (Or.inl (by omega))).trans ((u2_n (Or.inl (by omega))).trans (u2_s)))))), ?_, ?_, ?_, ?_⟩⟩
                       · unfold tyL
                         first
                         | (rw [if_neg (by omega)]; omega)
                         | (rw [if_pos (by omega), if_pos (by omega)]; omega)
                         | (rw [if_pos (by omega), if_neg (by omega)]; omega)
                       · refine (u2_n (Or.inl (by omega))).trans ((u2_n (Or.inl (by omega))).trans ((u2_n (Or.inl (by omega))).trans (?_)))
                         by_cases e : i = (6 * at0 + z.2 3 (o k + 1))
                         · rw [e, zu_s]; exact u2_s
                         · rw [zu_n e]; exact (u2_n (Or.inr e)).trans ((u2_n (Or.inl (by omega))).trans ((u2_n (Or.inl (by omega))).trans ((u2_n (Or.inl (by omega))).trans (hl.1 i h0 h1))))
                       · refine (u2_n (Or.inl (by omega))).trans ((u2_n (Or.inl (by omega))).trans (?_))
                         by_cases e : i = (6 * at0 + z.2 3 (o k + 1))
                         · rw [e]; refine u2_s.trans ?_
                           first | (rw [if_pos (by omega)]; exact zu_s.symm) | (rw [if_neg (by omega)])
                         · refine (u2_n (Or.inr e)).trans (((u2_n (Or.inl (by omega))).trans ((u2_n (Or.inl (by omega))).trans ((u2_n (Or.inl (by omega))).trans ((u2_n (Or.inl (by omega))).trans (hl.2 i h0 h1))))).trans ?_)
                           first | (rw [if_pos (by omega)]; exact (zu_n e).symm) | (rw [if_neg (by omega)])
                       · refine ((u2_n (Or.inl (by omega))).trans ((u2_n (Or.inl (by omega))).trans ((u2_n (Or.inl (by omega))).trans ((u2_n (Or.inl (by omega))).trans ((u2_n (Or.inl (by omega))).trans (u2_s)))))).trans ?_
                         first | exact (bZ_t (by omega)).symm | exact (bZ_f (by omega)).symm
                       · refine ((u2_n (Or.inl (by omega))).trans ((u2_n (Or.inl (by omega))).trans ((u2_n (Or.inl (by omega))).trans ((u2_n (Or.inl (by omega))).trans (u2_s))))).trans ?_
                         first | exact (bZ_t (by omega)).symm | exact (bZ_f (by omega)).symm
                       · refine ((u2_n (Or.inl (by omega))).trans (u2_s)).trans ?_
                         first
                         | (rw [if_pos (show laL (z.2 3) o n1 k by omega)])
                         | (rw [if_neg (show ¬ laL (z.2 3) o n1 k by omega), if_pos (by omega)]; exact zu_s.symm)
                         | (rw [if_neg (show ¬ laL (z.2 3) o n1 k by omega), if_neg (by omega)])
                       · refine u2_s.trans ?_
                         first | (rw [if_pos (by omega)]) | (rw [if_neg (by omega)]))
                  · refine TGo.al0 dX10_goesOn_282 rfl ?_
                    refine TGo.getS (t := 18) 67 67 (T + 38) (hT 0 (by decide)) rfl fgX10_151_10 dX10_goesOn_283 rfl rfl rfl ?_
                    refine TGo.il1 dX10_goesOn_286 rfl ?_
                    refine TGo.iald dX10_goesOn_287 (hT 38 (by decide)) (by omega) rfl ?_
                    refine TGo.toz _ ((u2_n (Or.inl (by omega))).trans ((u2_n (Or.inl (by omega))).trans ((u2_n (Or.inl (by omega))).trans ((u2_n (Or.inl (by omega))).trans ((u2_n (Or.inl (by omega))).trans (u2_n (Or.inl (by omega)))))))) ?_
                    refine TGo.toz met (hsh) ?_
                    refine TGo.ic1 dX10_goesOn_288 ?_
                    refine TGo.iadd dX10_goesOn_289 ?_
                    refine TGo.goto 299 dX10_goesOn_290 (by decide) ?_
                    first | refine TGo.toz met hsh ?_ | skip
                    refine TGo.iast dX10_goesOn_299 (hT 38 (by decide)) (by omega) rfl ?_
                    refine TGo.ic1 dX10_goesOn_300 ?_
                    refine TGo.zret dX10_goesOn_301 rfl (by first | exact Or.inl rfl | exact Or.inr rfl | exact bZ_or _ | assumption) ?_
                    first
                    | (exfalso; omega)
                    | (refine ⟨_, rfl, rfl, rfl, (((((((hz.t 39 rfl).t 36 rfl).t 37 rfl).t 34 rfl).t 35 rfl).t 33 rfl).t 38 rfl), FrG.rf.i (by omega) |>.i (by omega) |>.i (by omega) |>.i (by omega) |>.i (by omega) |>.i (by omega) |>.i (by omega), Or.inr ⟨rfl, by omega, ?_, ⟨fun i h0 h1 => ?_, fun i h0 h1 => ?_⟩, (u2_n (Or.inl (by omega))).trans ((u2_n (Or.inl (by omega))).trans ((u2_n (Or.inl (by omega))).trans ((u2_n (Or.inl (by omega))).trans ((u2_n (Or.inl (by omega))).trans ((u2_n (Or.inl (by omega))).trans (u2_s)))))), ?_, ?_, ?_, ?_⟩⟩
                       · unfold tyL
                         first
                         | (rw [if_neg (by omega)]; omega)
                         | (rw [if_pos (by omega), if_pos (by omega)]; omega)
                         | (rw [if_pos (by omega), if_neg (by omega)]; omega)
                       · refine (u2_n (Or.inl (by omega))).trans ((u2_n (Or.inl (by omega))).trans ((u2_n (Or.inl (by omega))).trans (?_)))
                         by_cases e : i = (6 * at0 + z.2 3 (o k + 1))
                         · rw [e, zu_s]; exact u2_s
                         · rw [zu_n e]; exact (u2_n (Or.inr e)).trans ((u2_n (Or.inl (by omega))).trans ((u2_n (Or.inl (by omega))).trans ((u2_n (Or.inl (by omega))).trans (hl.1 i h0 h1))))
                       · refine (u2_n (Or.inl (by omega))).trans ((u2_n (Or.inl (by omega))).trans (?_))
                         by_cases e : i = (6 * at0 + z.2 3 (o k + 1))
                         · rw [e]; refine u2_s.trans ?_
                           first | (rw [if_pos (by omega)]; exact zu_s.symm) | (rw [if_neg (by omega)])
                         · refine (u2_n (Or.inr e)).trans (((u2_n (Or.inl (by omega))).trans ((u2_n (Or.inl (by omega))).trans ((u2_n (Or.inl (by omega))).trans ((u2_n (Or.inl (by omega))).trans (hl.2 i h0 h1))))).trans ?_)
                           first | (rw [if_pos (by omega)]; exact (zu_n e).symm) | (rw [if_neg (by omega)])
                       · refine ((u2_n (Or.inl (by omega))).trans ((u2_n (Or.inl (by omega))).trans ((u2_n (Or.inl (by omega))).trans ((u2_n (Or.inl (by omega))).trans ((u2_n (Or.inl (by omega))).trans (u2_s)))))).trans ?_
                         first | exact (bZ_t (by omega)).symm | exact (bZ_f (by omega)).symm
                       · refine ((u2_n (Or.inl (by omega))).trans ((u2_n (Or.inl (by omega))).trans ((u2_n (Or.inl (by omega))).trans ((u2_n (Or.inl (by omega))).trans (u2_s))))).trans ?_
                         first | exact (bZ_t (by omega)).symm | exact (bZ_f (by omega)).symm
                       · refine ((u2_n (Or.inl (by omega))).trans (u2_s)).trans ?_
                         first
                         | (rw [if_pos (show laL (z.2 3) o n1 k by omega)])
                         | (rw [if_neg (show ¬ laL (z.2 3) o n1 k by omega), if_pos (by omega)]; exact zu_s.symm)
                         | (rw [if_neg (show ¬ laL (z.2 3) o n1 k by omega), if_neg (by omega)])
                       · refine u2_s.trans ?_
                         first | (rw [if_pos (by omega)]) | (rw [if_neg (by omega)]))
              · refine TGo.ic1 dX10_goesOn_181 ?_
                refine TGo.goto 186 dX10_goesOn_182 (by decide) ?_
                refine TGo.zast dX10_goesOn_186 (hT 36 (by decide)) (by omega) rfl (by first | exact Or.inl rfl | exact Or.inr rfl | exact bZ_or _ | assumption) ?_
                refine TGo.al0 dX10_goesOn_187 rfl ?_
                refine TGo.getS (t := 18) 66 66 (T + 37) (hT 0 (by decide)) rfl fgX10_148_10 dX10_goesOn_188 rfl rfl rfl ?_
                refine TGo.il1 dX10_goesOn_191 rfl ?_
                refine TGo.il dX10_goesOn_192 rfl ?_
                refine TGo.zast dX10_goesOn_194 (hT 37 (by decide)) (by omega) rfl (by first | exact Or.inl rfl | exact Or.inr rfl | exact bZ_or _ | assumption) ?_
                refine TGo.al0 dX10_goesOn_195 rfl ?_
                refine TGo.getS (t := 18) 63 63 (T + 34) (hT 0 (by decide)) rfl fgX10_139_10 dX10_goesOn_196 rfl rfl rfl ?_
                refine TGo.il3 dX10_goesOn_199 rfl ?_
                refine TGo.il dX10_goesOn_200 rfl ?_
                refine TGo.iast dX10_goesOn_202 (hT 34 (by decide)) (by omega) rfl ?_
                refine TGo.al0 dX10_goesOn_203 rfl ?_
                refine TGo.getS (t := 18) 64 64 (T + 35) (hT 0 (by decide)) rfl fgX10_142_10 dX10_goesOn_204 rfl rfl rfl ?_
                refine TGo.il3 dX10_goesOn_207 rfl ?_
                refine TGo.il dX10_goesOn_208 rfl ?_
                refine TGo.if_eq 222 dX10_goesOn_210 (by decide) (by decide) (fun h => absurd h (by decide)) (fun _ => ?_)
                refine TGo.al0 dX10_goesOn_213 rfl ?_
                refine TGo.getS (t := 18) 68 68 (T + 39) (hT 0 (by decide)) rfl fgX10_154_10 dX10_goesOn_214 rfl rfl rfl ?_
                refine TGo.il1 dX10_goesOn_217 rfl ?_
                refine TGo.iald dX10_goesOn_218 (hT 39 (by decide)) (by omega) rfl ?_
                refine TGo.toz t ((u2_n (Or.inl (by omega))).trans ((u2_n (Or.inl (by omega))).trans ((u2_n (Or.inl (by omega))).trans (u2_s)))) ?_
                refine TGo.goto 228 dX10_goesOn_219 (by decide) ?_
                first | refine TGo.toz (Nx (6 * at0 + z.2 3 (o k + 1))) (hl.2 _ (by omega) (by omega)) ?_ | skip
                refine TGo.iast dX10_goesOn_228 (hT 35 (by decide)) (by omega) rfl ?_
                refine TGo.al0 dX10_goesOn_229 rfl ?_
                refine TGo.getS (t := 18) 62 62 (T + 33) (hT 0 (by decide)) rfl fgX10_136_10 dX10_goesOn_230 rfl rfl rfl ?_
                refine TGo.il1 dX10_goesOn_233 rfl ?_
                refine TGo.ic1 dX10_goesOn_234 ?_
                refine TGo.iadd dX10_goesOn_235 ?_
                refine TGo.al0 dX10_goesOn_236 rfl ?_
                refine TGo.il1 dX10_goesOn_237 rfl ?_
                refine TGo.cF (csV1 (y2 := mX10_isLast) (t := 18) 1 rfl (hT 0 (by decide)) rfl rfl dX10_goesOn_238 q2544 q2546 qs107 okX10_isLast npX10_isLast rfl rfl) (kX10_isLast hT (((((hz.t 39 rfl).t 36 rfl).t 37 rfl).t 34 rfl).t 35 rfl) hn1 hn12 hof (fun i h0 h1 => by first | exact hov i h0 h1 | exact (u2_n (Or.inl (by omega))).trans (hov i h0 h1) | exact (u2_n (Or.inl (by omega))).trans ((u2_n (Or.inl (by omega))).trans ((u2_n (Or.inl (by omega))).trans ((u2_n (Or.inl (by omega))).trans ((u2_n (Or.inl (by omega))).trans (hov i h0 h1)))))) hk) ?_
                refine TGo.ifb_eq 248 dX10_goesOn_241 (by decide) (fun h241 => ?_) (fun h241 => ?_)
                · refine TGo.al0 dX10_goesOn_248 rfl ?_
                  refine TGo.getS (t := 18) 64 64 (T + 35) (hT 0 (by decide)) rfl fgX10_142_10 dX10_goesOn_249 rfl rfl rfl ?_
                  refine TGo.il3 dX10_goesOn_252 rfl ?_
                  refine TGo.iald dX10_goesOn_253 (hT 35 (by decide)) (by omega) rfl ?_
                  first | refine TGo.toz t u2_s ?_ | refine TGo.toz (Nx (6 * at0 + z.2 3 (o k + 1))) u2_s ?_ | skip
                  refine TGo.iast dX10_goesOn_254 (hT 33 (by decide)) (by omega) rfl ?_
                  refine TGo.al0 dX10_goesOn_255 rfl ?_
                  refine TGo.getS (t := 18) 67 67 (T + 38) (hT 0 (by decide)) rfl fgX10_151_10 dX10_goesOn_256 rfl rfl rfl ?_
                  refine TGo.il1 dX10_goesOn_259 rfl ?_
                  refine TGo.ic1 dX10_goesOn_260 ?_
                  refine TGo.iadd dX10_goesOn_261 ?_
                  refine TGo.il dX10_goesOn_262 rfl ?_
                  refine TGo.if_eq 293 dX10_goesOn_264 (by decide) (by decide) (fun h => absurd h (by decide)) (fun _ => ?_)
                  refine TGo.al0 dX10_goesOn_267 rfl ?_
                  refine TGo.getS (t := 18) 68 68 (T + 39) (hT 0 (by decide)) rfl fgX10_154_10 dX10_goesOn_268 rfl rfl rfl ?_
                  refine TGo.il1 dX10_goesOn_271 rfl ?_
                  refine TGo.iald dX10_goesOn_272 (hT 39 (by decide)) (by omega) rfl ?_
                  refine TGo.toz t ((u2_n (Or.inl (by omega))).trans ((u2_n (Or.inl (by omega))).trans ((u2_n (Or.inl (by omega))).trans ((u2_n (Or.inl (by omega))).trans ((u2_n (Or.inl (by omega))).trans (u2_s)))))) ?_
                  refine TGo.al0 dX10_goesOn_273 rfl ?_
                  refine TGo.getS (t := 18) 67 67 (T + 38) (hT 0 (by decide)) rfl fgX10_151_10 dX10_goesOn_274 rfl rfl rfl ?_
                  refine TGo.il1 dX10_goesOn_277 rfl ?_
                  refine TGo.iald dX10_goesOn_278 (hT 38 (by decide)) (by omega) rfl ?_
                  refine TGo.toz _ ((u2_n (Or.inl (by omega))).trans ((u2_n (Or.inl (by omega))).trans ((u2_n (Or.inl (by omega))).trans ((u2_n (Or.inl (by omega))).trans ((u2_n (Or.inl (by omega))).trans (u2_n (Or.inl (by omega)))))))) ?_
                  refine TGo.toz met (hsh) ?_
                  refine TGo.icmp_ne 293 dX10_goesOn_279 (by decide) (by omega) (fun h279 => ?_) (fun h279 => ?_)
                  · refine TGo.al0 dX10_goesOn_293 rfl ?_
                    refine TGo.getS (t := 18) 67 67 (T + 38) (hT 0 (by decide)) rfl fgX10_151_10 dX10_goesOn_294 rfl rfl rfl ?_
                    refine TGo.il1 dX10_goesOn_297 rfl ?_
                    refine TGo.iald dX10_goesOn_298 (hT 38 (by decide)) (by omega) rfl ?_
                    refine TGo.toz _ ((u2_n (Or.inl (by omega))).trans ((u2_n (Or.inl (by omega))).trans ((u2_n (Or.inl (by omega))).trans ((u2_n (Or.inl (by omega))).trans ((u2_n (Or.inl (by omega))).trans (u2_n (Or.inl (by omega)))))))) ?_
                    first | refine TGo.toz met hsh ?_ | skip
                    refine TGo.iast dX10_goesOn_299 (hT 38 (by decide)) (by omega) rfl ?_
                    refine TGo.ic1 dX10_goesOn_300 ?_
                    refine TGo.zret dX10_goesOn_301 rfl (by first | exact Or.inl rfl | exact Or.inr rfl | exact bZ_or _ | assumption) ?_
                    first
                    | (exfalso; omega)
                    | (refine ⟨_, rfl, rfl, rfl, (((((((hz.t 39 rfl).t 36 rfl).t 37 rfl).t 34 rfl).t 35 rfl).t 33 rfl).t 38 rfl), FrG.rf.i (by omega) |>.i (by omega) |>.i (by omega) |>.i (by omega) |>.i (by omega) |>.i (by omega) |>.i (by omega), Or.inr ⟨rfl, by omega, ?_, ⟨fun i h0 h1 => ?_, fun i h0 h1 => ?_⟩, (u2_n (Or.inl (by omega))).trans ((u2_n (Or.inl (by omega))).trans ((u2_n (Or.inl (by omega))).trans ((u2_n (Or.inl (by omega))).trans ((u2_n (Or.inl (by omega))).trans ((u2_n (Or.inl (by omega))).trans (u2_s)))))), ?_, ?_, ?_, ?_⟩⟩
                       · unfold tyL
                         first
                         | (rw [if_neg (by omega)]; omega)
                         | (rw [if_pos (by omega), if_pos (by omega)]; omega)
                         | (rw [if_pos (by omega), if_neg (by omega)]; omega)
                       · refine (u2_n (Or.inl (by omega))).trans ((u2_n (Or.inl (by omega))).trans ((u2_n (Or.inl (by omega))).trans (?_)))
                         by_cases e : i = (6 * at0 + z.2 3 (o k + 1))
                         · rw [e, zu_s]; exact u2_s
                         · rw [zu_n e]; exact (u2_n (Or.inr e)).trans ((u2_n (Or.inl (by omega))).trans ((u2_n (Or.inl (by omega))).trans ((u2_n (Or.inl (by omega))).trans (hl.1 i h0 h1))))
                       · refine (u2_n (Or.inl (by omega))).trans ((u2_n (Or.inl (by omega))).trans (?_))
                         by_cases e : i = (6 * at0 + z.2 3 (o k + 1))
                         · rw [e]; refine u2_s.trans ?_
                           first | (rw [if_pos (by omega)]; exact zu_s.symm) | (rw [if_neg (by omega)])
                         · refine (u2_n (Or.inr e)).trans (((u2_n (Or.inl (by omega))).trans ((u2_n (Or.inl (by omega))).trans ((u2_n (Or.inl (by omega))).trans ((u2_n (Or.inl (by omega))).trans (hl.2 i h0 h1))))).trans ?_)
                           first | (rw [if_pos (by omega)]; exact (zu_n e).symm) | (rw [if_neg (by omega)])
                       · refine ((u2_n (Or.inl (by omega))).trans ((u2_n (Or.inl (by omega))).trans ((u2_n (Or.inl (by omega))).trans ((u2_n (Or.inl (by omega))).trans ((u2_n (Or.inl (by omega))).trans (u2_s)))))).trans ?_
                         first | exact (bZ_t (by omega)).symm | exact (bZ_f (by omega)).symm
                       · refine ((u2_n (Or.inl (by omega))).trans ((u2_n (Or.inl (by omega))).trans ((u2_n (Or.inl (by omega))).trans ((u2_n (Or.inl (by omega))).trans (u2_s))))).trans ?_
                         first | exact (bZ_t (by omega)).symm | exact (bZ_f (by omega)).symm
                       · refine ((u2_n (Or.inl (by omega))).trans (u2_s)).trans ?_
                         first
                         | (rw [if_pos (show laL (z.2 3) o n1 k by omega)])
                         | (rw [if_neg (show ¬ laL (z.2 3) o n1 k by omega), if_pos (by omega)]; exact zu_s.symm)
                         | (rw [if_neg (show ¬ laL (z.2 3) o n1 k by omega), if_neg (by omega)])
                       · refine u2_s.trans ?_
                         first | (rw [if_pos (by omega)]) | (rw [if_neg (by omega)]))
                  · refine TGo.al0 dX10_goesOn_282 rfl ?_
                    refine TGo.getS (t := 18) 67 67 (T + 38) (hT 0 (by decide)) rfl fgX10_151_10 dX10_goesOn_283 rfl rfl rfl ?_
                    refine TGo.il1 dX10_goesOn_286 rfl ?_
                    refine TGo.iald dX10_goesOn_287 (hT 38 (by decide)) (by omega) rfl ?_
                    refine TGo.toz _ ((u2_n (Or.inl (by omega))).trans ((u2_n (Or.inl (by omega))).trans ((u2_n (Or.inl (by omega))).trans ((u2_n (Or.inl (by omega))).trans ((u2_n (Or.inl (by omega))).trans (u2_n (Or.inl (by omega)))))))) ?_
                    refine TGo.toz met (hsh) ?_
                    refine TGo.ic1 dX10_goesOn_288 ?_
                    refine TGo.iadd dX10_goesOn_289 ?_
                    refine TGo.goto 299 dX10_goesOn_290 (by decide) ?_
                    first | refine TGo.toz met hsh ?_ | skip
                    refine TGo.iast dX10_goesOn_299 (hT 38 (by decide)) (by omega) rfl ?_
                    refine TGo.ic1 dX10_goesOn_300 ?_
                    refine TGo.zret dX10_goesOn_301 rfl (by first | exact Or.inl rfl | exact Or.inr rfl | exact bZ_or _ | assumption) ?_
                    first
                    | (exfalso; omega)
                    | (refine ⟨_, rfl, rfl, rfl, (((((((hz.t 39 rfl).t 36 rfl).t 37 rfl).t 34 rfl).t 35 rfl).t 33 rfl).t 38 rfl), FrG.rf.i (by omega) |>.i (by omega) |>.i (by omega) |>.i (by omega) |>.i (by omega) |>.i (by omega) |>.i (by omega), Or.inr ⟨rfl, by omega, ?_, ⟨fun i h0 h1 => ?_, fun i h0 h1 => ?_⟩, (u2_n (Or.inl (by omega))).trans ((u2_n (Or.inl (by omega))).trans ((u2_n (Or.inl (by omega))).trans ((u2_n (Or.inl (by omega))).trans ((u2_n (Or.inl (by omega))).trans ((u2_n (Or.inl (by omega))).trans (u2_s)))))), ?_, ?_, ?_, ?_⟩⟩
                       · unfold tyL
                         first
                         | (rw [if_neg (by omega)]; omega)
                         | (rw [if_pos (by omega), if_pos (by omega)]; omega)
                         | (rw [if_pos (by omega), if_neg (by omega)]; omega)
                       · refine (u2_n (Or.inl (by omega))).trans ((u2_n (Or.inl (by omega))).trans ((u2_n (Or.inl (by omega))).trans (?_)))
                         by_cases e : i = (6 * at0 + z.2 3 (o k + 1))
                         · rw [e, zu_s]; exact u2_s
                         · rw [zu_n e]; exact (u2_n (Or.inr e)).trans ((u2_n (Or.inl (by omega))).trans ((u2_n (Or.inl (by omega))).trans ((u2_n (Or.inl (by omega))).trans (hl.1 i h0 h1))))
                       · refine (u2_n (Or.inl (by omega))).trans ((u2_n (Or.inl (by omega))).trans (?_))
                         by_cases e : i = (6 * at0 + z.2 3 (o k + 1))
                         · rw [e]; refine u2_s.trans ?_
                           first | (rw [if_pos (by omega)]; exact zu_s.symm) | (rw [if_neg (by omega)])
                         · refine (u2_n (Or.inr e)).trans (((u2_n (Or.inl (by omega))).trans ((u2_n (Or.inl (by omega))).trans ((u2_n (Or.inl (by omega))).trans ((u2_n (Or.inl (by omega))).trans (hl.2 i h0 h1))))).trans ?_)
                           first | (rw [if_pos (by omega)]; exact (zu_n e).symm) | (rw [if_neg (by omega)])
                       · refine ((u2_n (Or.inl (by omega))).trans ((u2_n (Or.inl (by omega))).trans ((u2_n (Or.inl (by omega))).trans ((u2_n (Or.inl (by omega))).trans ((u2_n (Or.inl (by omega))).trans (u2_s)))))).trans ?_
                         first | exact (bZ_t (by omega)).symm | exact (bZ_f (by omega)).symm
                       · refine ((u2_n (Or.inl (by omega))).trans ((u2_n (Or.inl (by omega))).trans ((u2_n (Or.inl (by omega))).trans ((u2_n (Or.inl (by omega))).trans (u2_s))))).trans ?_
                         first | exact (bZ_t (by omega)).symm | exact (bZ_f (by omega)).symm
                       · refine ((u2_n (Or.inl (by omega))).trans (u2_s)).trans ?_
                         first
                         | (rw [if_pos (show laL (z.2 3) o n1 k by omega)])
                         | (rw [if_neg (show ¬ laL (z.2 3) o n1 k by omega), if_pos (by omega)]; exact zu_s.symm)
                         | (rw [if_neg (show ¬ laL (z.2 3) o n1 k by omega), if_neg (by omega)])
                       · refine u2_s.trans ?_
                         first | (rw [if_pos (by omega)]) | (rw [if_neg (by omega)]))
                · refine TGo.ic0 dX10_goesOn_244 ?_
                  refine TGo.goto 254 dX10_goesOn_245 (by decide) ?_
                  first | refine TGo.toz t u2_s ?_ | refine TGo.toz (Nx (6 * at0 + z.2 3 (o k + 1))) u2_s ?_ | skip
                  refine TGo.iast dX10_goesOn_254 (hT 33 (by decide)) (by omega) rfl ?_
                  refine TGo.al0 dX10_goesOn_255 rfl ?_
                  refine TGo.getS (t := 18) 67 67 (T + 38) (hT 0 (by decide)) rfl fgX10_151_10 dX10_goesOn_256 rfl rfl rfl ?_
                  refine TGo.il1 dX10_goesOn_259 rfl ?_
                  refine TGo.ic1 dX10_goesOn_260 ?_
                  refine TGo.iadd dX10_goesOn_261 ?_
                  refine TGo.il dX10_goesOn_262 rfl ?_
                  refine TGo.if_eq 293 dX10_goesOn_264 (by decide) (by decide) (fun h => absurd h (by decide)) (fun _ => ?_)
                  refine TGo.al0 dX10_goesOn_267 rfl ?_
                  refine TGo.getS (t := 18) 68 68 (T + 39) (hT 0 (by decide)) rfl fgX10_154_10 dX10_goesOn_268 rfl rfl rfl ?_
                  refine TGo.il1 dX10_goesOn_271 rfl ?_
                  refine TGo.iald dX10_goesOn_272 (hT 39 (by decide)) (by omega) rfl ?_
                  refine TGo.toz t ((u2_n (Or.inl (by omega))).trans ((u2_n (Or.inl (by omega))).trans ((u2_n (Or.inl (by omega))).trans ((u2_n (Or.inl (by omega))).trans ((u2_n (Or.inl (by omega))).trans (u2_s)))))) ?_
                  refine TGo.al0 dX10_goesOn_273 rfl ?_
                  refine TGo.getS (t := 18) 67 67 (T + 38) (hT 0 (by decide)) rfl fgX10_151_10 dX10_goesOn_274 rfl rfl rfl ?_
                  refine TGo.il1 dX10_goesOn_277 rfl ?_
                  refine TGo.iald dX10_goesOn_278 (hT 38 (by decide)) (by omega) rfl ?_
                  refine TGo.toz _ ((u2_n (Or.inl (by omega))).trans ((u2_n (Or.inl (by omega))).trans ((u2_n (Or.inl (by omega))).trans ((u2_n (Or.inl (by omega))).trans ((u2_n (Or.inl (by omega))).trans (u2_n (Or.inl (by omega)))))))) ?_
                  refine TGo.toz met (hsh) ?_
                  refine TGo.icmp_ne 293 dX10_goesOn_279 (by decide) (by omega) (fun h279 => ?_) (fun h279 => ?_)
                  · refine TGo.al0 dX10_goesOn_293 rfl ?_
                    refine TGo.getS (t := 18) 67 67 (T + 38) (hT 0 (by decide)) rfl fgX10_151_10 dX10_goesOn_294 rfl rfl rfl ?_
                    refine TGo.il1 dX10_goesOn_297 rfl ?_
                    refine TGo.iald dX10_goesOn_298 (hT 38 (by decide)) (by omega) rfl ?_
                    refine TGo.toz _ ((u2_n (Or.inl (by omega))).trans ((u2_n (Or.inl (by omega))).trans ((u2_n (Or.inl (by omega))).trans ((u2_n (Or.inl (by omega))).trans ((u2_n (Or.inl (by omega))).trans (u2_n (Or.inl (by omega)))))))) ?_
                    first | refine TGo.toz met hsh ?_ | skip
                    refine TGo.iast dX10_goesOn_299 (hT 38 (by decide)) (by omega) rfl ?_
                    refine TGo.ic1 dX10_goesOn_300 ?_
                    refine TGo.zret dX10_goesOn_301 rfl (by first | exact Or.inl rfl | exact Or.inr rfl | exact bZ_or _ | assumption) ?_
                    first
                    | (exfalso; omega)
                    | (refine ⟨_, rfl, rfl, rfl, (((((((hz.t 39 rfl).t 36 rfl).t 37 rfl).t 34 rfl).t 35 rfl).t 33 rfl).t 38 rfl), FrG.rf.i (by omega) |>.i (by omega) |>.i (by omega) |>.i (by omega) |>.i (by omega) |>.i (by omega) |>.i (by omega), Or.inr ⟨rfl, by omega, ?_, ⟨fun i h0 h1 => ?_, fun i h0 h1 => ?_⟩, (u2_n (Or.inl (by omega))).trans ((u2_n (Or.inl (by omega))).trans ((u2_n (Or.inl (by omega))).trans ((u2_n (Or.inl (by omega))).trans ((u2_n (Or.inl (by omega))).trans ((u2_n (Or.inl (by omega))).trans (u2_s)))))), ?_, ?_, ?_, ?_⟩⟩
                       · unfold tyL
                         first
                         | (rw [if_neg (by omega)]; omega)
                         | (rw [if_pos (by omega), if_pos (by omega)]; omega)
                         | (rw [if_pos (by omega), if_neg (by omega)]; omega)
                       · refine (u2_n (Or.inl (by omega))).trans ((u2_n (Or.inl (by omega))).trans ((u2_n (Or.inl (by omega))).trans (?_)))
                         by_cases e : i = (6 * at0 + z.2 3 (o k + 1))
                         · rw [e, zu_s]; exact u2_s
                         · rw [zu_n e]; exact (u2_n (Or.inr e)).trans ((u2_n (Or.inl (by omega))).trans ((u2_n (Or.inl (by omega))).trans ((u2_n (Or.inl (by omega))).trans (hl.1 i h0 h1))))
                       · refine (u2_n (Or.inl (by omega))).trans ((u2_n (Or.inl (by omega))).trans (?_))
                         by_cases e : i = (6 * at0 + z.2 3 (o k + 1))
                         · rw [e]; refine u2_s.trans ?_
                           first | (rw [if_pos (by omega)]; exact zu_s.symm) | (rw [if_neg (by omega)])
                         · refine (u2_n (Or.inr e)).trans (((u2_n (Or.inl (by omega))).trans ((u2_n (Or.inl (by omega))).trans ((u2_n (Or.inl (by omega))).trans ((u2_n (Or.inl (by omega))).trans (hl.2 i h0 h1))))).trans ?_)
                           first | (rw [if_pos (by omega)]; exact (zu_n e).symm) | (rw [if_neg (by omega)])
                       · refine ((u2_n (Or.inl (by omega))).trans ((u2_n (Or.inl (by omega))).trans ((u2_n (Or.inl (by omega))).trans ((u2_n (Or.inl (by omega))).trans ((u2_n (Or.inl (by omega))).trans (u2_s)))))).trans ?_
                         first | exact (bZ_t (by omega)).symm | exact (bZ_f (by omega)).symm
                       · refine ((u2_n (Or.inl (by omega))).trans ((u2_n (Or.inl (by omega))).trans ((u2_n (Or.inl (by omega))).trans ((u2_n (Or.inl (by omega))).trans (u2_s))))).trans ?_
                         first | exact (bZ_t (by omega)).symm | exact (bZ_f (by omega)).symm
                       · refine ((u2_n (Or.inl (by omega))).trans (u2_s)).trans ?_
                         first
                         | (rw [if_pos (show laL (z.2 3) o n1 k by omega)])
                         | (rw [if_neg (show ¬ laL (z.2 3) o n1 k by omega), if_pos (by omega)]; exact zu_s.symm)
                         | (rw [if_neg (show ¬ laL (z.2 3) o n1 k by omega), if_neg (by omega)])
                       · refine u2_s.trans ?_
                         first | (rw [if_pos (by omega)]) | (rw [if_neg (by omega)]))
                  · refine TGo.al0 dX10_goesOn_282 rfl ?_
                    refine TGo.getS (t := 18) 67 67 (T + 38) (hT 0 (by decide)) rfl fgX10_151_10 dX10_goesOn_283 rfl rfl rfl ?_
                    refine TGo.il1 dX10_goesOn_286 rfl ?_
                    refine TGo.iald dX10_goesOn_287 (hT 38 (by decide)) (by omega) rfl ?_
                    refine TGo.toz _ ((u2_n (Or.inl (by omega))).trans ((u2_n (Or.inl (by omega))).trans ((u2_n (Or.inl (by omega))).trans ((u2_n (Or.inl (by omega))).trans ((u2_n (Or.inl (by omega))).trans (u2_n (Or.inl (by omega)))))))) ?_
                    refine TGo.toz met (hsh) ?_
                    refine TGo.ic1 dX10_goesOn_288 ?_
                    refine TGo.iadd dX10_goesOn_289 ?_
                    refine TGo.goto 299 dX10_goesOn_290 (by decide) ?_
                    first | refine TGo.toz met hsh ?_ | skip
                    refine TGo.iast dX10_goesOn_299 (hT 38 (by decide)) (by omega) rfl ?_
                    refine TGo.ic1 dX10_goesOn_300 ?_
                    refine TGo.zret dX10_goesOn_301 rfl (by first | exact Or.inl rfl | exact Or.inr rfl | exact bZ_or _ | assumption) ?_
                    first
                    | (exfalso; omega)
                    | (refine ⟨_, rfl, rfl, rfl, (((((((hz.t 39 rfl).t 36 rfl).t 37 rfl).t 34 rfl).t 35 rfl).t 33 rfl).t 38 rfl), FrG.rf.i (by omega) |>.i (by omega) |>.i (by omega) |>.i (by omega) |>.i (by omega) |>.i (by omega) |>.i (by omega), Or.inr ⟨rfl, by omega, ?_, ⟨fun i h0 h1 => ?_, fun i h0 h1 => ?_⟩, (u2_n (Or.inl (by omega))).trans ((u2_n (Or.inl (by omega))).trans ((u2_n (Or.inl (by omega))).trans ((u2_n (Or.inl (by omega))).trans ((u2_n (Or.inl (by omega))).trans ((u2_n (Or.inl (by omega))).trans (u2_s)))))), ?_, ?_, ?_, ?_⟩⟩
                       · unfold tyL
                         first
                         | (rw [if_neg (by omega)]; omega)
                         | (rw [if_pos (by omega), if_pos (by omega)]; omega)
                         | (rw [if_pos (by omega), if_neg (by omega)]; omega)
                       · refine (u2_n (Or.inl (by omega))).trans ((u2_n (Or.inl (by omega))).trans ((u2_n (Or.inl (by omega))).trans (?_)))
                         by_cases e : i = (6 * at0 + z.2 3 (o k + 1))
                         · rw [e, zu_s]; exact u2_s
                         · rw [zu_n e]; exact (u2_n (Or.inr e)).trans ((u2_n (Or.inl (by omega))).trans ((u2_n (Or.inl (by omega))).trans ((u2_n (Or.inl (by omega))).trans (hl.1 i h0 h1))))
                       · refine (u2_n (Or.inl (by omega))).trans ((u2_n (Or.inl (by omega))).trans (?_))
                         by_cases e : i = (6 * at0 + z.2 3 (o k + 1))
                         · rw [e]; refine u2_s.trans ?_
                           first | (rw [if_pos (by omega)]; exact zu_s.symm) | (rw [if_neg (by omega)])
                         · refine (u2_n (Or.inr e)).trans (((u2_n (Or.inl (by omega))).trans ((u2_n (Or.inl (by omega))).trans ((u2_n (Or.inl (by omega))).trans ((u2_n (Or.inl (by omega))).trans (hl.2 i h0 h1))))).trans ?_)
                           first | (rw [if_pos (by omega)]; exact (zu_n e).symm) | (rw [if_neg (by omega)])
                       · refine ((u2_n (Or.inl (by omega))).trans ((u2_n (Or.inl (by omega))).trans ((u2_n (Or.inl (by omega))).trans ((u2_n (Or.inl (by omega))).trans ((u2_n (Or.inl (by omega))).trans (u2_s)))))).trans ?_
                         first | exact (bZ_t (by omega)).symm | exact (bZ_f (by omega)).symm
                       · refine ((u2_n (Or.inl (by omega))).trans ((u2_n (Or.inl (by omega))).trans ((u2_n (Or.inl (by omega))).trans ((u2_n (Or.inl (by omega))).trans (u2_s))))).trans ?_
                         first | exact (bZ_t (by omega)).symm | exact (bZ_f (by omega)).symm
                       · refine ((u2_n (Or.inl (by omega))).trans (u2_s)).trans ?_
                         first
                         | (rw [if_pos (show laL (z.2 3) o n1 k by omega)])
                         | (rw [if_neg (show ¬ laL (z.2 3) o n1 k by omega), if_pos (by omega)]; exact zu_s.symm)
                         | (rw [if_neg (show ¬ laL (z.2 3) o n1 k by omega), if_neg (by omega)])
                       · refine u2_s.trans ?_
                         first | (rw [if_pos (by omega)]) | (rw [if_neg (by omega)]))
            · refine TGo.al0 dX10_goesOn_155 rfl ?_
              refine TGo.getS (t := 18) 68 68 (T + 39) (hT 0 (by decide)) rfl fgX10_154_10 dX10_goesOn_156 rfl rfl rfl ?_
              refine TGo.il1 dX10_goesOn_159 rfl ?_
              refine TGo.ldcw 1000000 dX10_goesOn_160 q2499 (by decide) ?_
              refine TGo.iast dX10_goesOn_163 (hT 39 (by decide)) (by omega) rfl ?_
              refine TGo.ic0 dX10_goesOn_164 ?_
              refine TGo.zret dX10_goesOn_165 rfl (by first | exact Or.inl rfl | exact Or.inr rfl | exact bZ_or _ | assumption) ?_
              first
              | (exfalso; omega)
              | (refine ⟨_, rfl, rfl, rfl, ((hz.t 39 rfl).t 39 rfl), FrG.rf.i (by omega) |>.i (by omega), Or.inl ⟨rfl, ?_, ⟨fun i h0 h1 => (u2_n (Or.inl (by omega))).trans ((u2_n (Or.inl (by omega))).trans (hl.1 i h0 h1)), fun i h0 h1 => (u2_n (Or.inl (by omega))).trans ((u2_n (Or.inl (by omega))).trans (hl.2 i h0 h1))⟩, (u2_n (Or.inl (by omega))).trans ((u2_n (Or.inl (by omega))).trans (ha)), (u2_n (Or.inl (by omega))).trans ((u2_n (Or.inl (by omega))).trans (hb))⟩⟩
                 first
                 | exact Or.inl (by omega)
                 | (refine Or.inr ?_
                    unfold tyL
                    first
                    | (rw [if_neg (by omega)]; omega)
                    | (rw [if_pos (by omega), if_pos (by omega)]; omega)
                    | (rw [if_pos (by omega), if_neg (by omega)]; omega)))
          · refine TGo.al0 dX10_goesOn_121 rfl ?_
            refine TGo.getS (t := 18) 67 67 (T + 38) (hT 0 (by decide)) rfl fgX10_151_10 dX10_goesOn_122 rfl rfl rfl ?_
            refine TGo.il1 dX10_goesOn_125 rfl ?_
            refine TGo.iald dX10_goesOn_126 (hT 38 (by decide)) (by omega) rfl ?_
            refine TGo.toz _ (u2_n (Or.inl (by omega))) ?_
            refine TGo.toz met (hsh) ?_
            refine TGo.ic1 dX10_goesOn_127 ?_
            refine TGo.iadd dX10_goesOn_128 ?_
            refine TGo.goto 142 dX10_goesOn_129 (by decide) ?_
            refine TGo.is dX10_goesOn_142 rfl rfl ?_
            refine TGo.al0 dX10_goesOn_144 rfl ?_
            refine TGo.getS (t := 18) 68 68 (T + 39) (hT 0 (by decide)) rfl fgX10_154_10 dX10_goesOn_145 rfl rfl rfl ?_
            refine TGo.il1 dX10_goesOn_148 rfl ?_
            refine TGo.iald dX10_goesOn_149 (hT 39 (by decide)) (by omega) rfl ?_
            refine TGo.toz t (u2_s) ?_
            refine TGo.il dX10_goesOn_150 rfl ?_
            refine TGo.icmp_lt 166 dX10_goesOn_152 (by decide) (by omega) (fun h152 => ?_) (fun h152 => ?_)
            · refine TGo.al0 dX10_goesOn_166 rfl ?_
              refine TGo.getS (t := 18) 65 65 (T + 36) (hT 0 (by decide)) rfl fgX10_145_10 dX10_goesOn_167 rfl rfl rfl ?_
              refine TGo.il1 dX10_goesOn_170 rfl ?_
              refine TGo.al0 dX10_goesOn_171 rfl ?_
              refine TGo.getS (t := 18) 63 63 (T + 34) (hT 0 (by decide)) rfl fgX10_139_10 dX10_goesOn_172 rfl rfl rfl ?_
              refine TGo.il3 dX10_goesOn_175 rfl ?_
              refine TGo.iald dX10_goesOn_176 (hT 34 (by decide)) (by omega) rfl ?_
              refine TGo.toz _ (u2_n (Or.inl (by omega))) ?_
              refine TGo.toz (Wd (6 * at0 + z.2 3 (o k + 1))) (hl.1 _ (by omega) (by omega)) ?_
              refine TGo.icm1 dX10_goesOn_177 ?_
              refine TGo.icmp_ne 185 dX10_goesOn_178 (by decide) (by omega) (fun h178 => ?_) (fun h178 => ?_)
              · refine TGo.ic0 dX10_goesOn_185 ?_
                refine TGo.zast dX10_goesOn_186 (hT 36 (by decide)) (by omega) rfl (by first | exact Or.inl rfl | exact Or.inr rfl | exact bZ_or _ | assumption) ?_
                refine TGo.al0 dX10_goesOn_187 rfl ?_
                refine TGo.getS (t := 18) 66 66 (T + 37) (hT 0 (by decide)) rfl fgX10_148_10 dX10_goesOn_188 rfl rfl rfl ?_
                refine TGo.il1 dX10_goesOn_191 rfl ?_
                refine TGo.il dX10_goesOn_192 rfl ?_
                refine TGo.zast dX10_goesOn_194 (hT 37 (by decide)) (by omega) rfl (by first | exact Or.inl rfl | exact Or.inr rfl | exact bZ_or _ | assumption) ?_
                refine TGo.al0 dX10_goesOn_195 rfl ?_
                refine TGo.getS (t := 18) 63 63 (T + 34) (hT 0 (by decide)) rfl fgX10_139_10 dX10_goesOn_196 rfl rfl rfl ?_
                refine TGo.il3 dX10_goesOn_199 rfl ?_
                refine TGo.il dX10_goesOn_200 rfl ?_
                refine TGo.iast dX10_goesOn_202 (hT 34 (by decide)) (by omega) rfl ?_
                refine TGo.al0 dX10_goesOn_203 rfl ?_
                refine TGo.getS (t := 18) 64 64 (T + 35) (hT 0 (by decide)) rfl fgX10_142_10 dX10_goesOn_204 rfl rfl rfl ?_
                refine TGo.il3 dX10_goesOn_207 rfl ?_
                refine TGo.il dX10_goesOn_208 rfl ?_
                refine TGo.if_eq 222 dX10_goesOn_210 (by decide) (by decide) (fun h => absurd h (by decide)) (fun _ => ?_)
                refine TGo.al0 dX10_goesOn_213 rfl ?_
                refine TGo.getS (t := 18) 68 68 (T + 39) (hT 0 (by decide)) rfl fgX10_154_10 dX10_goesOn_214 rfl rfl rfl ?_
                refine TGo.il1 dX10_goesOn_217 rfl ?_
                refine TGo.iald dX10_goesOn_218 (hT 39 (by decide)) (by omega) rfl ?_
                refine TGo.toz t ((u2_n (Or.inl (by omega))).trans ((u2_n (Or.inl (by omega))).trans ((u2_n (Or.inl (by omega))).trans (u2_s)))) ?_
                refine TGo.goto 228 dX10_goesOn_219 (by decide) ?_
                first | refine TGo.toz (Nx (6 * at0 + z.2 3 (o k + 1))) (hl.2 _ (by omega) (by omega)) ?_ | skip
                refine TGo.iast dX10_goesOn_228 (hT 35 (by decide)) (by omega) rfl ?_
                refine TGo.al0 dX10_goesOn_229 rfl ?_
                refine TGo.getS (t := 18) 62 62 (T + 33) (hT 0 (by decide)) rfl fgX10_136_10 dX10_goesOn_230 rfl rfl rfl ?_
                refine TGo.il1 dX10_goesOn_233 rfl ?_
                refine TGo.ic1 dX10_goesOn_234 ?_
                refine TGo.iadd dX10_goesOn_235 ?_
                refine TGo.al0 dX10_goesOn_236 rfl ?_
                refine TGo.il1 dX10_goesOn_237 rfl ?_
                refine TGo.cF (csV1 (y2 := mX10_isLast) (t := 18) 1 rfl (hT 0 (by decide)) rfl rfl dX10_goesOn_238 q2544 q2546 qs107 okX10_isLast npX10_isLast rfl rfl) (kX10_isLast hT (((((hz.t 39 rfl).t 36 rfl).t 37 rfl).t 34 rfl).t 35 rfl) hn1 hn12 hof (fun i h0 h1 => by first | exact hov i h0 h1 | exact (u2_n (Or.inl (by omega))).trans (hov i h0 h1) | exact (u2_n (Or.inl (by omega))).trans ((u2_n (Or.inl (by omega))).trans ((u2_n (Or.inl (by omega))).trans ((u2_n (Or.inl (by omega))).trans ((u2_n (Or.inl (by omega))).trans (hov i h0 h1)))))) hk) ?_
                refine TGo.ifb_eq 248 dX10_goesOn_241 (by decide) (fun h241 => ?_) (fun h241 => ?_)
                · refine TGo.al0 dX10_goesOn_248 rfl ?_
                  refine TGo.getS (t := 18) 64 64 (T + 35) (hT 0 (by decide)) rfl fgX10_142_10 dX10_goesOn_249 rfl rfl rfl ?_
                  refine TGo.il3 dX10_goesOn_252 rfl ?_
                  refine TGo.iald dX10_goesOn_253 (hT 35 (by decide)) (by omega) rfl ?_
                  first | refine TGo.toz t u2_s ?_ | refine TGo.toz (Nx (6 * at0 + z.2 3 (o k + 1))) u2_s ?_ | skip
                  refine TGo.iast dX10_goesOn_254 (hT 33 (by decide)) (by omega) rfl ?_
                  refine TGo.al0 dX10_goesOn_255 rfl ?_
                  refine TGo.getS (t := 18) 67 67 (T + 38) (hT 0 (by decide)) rfl fgX10_151_10 dX10_goesOn_256 rfl rfl rfl ?_
                  refine TGo.il1 dX10_goesOn_259 rfl ?_
                  refine TGo.ic1 dX10_goesOn_260 ?_
                  refine TGo.iadd dX10_goesOn_261 ?_
                  refine TGo.il dX10_goesOn_262 rfl ?_
                  refine TGo.if_eq 293 dX10_goesOn_264 (by decide) (by decide) (fun h => absurd h (by decide)) (fun _ => ?_)
                  refine TGo.al0 dX10_goesOn_267 rfl ?_
                  refine TGo.getS (t := 18) 68 68 (T + 39) (hT 0 (by decide)) rfl fgX10_154_10 dX10_goesOn_268 rfl rfl rfl ?_
                  refine TGo.il1 dX10_goesOn_271 rfl ?_
                  refine TGo.iald dX10_goesOn_272 (hT 39 (by decide)) (by omega) rfl ?_
                  refine TGo.toz t ((u2_n (Or.inl (by omega))).trans ((u2_n (Or.inl (by omega))).trans ((u2_n (Or.inl (by omega))).trans ((u2_n (Or.inl (by omega))).trans ((u2_n (Or.inl (by omega))).trans (u2_s)))))) ?_
                  refine TGo.al0 dX10_goesOn_273 rfl ?_
                  refine TGo.getS (t := 18) 67 67 (T + 38) (hT 0 (by decide)) rfl fgX10_151_10 dX10_goesOn_274 rfl rfl rfl ?_
                  refine TGo.il1 dX10_goesOn_277 rfl ?_
                  refine TGo.iald dX10_goesOn_278 (hT 38 (by decide)) (by omega) rfl ?_
                  refine TGo.toz _ ((u2_n (Or.inl (by omega))).trans ((u2_n (Or.inl (by omega))).trans ((u2_n (Or.inl (by omega))).trans ((u2_n (Or.inl (by omega))).trans ((u2_n (Or.inl (by omega))).trans (u2_n (Or.inl (by omega)))))))) ?_
                  refine TGo.toz met (hsh) ?_
                  refine TGo.icmp_ne 293 dX10_goesOn_279 (by decide) (by omega) (fun h279 => ?_) (fun h279 => ?_)
                  · refine TGo.al0 dX10_goesOn_293 rfl ?_
                    refine TGo.getS (t := 18) 67 67 (T + 38) (hT 0 (by decide)) rfl fgX10_151_10 dX10_goesOn_294 rfl rfl rfl ?_
                    refine TGo.il1 dX10_goesOn_297 rfl ?_
                    refine TGo.iald dX10_goesOn_298 (hT 38 (by decide)) (by omega) rfl ?_
                    refine TGo.toz _ ((u2_n (Or.inl (by omega))).trans ((u2_n (Or.inl (by omega))).trans ((u2_n (Or.inl (by omega))).trans ((u2_n (Or.inl (by omega))).trans ((u2_n (Or.inl (by omega))).trans (u2_n (Or.inl (by omega)))))))) ?_
                    first | refine TGo.toz met hsh ?_ | skip
                    refine TGo.iast dX10_goesOn_299 (hT 38 (by decide)) (by omega) rfl ?_
                    refine TGo.ic1 dX10_goesOn_300 ?_
                    refine TGo.zret dX10_goesOn_301 rfl (by first | exact Or.inl rfl | exact Or.inr rfl | exact bZ_or _ | assumption) ?_
                    first
                    | (exfalso; omega)
                    | (refine ⟨_, rfl, rfl, rfl, (((((((hz.t 39 rfl).t 36 rfl).t 37 rfl).t 34 rfl).t 35 rfl).t 33 rfl).t 38 rfl), FrG.rf.i (by omega) |>.i (by omega) |>.i (by omega) |>.i (by omega) |>.i (by omega) |>.i (by omega) |>.i (by omega), Or.inr ⟨rfl, by omega, ?_, ⟨fun i h0 h1 => ?_, fun i h0 h1 => ?_⟩, (u2_n (Or.inl (by omega))).trans ((u2_n (Or.inl (by omega))).trans ((u2_n (Or.inl (by omega))).trans ((u2_n (Or.inl (by omega))).trans ((u2_n (Or.inl (by omega))).trans ((u2_n (Or.inl (by omega))).trans (u2_s)))))), ?_, ?_, ?_, ?_⟩⟩
                       · unfold tyL
                         first
                         | (rw [if_neg (by omega)]; omega)
                         | (rw [if_pos (by omega), if_pos (by omega)]; omega)
                         | (rw [if_pos (by omega), if_neg (by omega)]; omega)
                       · refine (u2_n (Or.inl (by omega))).trans ((u2_n (Or.inl (by omega))).trans ((u2_n (Or.inl (by omega))).trans (?_)))
                         by_cases e : i = (6 * at0 + z.2 3 (o k + 1))
                         · rw [e, zu_s]; exact u2_s
                         · rw [zu_n e]; exact (u2_n (Or.inr e)).trans ((u2_n (Or.inl (by omega))).trans ((u2_n (Or.inl (by omega))).trans ((u2_n (Or.inl (by omega))).trans (hl.1 i h0 h1))))
                       · refine (u2_n (Or.inl (by omega))).trans ((u2_n (Or.inl (by omega))).trans (?_))
                         by_cases e : i = (6 * at0 + z.2 3 (o k + 1))
                         · rw [e]; refine u2_s.trans ?_
                           first | (rw [if_pos (by omega)]; exact zu_s.symm) | (rw [if_neg (by omega)])
                         · refine (u2_n (Or.inr e)).trans (((u2_n (Or.inl (by omega))).trans ((u2_n (Or.inl (by omega))).trans ((u2_n (Or.inl (by omega))).trans ((u2_n (Or.inl (by omega))).trans (hl.2 i h0 h1))))).trans ?_)
                           first | (rw [if_pos (by omega)]; exact (zu_n e).symm) | (rw [if_neg (by omega)])
                       · refine ((u2_n (Or.inl (by omega))).trans ((u2_n (Or.inl (by omega))).trans ((u2_n (Or.inl (by omega))).trans ((u2_n (Or.inl (by omega))).trans ((u2_n (Or.inl (by omega))).trans (u2_s)))))).trans ?_
                         first | exact (bZ_t (by omega)).symm | exact (bZ_f (by omega)).symm
                       · refine ((u2_n (Or.inl (by omega))).trans ((u2_n (Or.inl (by omega))).trans ((u2_n (Or.inl (by omega))).trans ((u2_n (Or.inl (by omega))).trans (u2_s))))).trans ?_
                         first | exact (bZ_t (by omega)).symm | exact (bZ_f (by omega)).symm
                       · refine ((u2_n (Or.inl (by omega))).trans (u2_s)).trans ?_
                         first
                         | (rw [if_pos (show laL (z.2 3) o n1 k by omega)])
                         | (rw [if_neg (show ¬ laL (z.2 3) o n1 k by omega), if_pos (by omega)]; exact zu_s.symm)
                         | (rw [if_neg (show ¬ laL (z.2 3) o n1 k by omega), if_neg (by omega)])
                       · refine u2_s.trans ?_
                         first | (rw [if_pos (by omega)]) | (rw [if_neg (by omega)]))
                  · refine TGo.al0 dX10_goesOn_282 rfl ?_
                    refine TGo.getS (t := 18) 67 67 (T + 38) (hT 0 (by decide)) rfl fgX10_151_10 dX10_goesOn_283 rfl rfl rfl ?_
                    refine TGo.il1 dX10_goesOn_286 rfl ?_
                    refine TGo.iald dX10_goesOn_287 (hT 38 (by decide)) (by omega) rfl ?_
                    refine TGo.toz _ ((u2_n (Or.inl (by omega))).trans ((u2_n (Or.inl (by omega))).trans ((u2_n (Or.inl (by omega))).trans ((u2_n (Or.inl (by omega))).trans ((u2_n (Or.inl (by omega))).trans (u2_n (Or.inl (by omega)))))))) ?_
                    refine TGo.toz met (hsh) ?_
                    refine TGo.ic1 dX10_goesOn_288 ?_
                    refine TGo.iadd dX10_goesOn_289 ?_
                    refine TGo.goto 299 dX10_goesOn_290 (by decide) ?_
                    first | refine TGo.toz met hsh ?_ | skip
                    refine TGo.iast dX10_goesOn_299 (hT 38 (by decide)) (by omega) rfl ?_
                    refine TGo.ic1 dX10_goesOn_300 ?_
                    refine TGo.zret dX10_goesOn_301 rfl (by first | exact Or.inl rfl | exact Or.inr rfl | exact bZ_or _ | assumption) ?_
                    first
                    | (exfalso; omega)
                    | (refine ⟨_, rfl, rfl, rfl, (((((((hz.t 39 rfl).t 36 rfl).t 37 rfl).t 34 rfl).t 35 rfl).t 33 rfl).t 38 rfl), FrG.rf.i (by omega) |>.i (by omega) |>.i (by omega) |>.i (by omega) |>.i (by omega) |>.i (by omega) |>.i (by omega), Or.inr ⟨rfl, by omega, ?_, ⟨fun i h0 h1 => ?_, fun i h0 h1 => ?_⟩, (u2_n (Or.inl (by omega))).trans ((u2_n (Or.inl (by omega))).trans ((u2_n (Or.inl (by omega))).trans ((u2_n (Or.inl (by omega))).trans ((u2_n (Or.inl (by omega))).trans ((u2_n (Or.inl (by omega))).trans (u2_s)))))), ?_, ?_, ?_, ?_⟩⟩
                       · unfold tyL
                         first
                         | (rw [if_neg (by omega)]; omega)
                         | (rw [if_pos (by omega), if_pos (by omega)]; omega)
                         | (rw [if_pos (by omega), if_neg (by omega)]; omega)
                       · refine (u2_n (Or.inl (by omega))).trans ((u2_n (Or.inl (by omega))).trans ((u2_n (Or.inl (by omega))).trans (?_)))
                         by_cases e : i = (6 * at0 + z.2 3 (o k + 1))
                         · rw [e, zu_s]; exact u2_s
                         · rw [zu_n e]; exact (u2_n (Or.inr e)).trans ((u2_n (Or.inl (by omega))).trans ((u2_n (Or.inl (by omega))).trans ((u2_n (Or.inl (by omega))).trans (hl.1 i h0 h1))))
                       · refine (u2_n (Or.inl (by omega))).trans ((u2_n (Or.inl (by omega))).trans (?_))
                         by_cases e : i = (6 * at0 + z.2 3 (o k + 1))
                         · rw [e]; refine u2_s.trans ?_
                           first | (rw [if_pos (by omega)]; exact zu_s.symm) | (rw [if_neg (by omega)])
                         · refine (u2_n (Or.inr e)).trans (((u2_n (Or.inl (by omega))).trans ((u2_n (Or.inl (by omega))).trans ((u2_n (Or.inl (by omega))).trans ((u2_n (Or.inl (by omega))).trans (hl.2 i h0 h1))))).trans ?_)
                           first | (rw [if_pos (by omega)]; exact (zu_n e).symm) | (rw [if_neg (by omega)])
                       · refine ((u2_n (Or.inl (by omega))).trans ((u2_n (Or.inl (by omega))).trans ((u2_n (Or.inl (by omega))).trans ((u2_n (Or.inl (by omega))).trans ((u2_n (Or.inl (by omega))).trans (u2_s)))))).trans ?_
                         first | exact (bZ_t (by omega)).symm | exact (bZ_f (by omega)).symm
                       · refine ((u2_n (Or.inl (by omega))).trans ((u2_n (Or.inl (by omega))).trans ((u2_n (Or.inl (by omega))).trans ((u2_n (Or.inl (by omega))).trans (u2_s))))).trans ?_
                         first | exact (bZ_t (by omega)).symm | exact (bZ_f (by omega)).symm
                       · refine ((u2_n (Or.inl (by omega))).trans (u2_s)).trans ?_
                         first
                         | (rw [if_pos (show laL (z.2 3) o n1 k by omega)])
                         | (rw [if_neg (show ¬ laL (z.2 3) o n1 k by omega), if_pos (by omega)]; exact zu_s.symm)
                         | (rw [if_neg (show ¬ laL (z.2 3) o n1 k by omega), if_neg (by omega)])
                       · refine u2_s.trans ?_
                         first | (rw [if_pos (by omega)]) | (rw [if_neg (by omega)]))
                · refine TGo.ic0 dX10_goesOn_244 ?_
                  refine TGo.goto 254 dX10_goesOn_245 (by decide) ?_
                  first | refine TGo.toz t u2_s ?_ | refine TGo.toz (Nx (6 * at0 + z.2 3 (o k + 1))) u2_s ?_ | skip
                  refine TGo.iast dX10_goesOn_254 (hT 33 (by decide)) (by omega) rfl ?_
                  refine TGo.al0 dX10_goesOn_255 rfl ?_
                  refine TGo.getS (t := 18) 67 67 (T + 38) (hT 0 (by decide)) rfl fgX10_151_10 dX10_goesOn_256 rfl rfl rfl ?_
                  refine TGo.il1 dX10_goesOn_259 rfl ?_
                  refine TGo.ic1 dX10_goesOn_260 ?_
                  refine TGo.iadd dX10_goesOn_261 ?_
                  refine TGo.il dX10_goesOn_262 rfl ?_
                  refine TGo.if_eq 293 dX10_goesOn_264 (by decide) (by decide) (fun h => absurd h (by decide)) (fun _ => ?_)
                  refine TGo.al0 dX10_goesOn_267 rfl ?_
                  refine TGo.getS (t := 18) 68 68 (T + 39) (hT 0 (by decide)) rfl fgX10_154_10 dX10_goesOn_268 rfl rfl rfl ?_
                  refine TGo.il1 dX10_goesOn_271 rfl ?_
                  refine TGo.iald dX10_goesOn_272 (hT 39 (by decide)) (by omega) rfl ?_
                  refine TGo.toz t ((u2_n (Or.inl (by omega))).trans ((u2_n (Or.inl (by omega))).trans ((u2_n (Or.inl (by omega))).trans ((u2_n (Or.inl (by omega))).trans ((u2_n (Or.inl (by omega))).trans (u2_s)))))) ?_
                  refine TGo.al0 dX10_goesOn_273 rfl ?_
                  refine TGo.getS (t := 18) 67 67 (T + 38) (hT 0 (by decide)) rfl fgX10_151_10 dX10_goesOn_274 rfl rfl rfl ?_
                  refine TGo.il1 dX10_goesOn_277 rfl ?_
                  refine TGo.iald dX10_goesOn_278 (hT 38 (by decide)) (by omega) rfl ?_
                  refine TGo.toz _ ((u2_n (Or.inl (by omega))).trans ((u2_n (Or.inl (by omega))).trans ((u2_n (Or.inl (by omega))).trans ((u2_n (Or.inl (by omega))).trans ((u2_n (Or.inl (by omega))).trans (u2_n (Or.inl (by omega)))))))) ?_
                  refine TGo.toz met (hsh) ?_
                  refine TGo.icmp_ne 293 dX10_goesOn_279 (by decide) (by omega) (fun h279 => ?_) (fun h279 => ?_)
                  · refine TGo.al0 dX10_goesOn_293 rfl ?_
                    refine TGo.getS (t := 18) 67 67 (T + 38) (hT 0 (by decide)) rfl fgX10_151_10 dX10_goesOn_294 rfl rfl rfl ?_
                    refine TGo.il1 dX10_goesOn_297 rfl ?_
                    refine TGo.iald dX10_goesOn_298 (hT 38 (by decide)) (by omega) rfl ?_
                    refine TGo.toz _ ((u2_n (Or.inl (by omega))).trans ((u2_n (Or.inl (by omega))).trans ((u2_n (Or.inl (by omega))).trans ((u2_n (Or.inl (by omega))).trans ((u2_n (Or.inl (by omega))).trans (u2_n (Or.inl (by omega)))))))) ?_
                    first | refine TGo.toz met hsh ?_ | skip
                    refine TGo.iast dX10_goesOn_299 (hT 38 (by decide)) (by omega) rfl ?_
                    refine TGo.ic1 dX10_goesOn_300 ?_
                    refine TGo.zret dX10_goesOn_301 rfl (by first | exact Or.inl rfl | exact Or.inr rfl | exact bZ_or _ | assumption) ?_
                    first
                    | (exfalso; omega)
                    | (refine ⟨_, rfl, rfl, rfl, (((((((hz.t 39 rfl).t 36 rfl).t 37 rfl).t 34 rfl).t 35 rfl).t 33 rfl).t 38 rfl), FrG.rf.i (by omega) |>.i (by omega) |>.i (by omega) |>.i (by omega) |>.i (by omega) |>.i (by omega) |>.i (by omega), Or.inr ⟨rfl, by omega, ?_, ⟨fun i h0 h1 => ?_, fun i h0 h1 => ?_⟩, (u2_n (Or.inl (by omega))).trans ((u2_n (Or.inl (by omega))).trans ((u2_n (Or.inl (by omega))).trans ((u2_n (Or.inl (by omega))).trans ((u2_n (Or.inl (by omega))).trans ((u2_n (Or.inl (by omega))).trans (u2_s)))))), ?_, ?_, ?_, ?_⟩⟩
                       · unfold tyL
                         first
                         | (rw [if_neg (by omega)]; omega)
                         | (rw [if_pos (by omega), if_pos (by omega)]; omega)
                         | (rw [if_pos (by omega), if_neg (by omega)]; omega)
                       · refine (u2_n (Or.inl (by omega))).trans ((u2_n (Or.inl (by omega))).trans ((u2_n (Or.inl (by omega))).trans (?_)))
                         by_cases e : i = (6 * at0 + z.2 3 (o k + 1))
                         · rw [e, zu_s]; exact u2_s
                         · rw [zu_n e]; exact (u2_n (Or.inr e)).trans ((u2_n (Or.inl (by omega))).trans ((u2_n (Or.inl (by omega))).trans ((u2_n (Or.inl (by omega))).trans (hl.1 i h0 h1))))
                       · refine (u2_n (Or.inl (by omega))).trans ((u2_n (Or.inl (by omega))).trans (?_))
                         by_cases e : i = (6 * at0 + z.2 3 (o k + 1))
                         · rw [e]; refine u2_s.trans ?_
                           first | (rw [if_pos (by omega)]; exact zu_s.symm) | (rw [if_neg (by omega)])
                         · refine (u2_n (Or.inr e)).trans (((u2_n (Or.inl (by omega))).trans ((u2_n (Or.inl (by omega))).trans ((u2_n (Or.inl (by omega))).trans ((u2_n (Or.inl (by omega))).trans (hl.2 i h0 h1))))).trans ?_)
                           first | (rw [if_pos (by omega)]; exact (zu_n e).symm) | (rw [if_neg (by omega)])
                       · refine ((u2_n (Or.inl (by omega))).trans ((u2_n (Or.inl (by omega))).trans ((u2_n (Or.inl (by omega))).trans ((u2_n (Or.inl (by omega))).trans ((u2_n (Or.inl (by omega))).trans (u2_s)))))).trans ?_
                         first | exact (bZ_t (by omega)).symm | exact (bZ_f (by omega)).symm
                       · refine ((u2_n (Or.inl (by omega))).trans ((u2_n (Or.inl (by omega))).trans ((u2_n (Or.inl (by omega))).trans ((u2_n (Or.inl (by omega))).trans (u2_s))))).trans ?_
                         first | exact (bZ_t (by omega)).symm | exact (bZ_f (by omega)).symm
                       · refine ((u2_n (Or.inl (by omega))).trans (u2_s)).trans ?_
                         first
                         | (rw [if_pos (show laL (z.2 3) o n1 k by omega)])
                         | (rw [if_neg (show ¬ laL (z.2 3) o n1 k by omega), if_pos (by omega)]; exact zu_s.symm)
                         | (rw [if_neg (show ¬ laL (z.2 3) o n1 k by omega), if_neg (by omega)])
                       · refine u2_s.trans ?_
                         first | (rw [if_pos (by omega)]) | (rw [if_neg (by omega)]))
                  · refine TGo.al0 dX10_goesOn_282 rfl ?_
                    refine TGo.getS (t := 18) 67 67 (T + 38) (hT 0 (by decide)) rfl fgX10_151_10 dX10_goesOn_283 rfl rfl rfl ?_
                    refine TGo.il1 dX10_goesOn_286 rfl ?_
                    refine TGo.iald dX10_goesOn_287 (hT 38 (by decide)) (by omega) rfl ?_
                    refine TGo.toz _ ((u2_n (Or.inl (by omega))).trans ((u2_n (Or.inl (by omega))).trans ((u2_n (Or.inl (by omega))).trans ((u2_n (Or.inl (by omega))).trans ((u2_n (Or.inl (by omega))).trans (u2_n (Or.inl (by omega)))))))) ?_
                    refine TGo.toz met (hsh) ?_
                    refine TGo.ic1 dX10_goesOn_288 ?_
                    refine TGo.iadd dX10_goesOn_289 ?_
                    refine TGo.goto 299 dX10_goesOn_290 (by decide) ?_
                    first | refine TGo.toz met hsh ?_ | skip
                    refine TGo.iast dX10_goesOn_299 (hT 38 (by decide)) (by omega) rfl ?_
                    refine TGo.ic1 dX10_goesOn_300 ?_
                    refine TGo.zret dX10_goesOn_301 rfl (by first | exact Or.inl rfl | exact Or.inr rfl | exact bZ_or _ | assumption) ?_
                    first
                    | (exfalso; omega)
                    | (refine ⟨_, rfl, rfl, rfl, (((((((hz.t 39 rfl).t 36 rfl).t 37 rfl).t 34 rfl).t 35 rfl).t 33 rfl).t 38 rfl), FrG.rf.i (by omega) |>.i (by omega) |>.i (by omega) |>.i (by omega) |>.i (by omega) |>.i (by omega) |>.i (by omega), Or.inr ⟨rfl, by omega, ?_, ⟨fun i h0 h1 => ?_, fun i h0 h1 => ?_⟩, (u2_n (Or.inl (by omega))).trans ((u2_n (Or.inl (by omega))).trans ((u2_n (Or.inl (by omega))).trans ((u2_n (Or.inl (by omega))).trans ((u2_n (Or.inl (by omega))).trans ((u2_n (Or.inl (by omega))).trans (u2_s)))))), ?_, ?_, ?_, ?_⟩⟩
                       · unfold tyL
                         first
                         | (rw [if_neg (by omega)]; omega)
                         | (rw [if_pos (by omega), if_pos (by omega)]; omega)
                         | (rw [if_pos (by omega), if_neg (by omega)]; omega)
                       · refine (u2_n (Or.inl (by omega))).trans ((u2_n (Or.inl (by omega))).trans ((u2_n (Or.inl (by omega))).trans (?_)))
                         by_cases e : i = (6 * at0 + z.2 3 (o k + 1))
                         · rw [e, zu_s]; exact u2_s
                         · rw [zu_n e]; exact (u2_n (Or.inr e)).trans ((u2_n (Or.inl (by omega))).trans ((u2_n (Or.inl (by omega))).trans ((u2_n (Or.inl (by omega))).trans (hl.1 i h0 h1))))
                       · refine (u2_n (Or.inl (by omega))).trans ((u2_n (Or.inl (by omega))).trans (?_))
                         by_cases e : i = (6 * at0 + z.2 3 (o k + 1))
                         · rw [e]; refine u2_s.trans ?_
                           first | (rw [if_pos (by omega)]; exact zu_s.symm) | (rw [if_neg (by omega)])
                         · refine (u2_n (Or.inr e)).trans (((u2_n (Or.inl (by omega))).trans ((u2_n (Or.inl (by omega))).trans ((u2_n (Or.inl (by omega))).trans ((u2_n (Or.inl (by omega))).trans (hl.2 i h0 h1))))).trans ?_)
                           first | (rw [if_pos (by omega)]; exact (zu_n e).symm) | (rw [if_neg (by omega)])
                       · refine ((u2_n (Or.inl (by omega))).trans ((u2_n (Or.inl (by omega))).trans ((u2_n (Or.inl (by omega))).trans ((u2_n (Or.inl (by omega))).trans ((u2_n (Or.inl (by omega))).trans (u2_s)))))).trans ?_
                         first | exact (bZ_t (by omega)).symm | exact (bZ_f (by omega)).symm
                       · refine ((u2_n (Or.inl (by omega))).trans ((u2_n (Or.inl (by omega))).trans ((u2_n (Or.inl (by omega))).trans ((u2_n (Or.inl (by omega))).trans (u2_s))))).trans ?_
                         first | exact (bZ_t (by omega)).symm | exact (bZ_f (by omega)).symm
                       · refine ((u2_n (Or.inl (by omega))).trans (u2_s)).trans ?_
                         first
                         | (rw [if_pos (show laL (z.2 3) o n1 k by omega)])
                         | (rw [if_neg (show ¬ laL (z.2 3) o n1 k by omega), if_pos (by omega)]; exact zu_s.symm)
                         | (rw [if_neg (show ¬ laL (z.2 3) o n1 k by omega), if_neg (by omega)])
                       · refine u2_s.trans ?_
                         first | (rw [if_pos (by omega)]) | (rw [if_neg (by omega)]))
              · refine TGo.ic1 dX10_goesOn_181 ?_
                refine TGo.goto 186 dX10_goesOn_182 (by decide) ?_
                refine TGo.zast dX10_goesOn_186 (hT 36 (by decide)) (by omega) rfl (by first | exact Or.inl rfl | exact Or.inr rfl | exact bZ_or _ | assumption) ?_
                refine TGo.al0 dX10_goesOn_187 rfl ?_
                refine TGo.getS (t := 18) 66 66 (T + 37) (hT 0 (by decide)) rfl fgX10_148_10 dX10_goesOn_188 rfl rfl rfl ?_
                refine TGo.il1 dX10_goesOn_191 rfl ?_
                refine TGo.il dX10_goesOn_192 rfl ?_
                refine TGo.zast dX10_goesOn_194 (hT 37 (by decide)) (by omega) rfl (by first | exact Or.inl rfl | exact Or.inr rfl | exact bZ_or _ | assumption) ?_
                refine TGo.al0 dX10_goesOn_195 rfl ?_
                refine TGo.getS (t := 18) 63 63 (T + 34) (hT 0 (by decide)) rfl fgX10_139_10 dX10_goesOn_196 rfl rfl rfl ?_
                refine TGo.il3 dX10_goesOn_199 rfl ?_
                refine TGo.il dX10_goesOn_200 rfl ?_
                refine TGo.iast dX10_goesOn_202 (hT 34 (by decide)) (by omega) rfl ?_
                refine TGo.al0 dX10_goesOn_203 rfl ?_
                refine TGo.getS (t := 18) 64 64 (T + 35) (hT 0 (by decide)) rfl fgX10_142_10 dX10_goesOn_204 rfl rfl rfl ?_
                refine TGo.il3 dX10_goesOn_207 rfl ?_
                refine TGo.il dX10_goesOn_208 rfl ?_
                refine TGo.if_eq 222 dX10_goesOn_210 (by decide) (by decide) (fun h => absurd h (by decide)) (fun _ => ?_)
                refine TGo.al0 dX10_goesOn_213 rfl ?_
                refine TGo.getS (t := 18) 68 68 (T + 39) (hT 0 (by decide)) rfl fgX10_154_10 dX10_goesOn_214 rfl rfl rfl ?_
                refine TGo.il1 dX10_goesOn_217 rfl ?_
                refine TGo.iald dX10_goesOn_218 (hT 39 (by decide)) (by omega) rfl ?_
                refine TGo.toz t ((u2_n (Or.inl (by omega))).trans ((u2_n (Or.inl (by omega))).trans ((u2_n (Or.inl (by omega))).trans (u2_s)))) ?_
                refine TGo.goto 228 dX10_goesOn_219 (by decide) ?_
                first | refine TGo.toz (Nx (6 * at0 + z.2 3 (o k + 1))) (hl.2 _ (by omega) (by omega)) ?_ | skip
                refine TGo.iast dX10_goesOn_228 (hT 35 (by decide)) (by omega) rfl ?_
                refine TGo.al0 dX10_goesOn_229 rfl ?_
                refine TGo.getS (t := 18) 62 62 (T + 33) (hT 0 (by decide)) rfl fgX10_136_10 dX10_goesOn_230 rfl rfl rfl ?_
                refine TGo.il1 dX10_goesOn_233 rfl ?_
                refine TGo.ic1 dX10_goesOn_234 ?_
                refine TGo.iadd dX10_goesOn_235 ?_
                refine TGo.al0 dX10_goesOn_236 rfl ?_
                refine TGo.il1 dX10_goesOn_237 rfl ?_
                refine TGo.cF (csV1 (y2 := mX10_isLast) (t := 18) 1 rfl (hT 0 (by decide)) rfl rfl dX10_goesOn_238 q2544 q2546 qs107 okX10_isLast npX10_isLast rfl rfl) (kX10_isLast hT (((((hz.t 39 rfl).t 36 rfl).t 37 rfl).t 34 rfl).t 35 rfl) hn1 hn12 hof (fun i h0 h1 => by first | exact hov i h0 h1 | exact (u2_n (Or.inl (by omega))).trans (hov i h0 h1) | exact (u2_n (Or.inl (by omega))).trans ((u2_n (Or.inl (by omega))).trans ((u2_n (Or.inl (by omega))).trans ((u2_n (Or.inl (by omega))).trans ((u2_n (Or.inl (by omega))).trans (hov i h0 h1)))))) hk) ?_
                refine TGo.ifb_eq 248 dX10_goesOn_241 (by decide) (fun h241 => ?_) (fun h241 => ?_)
                · refine TGo.al0 dX10_goesOn_248 rfl ?_
                  refine TGo.getS (t := 18) 64 64 (T + 35) (hT 0 (by decide)) rfl fgX10_142_10 dX10_goesOn_249 rfl rfl rfl ?_
                  refine TGo.il3 dX10_goesOn_252 rfl ?_
                  refine TGo.iald dX10_goesOn_253 (hT 35 (by decide)) (by omega) rfl ?_
                  first | refine TGo.toz t u2_s ?_ | refine TGo.toz (Nx (6 * at0 + z.2 3 (o k + 1))) u2_s ?_ | skip
                  refine TGo.iast dX10_goesOn_254 (hT 33 (by decide)) (by omega) rfl ?_
                  refine TGo.al0 dX10_goesOn_255 rfl ?_
                  refine TGo.getS (t := 18) 67 67 (T + 38) (hT 0 (by decide)) rfl fgX10_151_10 dX10_goesOn_256 rfl rfl rfl ?_
                  refine TGo.il1 dX10_goesOn_259 rfl ?_
                  refine TGo.ic1 dX10_goesOn_260 ?_
                  refine TGo.iadd dX10_goesOn_261 ?_
                  refine TGo.il dX10_goesOn_262 rfl ?_
                  refine TGo.if_eq 293 dX10_goesOn_264 (by decide) (by decide) (fun h => absurd h (by decide)) (fun _ => ?_)
                  refine TGo.al0 dX10_goesOn_267 rfl ?_
                  refine TGo.getS (t := 18) 68 68 (T + 39) (hT 0 (by decide)) rfl fgX10_154_10 dX10_goesOn_268 rfl rfl rfl ?_
                  refine TGo.il1 dX10_goesOn_271 rfl ?_
                  refine TGo.iald dX10_goesOn_272 (hT 39 (by decide)) (by omega) rfl ?_
                  refine TGo.toz t ((u2_n (Or.inl (by omega))).trans ((u2_n (Or.inl (by omega))).trans ((u2_n (Or.inl (by omega))).trans ((u2_n (Or.inl (by omega))).trans ((u2_n (Or.inl (by omega))).trans (u2_s)))))) ?_
                  refine TGo.al0 dX10_goesOn_273 rfl ?_
                  refine TGo.getS (t := 18) 67 67 (T + 38) (hT 0 (by decide)) rfl fgX10_151_10 dX10_goesOn_274 rfl rfl rfl ?_
                  refine TGo.il1 dX10_goesOn_277 rfl ?_
                  refine TGo.iald dX10_goesOn_278 (hT 38 (by decide)) (by omega) rfl ?_
                  refine TGo.toz _ ((u2_n (Or.inl (by omega))).trans ((u2_n (Or.inl (by omega))).trans ((u2_n (Or.inl (by omega))).trans ((u2_n (Or.inl (by omega))).trans ((u2_n (Or.inl (by omega))).trans (u2_n (Or.inl (by omega)))))))) ?_
                  refine TGo.toz met (hsh) ?_
                  refine TGo.icmp_ne 293 dX10_goesOn_279 (by decide) (by omega) (fun h279 => ?_) (fun h279 => ?_)
                  · refine TGo.al0 dX10_goesOn_293 rfl ?_
                    refine TGo.getS (t := 18) 67 67 (T + 38) (hT 0 (by decide)) rfl fgX10_151_10 dX10_goesOn_294 rfl rfl rfl ?_
                    refine TGo.il1 dX10_goesOn_297 rfl ?_
                    refine TGo.iald dX10_goesOn_298 (hT 38 (by decide)) (by omega) rfl ?_
                    refine TGo.toz _ ((u2_n (Or.inl (by omega))).trans ((u2_n (Or.inl (by omega))).trans ((u2_n (Or.inl (by omega))).trans ((u2_n (Or.inl (by omega))).trans ((u2_n (Or.inl (by omega))).trans (u2_n (Or.inl (by omega)))))))) ?_
                    first | refine TGo.toz met hsh ?_ | skip
                    refine TGo.iast dX10_goesOn_299 (hT 38 (by decide)) (by omega) rfl ?_
                    refine TGo.ic1 dX10_goesOn_300 ?_
                    refine TGo.zret dX10_goesOn_301 rfl (by first | exact Or.inl rfl | exact Or.inr rfl | exact bZ_or _ | assumption) ?_
                    first
                    | (exfalso; omega)
                    | (refine ⟨_, rfl, rfl, rfl, (((((((hz.t 39 rfl).t 36 rfl).t 37 rfl).t 34 rfl).t 35 rfl).t 33 rfl).t 38 rfl), FrG.rf.i (by omega) |>.i (by omega) |>.i (by omega) |>.i (by omega) |>.i (by omega) |>.i (by omega) |>.i (by omega), Or.inr ⟨rfl, by omega, ?_, ⟨fun i h0 h1 => ?_, fun i h0 h1 => ?_⟩, (u2_n (Or.inl (by omega))).trans ((u2_n (Or.inl (by omega))).trans ((u2_n (Or.inl (by omega))).trans ((u2_n (Or.inl (by omega))).trans ((u2_n (Or.inl (by omega))).trans ((u2_n (Or.inl (by omega))).trans (u2_s)))))), ?_, ?_, ?_, ?_⟩⟩
                       · unfold tyL
                         first
                         | (rw [if_neg (by omega)]; omega)
                         | (rw [if_pos (by omega), if_pos (by omega)]; omega)
                         | (rw [if_pos (by omega), if_neg (by omega)]; omega)
                       · refine (u2_n (Or.inl (by omega))).trans ((u2_n (Or.inl (by omega))).trans ((u2_n (Or.inl (by omega))).trans (?_)))
                         by_cases e : i = (6 * at0 + z.2 3 (o k + 1))
                         · rw [e, zu_s]; exact u2_s
                         · rw [zu_n e]; exact (u2_n (Or.inr e)).trans ((u2_n (Or.inl (by omega))).trans ((u2_n (Or.inl (by omega))).trans ((u2_n (Or.inl (by omega))).trans (hl.1 i h0 h1))))
                       · refine (u2_n (Or.inl (by omega))).trans ((u2_n (Or.inl (by omega))).trans (?_))
                         by_cases e : i = (6 * at0 + z.2 3 (o k + 1))
                         · rw [e]; refine u2_s.trans ?_
                           first | (rw [if_pos (by omega)]; exact zu_s.symm) | (rw [if_neg (by omega)])
                         · refine (u2_n (Or.inr e)).trans (((u2_n (Or.inl (by omega))).trans ((u2_n (Or.inl (by omega))).trans ((u2_n (Or.inl (by omega))).trans ((u2_n (Or.inl (by omega))).trans (hl.2 i h0 h1))))).trans ?_)
                           first | (rw [if_pos (by omega)]; exact (zu_n e).symm) | (rw [if_neg (by omega)])
                       · refine ((u2_n (Or.inl (by omega))).trans ((u2_n (Or.inl (by omega))).trans ((u2_n (Or.inl (by omega))).trans ((u2_n (Or.inl (by omega))).trans ((u2_n (Or.inl (by omega))).trans (u2_s)))))).trans ?_
                         first | exact (bZ_t (by omega)).symm | exact (bZ_f (by omega)).symm
                       · refine ((u2_n (Or.inl (by omega))).trans ((u2_n (Or.inl (by omega))).trans ((u2_n (Or.inl (by omega))).trans ((u2_n (Or.inl (by omega))).trans (u2_s))))).trans ?_
                         first | exact (bZ_t (by omega)).symm | exact (bZ_f (by omega)).symm
                       · refine ((u2_n (Or.inl (by omega))).trans (u2_s)).trans ?_
                         first
                         | (rw [if_pos (show laL (z.2 3) o n1 k by omega)])
                         | (rw [if_neg (show ¬ laL (z.2 3) o n1 k by omega), if_pos (by omega)]; exact zu_s.symm)
                         | (rw [if_neg (show ¬ laL (z.2 3) o n1 k by omega), if_neg (by omega)])
                       · refine u2_s.trans ?_
                         first | (rw [if_pos (by omega)]) | (rw [if_neg (by omega)]))
                  · refine TGo.al0 dX10_goesOn_282 rfl ?_
                    refine TGo.getS (t := 18) 67 67 (T + 38) (hT 0 (by decide)) rfl fgX10_151_10 dX10_goesOn_283 rfl rfl rfl ?_
                    refine TGo.il1 dX10_goesOn_286 rfl ?_
                    refine TGo.iald dX10_goesOn_287 (hT 38 (by decide)) (by omega) rfl ?_
                    refine TGo.toz _ ((u2_n (Or.inl (by omega))).trans ((u2_n (Or.inl (by omega))).trans ((u2_n (Or.inl (by omega))).trans ((u2_n (Or.inl (by omega))).trans ((u2_n (Or.inl (by omega))).trans (u2_n (Or.inl (by omega)))))))) ?_
                    refine TGo.toz met (hsh) ?_
                    refine TGo.ic1 dX10_goesOn_288 ?_
                    refine TGo.iadd dX10_goesOn_289 ?_
                    refine TGo.goto 299 dX10_goesOn_290 (by decide) ?_
                    first | refine TGo.toz met hsh ?_ | skip
                    refine TGo.iast dX10_goesOn_299 (hT 38 (by decide)) (by omega) rfl ?_
                    refine TGo.ic1 dX10_goesOn_300 ?_
                    refine TGo.zret dX10_goesOn_301 rfl (by first | exact Or.inl rfl | exact Or.inr rfl | exact bZ_or _ | assumption) ?_
                    first
                    | (exfalso; omega)
                    | (refine ⟨_, rfl, rfl, rfl, (((((((hz.t 39 rfl).t 36 rfl).t 37 rfl).t 34 rfl).t 35 rfl).t 33 rfl).t 38 rfl), FrG.rf.i (by omega) |>.i (by omega) |>.i (by omega) |>.i (by omega) |>.i (by omega) |>.i (by omega) |>.i (by omega), Or.inr ⟨rfl, by omega, ?_, ⟨fun i h0 h1 => ?_, fun i h0 h1 => ?_⟩, (u2_n (Or.inl (by omega))).trans ((u2_n (Or.inl (by omega))).trans ((u2_n (Or.inl (by omega))).trans ((u2_n (Or.inl (by omega))).trans ((u2_n (Or.inl (by omega))).trans ((u2_n (Or.inl (by omega))).trans (u2_s)))))), ?_, ?_, ?_, ?_⟩⟩
                       · unfold tyL
                         first
                         | (rw [if_neg (by omega)]; omega)
                         | (rw [if_pos (by omega), if_pos (by omega)]; omega)
                         | (rw [if_pos (by omega), if_neg (by omega)]; omega)
                       · refine (u2_n (Or.inl (by omega))).trans ((u2_n (Or.inl (by omega))).trans ((u2_n (Or.inl (by omega))).trans (?_)))
                         by_cases e : i = (6 * at0 + z.2 3 (o k + 1))
                         · rw [e, zu_s]; exact u2_s
                         · rw [zu_n e]; exact (u2_n (Or.inr e)).trans ((u2_n (Or.inl (by omega))).trans ((u2_n (Or.inl (by omega))).trans ((u2_n (Or.inl (by omega))).trans (hl.1 i h0 h1))))
                       · refine (u2_n (Or.inl (by omega))).trans ((u2_n (Or.inl (by omega))).trans (?_))
                         by_cases e : i = (6 * at0 + z.2 3 (o k + 1))
                         · rw [e]; refine u2_s.trans ?_
                           first | (rw [if_pos (by omega)]; exact zu_s.symm) | (rw [if_neg (by omega)])
                         · refine (u2_n (Or.inr e)).trans (((u2_n (Or.inl (by omega))).trans ((u2_n (Or.inl (by omega))).trans ((u2_n (Or.inl (by omega))).trans ((u2_n (Or.inl (by omega))).trans (hl.2 i h0 h1))))).trans ?_)
                           first | (rw [if_pos (by omega)]; exact (zu_n e).symm) | (rw [if_neg (by omega)])
                       · refine ((u2_n (Or.inl (by omega))).trans ((u2_n (Or.inl (by omega))).trans ((u2_n (Or.inl (by omega))).trans ((u2_n (Or.inl (by omega))).trans ((u2_n (Or.inl (by omega))).trans (u2_s)))))).trans ?_
                         first | exact (bZ_t (by omega)).symm | exact (bZ_f (by omega)).symm
                       · refine ((u2_n (Or.inl (by omega))).trans ((u2_n (Or.inl (by omega))).trans ((u2_n (Or.inl (by omega))).trans ((u2_n (Or.inl (by omega))).trans (u2_s))))).trans ?_
                         first | exact (bZ_t (by omega)).symm | exact (bZ_f (by omega)).symm
                       · refine ((u2_n (Or.inl (by omega))).trans (u2_s)).trans ?_
                         first
                         | (rw [if_pos (show laL (z.2 3) o n1 k by omega)])
                         | (rw [if_neg (show ¬ laL (z.2 3) o n1 k by omega), if_pos (by omega)]; exact zu_s.symm)
                         | (rw [if_neg (show ¬ laL (z.2 3) o n1 k by omega), if_neg (by omega)])
                       · refine u2_s.trans ?_
                         first | (rw [if_pos (by omega)]) | (rw [if_neg (by omega)]))
                · refine TGo.ic0 dX10_goesOn_244 ?_
                  refine TGo.goto 254 dX10_goesOn_245 (by decide) ?_
                  first | refine TGo.toz t u2_s ?_ | refine TGo.toz (Nx (6 * at0 + z.2 3 (o k + 1))) u2_s ?_ | skip
                  refine TGo.iast dX10_goesOn_254 (hT 33 (by decide)) (by omega) rfl ?_
                  refine TGo.al0 dX10_goesOn_255 rfl ?_
                  refine TGo.getS (t := 18) 67 67 (T + 38) (hT 0 (by decide)) rfl fgX10_151_10 dX10_goesOn_256 rfl rfl rfl ?_
                  refine TGo.il1 dX10_goesOn_259 rfl ?_
                  refine TGo.ic1 dX10_goesOn_260 ?_
                  refine TGo.iadd dX10_goesOn_261 ?_
                  refine TGo.il dX10_goesOn_262 rfl ?_
                  refine TGo.if_eq 293 dX10_goesOn_264 (by decide) (by decide) (fun h => absurd h (by decide)) (fun _ => ?_)
                  refine TGo.al0 dX10_goesOn_267 rfl ?_
                  refine TGo.getS (t := 18) 68 68 (T + 39) (hT 0 (by decide)) rfl fgX10_154_10 dX10_goesOn_268 rfl rfl rfl ?_
                  refine TGo.il1 dX10_goesOn_271 rfl ?_
                  refine TGo.iald dX10_goesOn_272 (hT 39 (by decide)) (by omega) rfl ?_
                  refine TGo.toz t ((u2_n (Or.inl (by omega))).trans ((u2_n (Or.inl (by omega))).trans ((u2_n (Or.inl (by omega))).trans ((u2_n (Or.inl (by omega))).trans ((u2_n (Or.inl (by omega))).trans (u2_s)))))) ?_
                  refine TGo.al0 dX10_goesOn_273 rfl ?_
                  refine TGo.getS (t := 18) 67 67 (T + 38) (hT 0 (by decide)) rfl fgX10_151_10 dX10_goesOn_274 rfl rfl rfl ?_
                  refine TGo.il1 dX10_goesOn_277 rfl ?_
                  refine TGo.iald dX10_goesOn_278 (hT 38 (by decide)) (by omega) rfl ?_
                  refine TGo.toz _ ((u2_n (Or.inl (by omega))).trans ((u2_n (Or.inl (by omega))).trans ((u2_n (Or.inl (by omega))).trans ((u2_n (Or.inl (by omega))).trans ((u2_n (Or.inl (by omega))).trans (u2_n (Or.inl (by omega)))))))) ?_
                  refine TGo.toz met (hsh) ?_
                  refine TGo.icmp_ne 293 dX10_goesOn_279 (by decide) (by omega) (fun h279 => ?_) (fun h279 => ?_)
                  · refine TGo.al0 dX10_goesOn_293 rfl ?_
                    refine TGo.getS (t := 18) 67 67 (T + 38) (hT 0 (by decide)) rfl fgX10_151_10 dX10_goesOn_294 rfl rfl rfl ?_
                    refine TGo.il1 dX10_goesOn_297 rfl ?_
                    refine TGo.iald dX10_goesOn_298 (hT 38 (by decide)) (by omega) rfl ?_
                    refine TGo.toz _ ((u2_n (Or.inl (by omega))).trans ((u2_n (Or.inl (by omega))).trans ((u2_n (Or.inl (by omega))).trans ((u2_n (Or.inl (by omega))).trans ((u2_n (Or.inl (by omega))).trans (u2_n (Or.inl (by omega)))))))) ?_
                    first | refine TGo.toz met hsh ?_ | skip
                    refine TGo.iast dX10_goesOn_299 (hT 38 (by decide)) (by omega) rfl ?_
                    refine TGo.ic1 dX10_goesOn_300 ?_
                    refine TGo.zret dX10_goesOn_301 rfl (by first | exact Or.inl rfl | exact Or.inr rfl | exact bZ_or _ | assumption) ?_
                    first
                    | (exfalso; omega)
                    | (refine ⟨_, rfl, rfl, rfl, (((((((hz.t 39 rfl).t 36 rfl).t 37 rfl).t 34 rfl).t 35 rfl).t 33 rfl).t 38 rfl), FrG.rf.i (by omega) |>.i (by omega) |>.i (by omega) |>.i (by omega) |>.i (by omega) |>.i (by omega) |>.i (by omega), Or.inr ⟨rfl, by omega, ?_, ⟨fun i h0 h1 => ?_, fun i h0 h1 => ?_⟩, (u2_n (Or.inl (by omega))).trans ((u2_n (Or.inl (by omega))).trans ((u2_n (Or.inl (by omega))).trans ((u2_n (Or.inl (by omega))).trans ((u2_n (Or.inl (by omega))).trans ((u2_n (Or.inl (by omega))).trans (u2_s)))))), ?_, ?_, ?_, ?_⟩⟩
                       · unfold tyL
                         first
                         | (rw [if_neg (by omega)]; omega)
                         | (rw [if_pos (by omega), if_pos (by omega)]; omega)
                         | (rw [if_pos (by omega), if_neg (by omega)]; omega)
                       · refine (u2_n (Or.inl (by omega))).trans ((u2_n (Or.inl (by omega))).trans ((u2_n (Or.inl (by omega))).trans (?_)))
                         by_cases e : i = (6 * at0 + z.2 3 (o k + 1))
                         · rw [e, zu_s]; exact u2_s
                         · rw [zu_n e]; exact (u2_n (Or.inr e)).trans ((u2_n (Or.inl (by omega))).trans ((u2_n (Or.inl (by omega))).trans ((u2_n (Or.inl (by omega))).trans (hl.1 i h0 h1))))
                       · refine (u2_n (Or.inl (by omega))).trans ((u2_n (Or.inl (by omega))).trans (?_))
                         by_cases e : i = (6 * at0 + z.2 3 (o k + 1))
                         · rw [e]; refine u2_s.trans ?_
                           first | (rw [if_pos (by omega)]; exact zu_s.symm) | (rw [if_neg (by omega)])
                         · refine (u2_n (Or.inr e)).trans (((u2_n (Or.inl (by omega))).trans ((u2_n (Or.inl (by omega))).trans ((u2_n (Or.inl (by omega))).trans ((u2_n (Or.inl (by omega))).trans (hl.2 i h0 h1))))).trans ?_)
                           first | (rw [if_pos (by omega)]; exact (zu_n e).symm) | (rw [if_neg (by omega)])
                       · refine ((u2_n (Or.inl (by omega))).trans ((u2_n (Or.inl (by omega))).trans ((u2_n (Or.inl (by omega))).trans ((u2_n (Or.inl (by omega))).trans ((u2_n (Or.inl (by omega))).trans (u2_s)))))).trans ?_
                         first | exact (bZ_t (by omega)).symm | exact (bZ_f (by omega)).symm
                       · refine ((u2_n (Or.inl (by omega))).trans ((u2_n (Or.inl (by omega))).trans ((u2_n (Or.inl (by omega))).trans ((u2_n (Or.inl (by omega))).trans (u2_s))))).trans ?_
                         first | exact (bZ_t (by omega)).symm | exact (bZ_f (by omega)).symm
                       · refine ((u2_n (Or.inl (by omega))).trans (u2_s)).trans ?_
                         first
                         | (rw [if_pos (show laL (z.2 3) o n1 k by omega)])
                         | (rw [if_neg (show ¬ laL (z.2 3) o n1 k by omega), if_pos (by omega)]; exact zu_s.symm)
                         | (rw [if_neg (show ¬ laL (z.2 3) o n1 k by omega), if_neg (by omega)])
                       · refine u2_s.trans ?_
                         first | (rw [if_pos (by omega)]) | (rw [if_neg (by omega)]))
                  · refine TGo.al0 dX10_goesOn_282 rfl ?_
                    refine TGo.getS (t := 18) 67 67 (T + 38) (hT 0 (by decide)) rfl fgX10_151_10 dX10_goesOn_283 rfl rfl rfl ?_
                    refine TGo.il1 dX10_goesOn_286 rfl ?_
                    refine TGo.iald dX10_goesOn_287 (hT 38 (by decide)) (by omega) rfl ?_
                    refine TGo.toz _ ((u2_n (Or.inl (by omega))).trans ((u2_n (Or.inl (by omega))).trans ((u2_n (Or.inl (by omega))).trans ((u2_n (Or.inl (by omega))).trans ((u2_n (Or.inl (by omega))).trans (u2_n (Or.inl (by omega)))))))) ?_
                    refine TGo.toz met (hsh) ?_
                    refine TGo.ic1 dX10_goesOn_288 ?_
                    refine TGo.iadd dX10_goesOn_289 ?_
                    refine TGo.goto 299 dX10_goesOn_290 (by decide) ?_
                    first | refine TGo.toz met hsh ?_ | skip
                    refine TGo.iast dX10_goesOn_299 (hT 38 (by decide)) (by omega) rfl ?_
                    refine TGo.ic1 dX10_goesOn_300 ?_
                    refine TGo.zret dX10_goesOn_301 rfl (by first | exact Or.inl rfl | exact Or.inr rfl | exact bZ_or _ | assumption) ?_
                    first
                    | (exfalso; omega)
                    | (refine ⟨_, rfl, rfl, rfl, (((((((hz.t 39 rfl).t 36 rfl).t 37 rfl).t 34 rfl).t 35 rfl).t 33 rfl).t 38 rfl), FrG.rf.i (by omega) |>.i (by omega) |>.i (by omega) |>.i (by omega) |>.i (by omega) |>.i (by omega) |>.i (by omega), Or.inr ⟨rfl, by omega, ?_, ⟨fun i h0 h1 => ?_, fun i h0 h1 => ?_⟩, (u2_n (Or.inl (by omega))).trans ((u2_n (Or.inl (by omega))).trans ((u2_n (Or.inl (by omega))).trans ((u2_n (Or.inl (by omega))).trans ((u2_n (Or.inl (by omega))).trans ((u2_n (Or.inl (by omega))).trans (u2_s)))))), ?_, ?_, ?_, ?_⟩⟩
                       · unfold tyL
                         first
                         | (rw [if_neg (by omega)]; omega)
                         | (rw [if_pos (by omega), if_pos (by omega)]; omega)
                         | (rw [if_pos (by omega), if_neg (by omega)]; omega)
                       · refine (u2_n (Or.inl (by omega))).trans ((u2_n (Or.inl (by omega))).trans ((u2_n (Or.inl (by omega))).trans (?_)))
                         by_cases e : i = (6 * at0 + z.2 3 (o k + 1))
                         · rw [e, zu_s]; exact u2_s
                         · rw [zu_n e]; exact (u2_n (Or.inr e)).trans ((u2_n (Or.inl (by omega))).trans ((u2_n (Or.inl (by omega))).trans ((u2_n (Or.inl (by omega))).trans (hl.1 i h0 h1))))
                       · refine (u2_n (Or.inl (by omega))).trans ((u2_n (Or.inl (by omega))).trans (?_))
                         by_cases e : i = (6 * at0 + z.2 3 (o k + 1))
                         · rw [e]; refine u2_s.trans ?_
                           first | (rw [if_pos (by omega)]; exact zu_s.symm) | (rw [if_neg (by omega)])
                         · refine (u2_n (Or.inr e)).trans (((u2_n (Or.inl (by omega))).trans ((u2_n (Or.inl (by omega))).trans ((u2_n (Or.inl (by omega))).trans ((u2_n (Or.inl (by omega))).trans (hl.2 i h0 h1))))).trans ?_)
                           first | (rw [if_pos (by omega)]; exact (zu_n e).symm) | (rw [if_neg (by omega)])
                       · refine ((u2_n (Or.inl (by omega))).trans ((u2_n (Or.inl (by omega))).trans ((u2_n (Or.inl (by omega))).trans ((u2_n (Or.inl (by omega))).trans ((u2_n (Or.inl (by omega))).trans (u2_s)))))).trans ?_
                         first | exact (bZ_t (by omega)).symm | exact (bZ_f (by omega)).symm
                       · refine ((u2_n (Or.inl (by omega))).trans ((u2_n (Or.inl (by omega))).trans ((u2_n (Or.inl (by omega))).trans ((u2_n (Or.inl (by omega))).trans (u2_s))))).trans ?_
                         first | exact (bZ_t (by omega)).symm | exact (bZ_f (by omega)).symm
                       · refine ((u2_n (Or.inl (by omega))).trans (u2_s)).trans ?_
                         first
                         | (rw [if_pos (show laL (z.2 3) o n1 k by omega)])
                         | (rw [if_neg (show ¬ laL (z.2 3) o n1 k by omega), if_pos (by omega)]; exact zu_s.symm)
                         | (rw [if_neg (show ¬ laL (z.2 3) o n1 k by omega), if_neg (by omega)])
                       · refine u2_s.trans ?_
                         first | (rw [if_pos (by omega)]) | (rw [if_neg (by omega)]))
            · refine TGo.al0 dX10_goesOn_155 rfl ?_
              refine TGo.getS (t := 18) 68 68 (T + 39) (hT 0 (by decide)) rfl fgX10_154_10 dX10_goesOn_156 rfl rfl rfl ?_
              refine TGo.il1 dX10_goesOn_159 rfl ?_
              refine TGo.ldcw 1000000 dX10_goesOn_160 q2499 (by decide) ?_
              refine TGo.iast dX10_goesOn_163 (hT 39 (by decide)) (by omega) rfl ?_
              refine TGo.ic0 dX10_goesOn_164 ?_
              refine TGo.zret dX10_goesOn_165 rfl (by first | exact Or.inl rfl | exact Or.inr rfl | exact bZ_or _ | assumption) ?_
              first
              | (exfalso; omega)
              | (refine ⟨_, rfl, rfl, rfl, ((hz.t 39 rfl).t 39 rfl), FrG.rf.i (by omega) |>.i (by omega), Or.inl ⟨rfl, ?_, ⟨fun i h0 h1 => (u2_n (Or.inl (by omega))).trans ((u2_n (Or.inl (by omega))).trans (hl.1 i h0 h1)), fun i h0 h1 => (u2_n (Or.inl (by omega))).trans ((u2_n (Or.inl (by omega))).trans (hl.2 i h0 h1))⟩, (u2_n (Or.inl (by omega))).trans ((u2_n (Or.inl (by omega))).trans (ha)), (u2_n (Or.inl (by omega))).trans ((u2_n (Or.inl (by omega))).trans (hb))⟩⟩
                 first
                 | exact Or.inl (by omega)
                 | (refine Or.inr ?_
                    unfold tyL
                    first
                    | (rw [if_neg (by omega)]; omega)
                    | (rw [if_pos (by omega), if_pos (by omega)]; omega)
                    | (rw [if_pos (by omega), if_neg (by omega)]; omega)))
    · refine TGo.al0 dX10_goesOn_70 rfl ?_
      refine TGo.getS (t := 18) 68 68 (T + 39) (hT 0 (by decide)) rfl fgX10_154_10 dX10_goesOn_71 rfl rfl rfl ?_
      refine TGo.il1 dX10_goesOn_74 rfl ?_
      refine TGo.ldcw 1000000 dX10_goesOn_75 q2499 (by decide) ?_
      refine TGo.iast dX10_goesOn_78 (hT 39 (by decide)) (by omega) rfl ?_
      refine TGo.ic0 dX10_goesOn_79 ?_
      refine TGo.zret dX10_goesOn_80 rfl (by first | exact Or.inl rfl | exact Or.inr rfl | exact bZ_or _ | assumption) ?_
      first
      | (exfalso; omega)
      | (refine ⟨_, rfl, rfl, rfl, ((hz.t 39 rfl).t 39 rfl), FrG.rf.i (by omega) |>.i (by omega), Or.inl ⟨rfl, ?_, ⟨fun i h0 h1 => (u2_n (Or.inl (by omega))).trans ((u2_n (Or.inl (by omega))).trans (hl.1 i h0 h1)), fun i h0 h1 => (u2_n (Or.inl (by omega))).trans ((u2_n (Or.inl (by omega))).trans (hl.2 i h0 h1))⟩, (u2_n (Or.inl (by omega))).trans ((u2_n (Or.inl (by omega))).trans (ha)), (u2_n (Or.inl (by omega))).trans ((u2_n (Or.inl (by omega))).trans (hb))⟩⟩
         first
         | exact Or.inl (by omega)
         | (refine Or.inr ?_
            unfold tyL
            first
            | (rw [if_neg (by omega)]; omega)
            | (rw [if_pos (by omega), if_pos (by omega)]; omega)
            | (rw [if_pos (by omega), if_neg (by omega)]; omega)))
