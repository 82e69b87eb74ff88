/-! THE MODEL: chains of pupils -/
set_option maxRecDepth 100000
/-- breadth first over people: the order, whence each came; how many -/
abbrev CT : Type := ((Int → Int) × (Int → Int)) × Int
def cmC (ok : Int → Int → Int) (S : CT) (x c : Int) : CT := if ok x c = 1 ∧ S.1.2 c = -1 then ((zu S.1.1 S.2 c, zu S.1.2 c x), S.2 + 1) else S
def cmR (ok : Int → Int → Int) (S : CT) (x : Int) : Nat → CT
  | 0 => S
  | c + 1 => cmC ok (cmR ok S x c) x (c : Int)
def cm0 (x0 : Int) : CT := ((fun _ => x0, fun x => if x = x0 then x0 else -1), 1)
def cmS (ok : Int → Int → Int) (n : Nat) (x0 : Int) : Nat → CT
  | 0 => cm0 x0
  | k + 1 => if (cmS ok n x0 k).2 ≤ (k : Int) then cmS ok n x0 k else cmR ok (cmS ok n x0 k) ((cmS ok n x0 k).1.1 (k : Int)) n
/-- a way back to x0 -/
def pthZ (f : Int → Int) (N x0 n x : Int) : Prop := ∃ L : Nat, (L : Int) < n ∧ itZ f x L = x0 ∧ ∀ k : Nat, k ≤ L → (0 ≤ itZ f x k ∧ itZ f x k < N) ∧ f (itZ f x k) ≠ -1 ∧ (k < L → itZ f x k ≠ x0)
def CIZ (n : Nat) (x0 : Int) (S : CT) : Prop := (1 ≤ S.2 ∧ S.1.1 0 = x0 ∧ S.1.2 x0 = x0) ∧ (∀ i : Int, 0 ≤ i → i < S.2 → (0 ≤ S.1.1 i ∧ S.1.1 i < n) ∧ S.1.2 (S.1.1 i) ≠ -1) ∧ (∀ x : Int, 0 ≤ x → x < n → -1 ≤ S.1.2 x ∧ S.1.2 x < n) ∧ mkZ S.1.2 n = S.2 ∧ (∀ x : Int, 0 ≤ x → x < n → S.1.2 x ≠ -1 → pthZ S.1.2 n x0 S.2 x ∧ (S.1.2 x = x ↔ x = x0)) ∧ ∀ x : Int, (x < 0 ∨ n ≤ x) → S.1.2 x = -1
theorem CIZ.le {n : Nat} {x0 : Int} {S : CT} (h : CIZ n x0 S) : S.2 ≤ n := by have := mkZ_le S.1.2 n; have := h.2.2.2.1; omega
theorem CIZ.zero {n : Nat} {x0 : Int} (h : 0 ≤ x0 ∧ x0 < n) : CIZ n x0 (cm0 x0) := by
  have e1 : ∀ x, (cm0 x0).1.2 x = if x = x0 then x0 else -1 := fun _ => rfl
  have e0 : (cm0 x0).1.2 x0 = x0 := by rw [e1, if_pos rfl]
  have em : (cm0 x0).1.2 = zu (fun _ => -1) x0 x0 := rfl
  refine ⟨⟨by show (1 : Int) ≤ 1; omega, rfl, e0⟩, fun i h0 h1 => ⟨h, ?_⟩, fun x _ _ => ?_, ?_, fun x h0 h1 hx => ?_, fun x hx => ?_⟩
  · show (cm0 x0).1.2 x0 ≠ -1
    rw [e0]; omega
  · rw [e1]; split <;> omega
  · rw [em, mkZ_in h.1 rfl (by omega) n h.2, mkZ_none]; rfl
  · rw [e1] at hx
    have e : x = x0 := by
      by_cases e : x = x0
      · exact e
      · rw [if_neg e] at hx; exact absurd rfl hx
    subst e
    refine ⟨⟨0, by show ((0 : Nat) : Int) < 1; decide, rfl, fun k hk => ?_⟩, ⟨fun _ => rfl, fun _ => e0⟩⟩
    obtain rfl : k = 0 := by omega
    exact ⟨h, by show (cm0 x).1.2 x ≠ -1; rw [e0]; omega, fun h => absurd h (by omega)⟩
  · rw [e1, if_neg (by omega)]
theorem CIZ.step {n : Nat} {x0 : Int} {S : CT} (h : CIZ n x0 S) {x y : Int} (hx : (0 ≤ x ∧ x < n) ∧ S.1.2 x ≠ -1) (hy : 0 ≤ y ∧ y < n) (hb : S.1.2 y = -1) : CIZ n x0 ((zu S.1.1 S.2 y, zu S.1.2 y x), S.2 + 1) ∧ S.2 < n := by
  obtain ⟨h1, h2, h3, h4, h5, h6⟩ := h
  have hm := mkZ_in (f := S.1.2) (v := x) hy.1 hb (by omega) n (by omega)
  have hl := mkZ_le (zu S.1.2 y x) n
  have hlt : S.2 < n := by omega
  have hy0 : y ≠ x0 := fun e => by
    rw [e, h1.2.2] at hb
    have := (h2 0 (by omega) (by omega)).2
    rw [h1.2.1, h1.2.2] at this
    exact this hb
  have hxy : x ≠ y := fun e => by rw [e] at hx; exact hx.2 hb
  have old : ∀ w : Int, 0 ≤ w → w < n → S.1.2 w ≠ -1 → pthZ (zu S.1.2 y x) n x0 (S.2 + 1) w := by
    intro w h0 h36 hw
    obtain ⟨L, q1, q2, q3⟩ := (h5 w h0 h36 hw).1
    have hn : ∀ i : Nat, i ≤ L → itZ S.1.2 w i ≠ y := fun i hi e => (q3 i hi).2.1 (by rw [e]; exact hb)
    have he : ∀ k : Nat, k ≤ L → itZ (zu S.1.2 y x) w k = itZ S.1.2 w k := fun k hk => itZ_zu k (fun i hi => hn i (by omega))
    refine ⟨L, by omega, by rw [he L (Nat.le_refl _)]; exact q2, fun k hk => ?_⟩
    rw [he k hk, zu_n (hn k hk)]
    exact q3 k hk
  refine ⟨⟨⟨by show 1 ≤ S.2 + 1; omega, ?_, ?_⟩, fun i h0 hi => ?_, fun w h0 h36 => ?_, ?_, fun w h0 h36 hw => ?_, fun w hw => ?_⟩, hlt⟩
  · show zu S.1.1 S.2 y 0 = x0
    rw [zu_n (by omega)]; exact h1.2.1
  · show zu S.1.2 y x x0 = x0
    rw [zu_n (fun e => hy0 e.symm)]; exact h1.2.2
  · show (0 ≤ zu S.1.1 S.2 y i ∧ zu S.1.1 S.2 y i < n) ∧ zu S.1.2 y x (zu S.1.1 S.2 y i) ≠ -1
    have hi : i < S.2 + 1 := hi
    by_cases e : i = S.2
    · rw [e, zu_s, zu_s]; exact ⟨hy, by omega⟩
    · rw [zu_n e]
      have q := h2 i h0 (by omega)
      refine ⟨q.1, ?_⟩
      rw [zu_n (fun e => q.2 (by rw [e]; exact hb))]
      exact q.2
  · show -1 ≤ zu S.1.2 y x w ∧ zu S.1.2 y x w < n
    unfold zu
    split
    · omega
    · exact h3 w h0 h36
  · show mkZ (zu S.1.2 y x) n = S.2 + 1
    rw [hm, h4]
  · have hw : zu S.1.2 y x w ≠ -1 := hw
    show pthZ (zu S.1.2 y x) n x0 (S.2 + 1) w ∧ (zu S.1.2 y x w = w ↔ w = x0)
    by_cases e : w = y
    · subst e
      rw [zu_s]
      refine ⟨?_, fun e => absurd e hxy, fun e => absurd e hy0⟩
      obtain ⟨L, q1, q2, q3⟩ := (h5 x hx.1.1 hx.1.2 hx.2).1
      have hn : ∀ i : Nat, i ≤ L → itZ S.1.2 x i ≠ w := fun i hi e => (q3 i hi).2.1 (by rw [e]; exact hb)
      have he : ∀ k : Nat, k ≤ L → itZ (zu S.1.2 w x) w (k + 1) = itZ S.1.2 x k := fun k hk => by
        rw [← itZ_s, zu_s]; exact itZ_zu k (fun i hi => hn i (by omega))
      refine ⟨L + 1, by omega, by rw [he L (Nat.le_refl _)]; exact q2, fun k hk => ?_⟩
      cases k with
      | zero =>
        show (0 ≤ w ∧ w < n) ∧ zu S.1.2 w x w ≠ -1 ∧ _
        rw [zu_s]
        exact ⟨hy, by omega, fun _ => hy0⟩
      | succ k =>
        rw [he k (by omega), zu_n (hn k (by omega))]
        have q := q3 k (by omega)
        exact ⟨q.1, q.2.1, fun hk => q.2.2 (by omega)⟩
    · rw [zu_n e] at hw ⊢
      exact ⟨old w h0 h36 hw, (h5 w h0 h36 hw).2⟩
  · show zu S.1.2 y x w = -1
    rw [zu_n (by omega)]; exact h6 w hw
theorem cmC_ok {ok : Int → Int → Int} {n : Nat} {x0 : Int} {S : CT} (h : CIZ n x0 S) {x c : Int} (hx : 0 ≤ x ∧ x < n) (hm : S.1.2 x ≠ -1) (hc : 0 ≤ c ∧ c < n) : CIZ n x0 (cmC ok S x c) ∧ (cmC ok S x c).1.2 x ≠ -1 := by
  unfold cmC
  by_cases h3 : ok x c = 1 ∧ S.1.2 c = -1
  · rw [if_pos h3]
    refine ⟨(h.step ⟨hx, hm⟩ hc h3.2).1, ?_⟩
    show zu S.1.2 c x x ≠ -1
    unfold zu
    split
    · omega
    · exact hm
  · rw [if_neg h3]; exact ⟨h, hm⟩
theorem cmR_ok {ok : Int → Int → Int} {n : Nat} {x0 : Int} {S : CT} (h : CIZ n x0 S) {x : Int} (hx : 0 ≤ x ∧ x < n) (hm : S.1.2 x ≠ -1) : ∀ c : Nat, c ≤ n → CIZ n x0 (cmR ok S x c) ∧ (cmR ok S x c).1.2 x ≠ -1 := by
  intro c
  induction c with
  | zero => intro _; exact ⟨h, hm⟩
  | succ c ih =>
    intro hc
    have h1 := ih (by omega)
    exact cmC_ok h1.1 hx h1.2 (by omega)
theorem cmS_ok {ok : Int → Int → Int} {n : Nat} {x0 : Int} (h0 : 0 ≤ x0 ∧ x0 < n) : ∀ k : Nat, CIZ n x0 (cmS ok n x0 k) := by
  intro k
  induction k with
  | zero => exact CIZ.zero h0
  | succ k ih =>
    rw [cmS]
    split
    · exact ih
    · have q := ih.2.1 (k : Int) (by omega) (by omega)
      exact (cmR_ok ih q.1 q.2 n (Nat.le_refl _)).1
theorem cmS_stay {ok : Int → Int → Int} {n : Nat} {x0 : Int} {j : Nat} (h : (cmS ok n x0 j).2 ≤ (j : Int)) : ∀ k, j ≤ k → cmS ok n x0 k = cmS ok n x0 j := by
  intro k hk
  induction k with
  | zero => obtain rfl : j = 0 := by omega
            rfl
  | succ k ih =>
    rcases Nat.eq_or_lt_of_le hk with e | e
    · rw [e]
    · have e1 := ih (by omega)
      rw [cmS, e1, if_pos (by omega)]
theorem cmR_come {ok : Int → Int → Int} {S : CT} {x : Int} : ∀ c, S.2 ≤ (cmR ok S x c).2 ∧ ∀ i, i < S.2 → (cmR ok S x c).1.1 i = S.1.1 i := by
  intro c
  induction c with
  | zero => exact ⟨Int.le_refl _, fun _ _ => rfl⟩
  | succ c ih =>
    rw [cmR]
    unfold cmC
    split
    · refine ⟨by simp only; omega, fun i hi => ?_⟩
      simp only
      rw [zu_n (by omega)]
      exact ih.2 i hi
    · exact ih
/-- years together; who can learn of whom -/
def togZ (f : Int → Int) (a b : Int) : Int := min (f (238 + 3 * a + 1)) (f (238 + 3 * b + 1)) - max (f (238 + 3 * a)) (f (238 + 3 * b))
abbrev canZ (f : Int → Int) (a t p : Int) : Prop := t ≠ p ∧ 0 < togZ f t p ∧ tellZ f 2 p a t (max (f (238 + 3 * t)) (f (238 + 3 * p))) 0 ≠ 1 ∧ hourZ f p a t (max (f (238 + 3 * t)) (f (238 + 3 * p))) ≤ togZ f t p
def cnZ (f : Int → Int) (a t p : Int) : Int := bZ (canZ f a t p)
theorem cnZ_1 {f : Int → Int} {a t p : Int} (h : canZ f a t p) : cnZ f a t p = 1 := by unfold cnZ; exact bZ_t h
theorem cnZ_0 {f : Int → Int} {a t p : Int} (h : ¬ canZ f a t p) : cnZ f a t p = 0 := by unfold cnZ; exact bZ_f h
def okZ (f : Int → Int) (a wo t p : Int) : Int := if p = wo then 0 else cnZ f a t p
/-- the first of those come to who lives longest, of the first k -/
def laZ (f : Int → Int) (S : CT) : Nat → Int
  | 0 => S.1.1 0
  | k + 1 => if f (238 + 3 * laZ f S k + 1) < f (238 + 3 * S.1.1 ((k : Int) + 1) + 1) then S.1.1 ((k : Int) + 1) else laZ f S k
theorem laZ_in {n : Nat} {x0 : Int} {f : Int → Int} {S : CT} (h : CIZ n x0 S) : ∀ k : Nat, (k : Int) < S.2 → ∃ i, 0 ≤ i ∧ i ≤ (k : Int) ∧ laZ f S k = S.1.1 i := by
  intro k
  induction k with
  | zero => intro _; exact ⟨0, by omega, by omega, rfl⟩
  | succ k ih =>
    intro hk
    obtain ⟨i, h1, h2, h3⟩ := ih (by omega)
    rw [laZ]
    split
    · exact ⟨(k : Int) + 1, by omega, by omega, rfl⟩
    · exact ⟨i, h1, by omega, h3⟩
/-- links from x to x0 -/
def lnkZ (f : Int → Int) (x0 : Int) : Nat → Int → Nat
  | 0, _ => 0
  | n + 1, x => if x = x0 then 0 else lnkZ f x0 n (f x) + 1
theorem lnkZ_eq {f : Int → Int} {x0 : Int} : ∀ (n L : Nat) (x : Int), L ≤ n → itZ f x L = x0 → (∀ k : Nat, k < L → itZ f x k ≠ x0) → lnkZ f x0 n x = L := by
  intro n
  induction n with
  | zero => intro L x h _ _; obtain rfl : L = 0 := by omega
            rfl
  | succ n ih =>
    intro L x h h0 hk
    rw [lnkZ]
    cases L with
    | zero => rw [if_pos (show x = x0 from h0)]
    | succ L =>
      rw [if_neg (show x ≠ x0 from hk 0 (by omega)), ih L (f x) (by omega) (by rw [itZ_s]; exact h0) (fun k hk2 => by rw [itZ_s]; exact hk (k + 1) (by omega))]
theorem mbZ_le (g : Int → Int) (b : Int) (k n : Nat) (h : k ≤ n) (hn : n ≤ 30) : 0 ≤ mbZ g b k ∧ mbZ g b k < 1073741824 := by
  have h1 := mbZ_r g b k
  have h2 : 2 ^ k ≤ 2 ^ 30 := Nat.pow_le_pow_right (by decide) (by omega)
  have h3 : (2 ^ 30 : Nat) = 1073741824 := by decide
  omega
set_option maxHeartbeats 4000000 in
theorem kX10_is {E : ET} {sh : SHT} {nn : Nat × Nat} {V : VT} {x k : Int} (hx : 0 ≤ x ∧ x ≤ 2147483647) (hk : 0 ≤ k ∧ k < 31) : TF E mX10_is 1 [.int (iI x), .int (iI k)] sh nn V (.int (iI (bZ (x / ((2 ^ k.toNat : Nat) : Int) % 2 = 1)))) := by
  have ek : k = ((k.toNat : Nat) : Int) := by omega
  refine TC.intro [some (.int (iI x)), some (.int (iI k))] rfl ?_
  have eb := iI_bit (a := x) (by omega) (k := k.toNat) (by omega)
  rw [← ek] at eb
  have hm := Int.emod_two_eq (x / ((2 ^ k.toNat : Nat) : Int))
  refine TGo.il0 dX10_is_0 rfl ?_
  refine TGo.il1 dX10_is_1 rfl ?_
  refine TGo.ishr dX10_is_2 ?_
  refine TGo.ic1 dX10_is_3 ?_
  refine TGo.iand dX10_is_4 ?_
  refine TGo.tos _ eb ?_
  refine TGo.ic1 dX10_is_5 ?_
  refine TGo.icmp_ne 13 dX10_is_6 (by decide) (by omega) (fun h6 => ?_) (fun h6 => ?_)
  · refine TGo.ic0 dX10_is_13 ?_
    refine TGo.zret dX10_is_14 rfl (by first | exact Or.inl rfl | exact Or.inr rfl | exact bZ_or _ | assumption) ?_
    refine leafF ?_
    first | rfl | omega | exact (bZ_t (by omega)).symm | exact (bZ_f (by omega)).symm | exact bZ_iff (by omega)
  · refine TGo.ic1 dX10_is_9 ?_
    refine TGo.goto 14 dX10_is_10 (by decide) ?_
    refine TGo.zret dX10_is_14 rfl (by first | exact Or.inl rfl | exact Or.inr rfl | exact bZ_or _ | assumption) ?_
    refine leafF ?_
    first | rfl | omega | exact (bZ_t (by omega)).symm | exact (bZ_f (by omega)).symm | exact bZ_iff (by omega)
set_option maxHeartbeats 4000000 in
theorem iX10_findPupils {E : ET} {sh : SHT} {nn : Nat × Nat} {T : Nat} {z : ZT} {a : Int} {m t : Nat} (hT : MSh T sh) (W : RWZ (z.2 3)) (WL : LawsZ (z.2 3)) (h15 : z.1 15 = 0) (ha : 0 ≤ a ∧ a < z.2 3 0) (hm : z.2 3 1 = (m : Int)) (hm8 : m ≤ 8) (ht : t < m) (K : ∀ (V : VT) (x3 x4 x5 : Option Value), PE T V z → (∀ i : Nat, i < t + 1 → V.1 (T + 25) (i : Int) = (mbZ (fun p => cnZ (z.2 3) a (i : Int) p) 1 m)) → TGo E mX10_findPupils 6 2 [some (.ref T), some (.int (iI a)), some (.int (iI ((((t + 1)) : Nat) : Int))), x3, x4, x5] [] sh nn V (fun o sh' nn' V' => o = .inl none ∧ sh' = sh ∧ nn' = nn ∧ PE T V' z ∧ ∀ i : Nat, i < m → V'.1 (T + 25) (i : Int) = (mbZ (fun p => cnZ (z.2 3) a (i : Int) p) 1 m))) : ∀ (n j : Nat) (V : VT) (x4 x5 : Option Value), m - j < n → j ≤ m → PE T V z → (V.1 (T + 25) (t : Int) = mbZ (fun p => cnZ (z.2 3) a (t : Int) p) 1 j ∧ (∀ i : Nat, i < t → V.1 (T + 25) (i : Int) = (mbZ (fun p => cnZ (z.2 3) a (i : Int) p) 1 m))) → TGo E mX10_findPupils 6 21 [some (.ref T), some (.int (iI a)), some (.int (iI (t : Int))), some (.int (iI (((j) : Nat) : Int))), x4, x5] [] sh nn V (fun o sh' nn' V' => o = .inl none ∧ sh' = sh ∧ nn' = nn ∧ PE T V' z ∧ ∀ i : Nat, i < m → V'.1 (T + 25) (i : Int) = (mbZ (fun p => cnZ (z.2 3) a (i : Int) p) 1 m)) := by
  intro n
  induction n with
  | zero => intro j V x4 x5 h; omega
  | succ n ih =>
    intro j V x4 x5 hn hj hz hx
    have w0 := W.1.1
    have w1 := W.1.2.1
    have w7 := W.1.2.2.2.2.2.2.2.1
    obtain ⟨hx1, hx2⟩ := hx
    have wt := W.2.2.2.1 (t : Int) (by omega) (by omega)
    have hb1 := mbZ_le (fun p => cnZ (z.2 3) a (t : Int) p) 1 j m hj (by omega)
    have hb2 := mbZ_r (fun p => cnZ (z.2 3) a (t : Int) p) 1 j
    refine TGo.il3 dX10_findPupils_21 rfl ?_
    refine TGo.al0 dX10_findPupils_22 rfl ?_
    refine TGo.getS (t := 18) 3 3 (T + 2) (hT 0 (by decide)) rfl fgX10_13_10 dX10_findPupils_23 rfl rfl rfl ?_
    refine TGo.ic1 dX10_findPupils_26 ?_
    refine TGo.iald dX10_findPupils_27 (hT 2 (by decide)) (by omega) rfl ?_
    refine TGo.toz _ (hz.2.1 3 (by decide) _) ?_
    refine TGo.icmp_ge 137 dX10_findPupils_28 (by decide) (by omega) (fun h28 => ?_) (fun h28 => ?_)
    · obtain rfl : j = m := by omega
      refine TGo.iinc dX10_findPupils_137 rfl rfl rfl ?_
      refine TGo.goto 2 dX10_findPupils_140 (by decide) ?_
      exact TGo.seq [some (.ref T), some (.int (iI a)), some (.int (iI ((((t + 1)) : Nat) : Int))), _, _, _] [] _ rfl rfl rfl (K _ _ _ _ hz (fun i hi => by
        rcases Nat.lt_or_ge i t with e | e
        · exact hx2 i e
        · obtain rfl : i = t := by omega
          exact hx1))
    · have wj := W.2.2.2.1 (j : Int) (by omega) (by omega)
      have hh := hourZ_r (z.2 3) (j : Int) a (t : Int) (max (z.2 3 (238 + 3 * (t : Int))) (z.2 3 (238 + 3 * (j : Int))))
      refine TGo.al0 dX10_findPupils_31 rfl ?_
      refine TGo.il2 dX10_findPupils_32 rfl ?_
      refine TGo.cF (csV1 (y2 := mX10_born) (t := 18) 1 rfl (hT 0 (by decide)) rfl rfl dX10_findPupils_33 q2113 q2115 qs45 okX10_born npX10_born rfl rfl) (kX10_born hT hz (by omega)) ?_
      refine TGo.al0 dX10_findPupils_36 rfl ?_
      refine TGo.il3 dX10_findPupils_37 rfl ?_
      refine TGo.cF (csV1 (y2 := mX10_born) (t := 18) 1 rfl (hT 0 (by decide)) rfl rfl dX10_findPupils_38 q2113 q2115 qs45 okX10_born npX10_born rfl rfl) (kX10_born hT hz (by omega)) ?_
      refine TGo.icmp_le 52 dX10_findPupils_41 (by decide) (by omega) (fun h41 => ?_) (fun h41 => ?_)
      · refine TGo.al0 dX10_findPupils_52 rfl ?_
        refine TGo.il3 dX10_findPupils_53 rfl ?_
        refine TGo.cF (csV1 (y2 := mX10_born) (t := 18) 1 rfl (hT 0 (by decide)) rfl rfl dX10_findPupils_54 q2113 q2115 qs45 okX10_born npX10_born rfl rfl) (kX10_born hT hz (by omega)) ?_
        refine TGo.toz (max (z.2 3 (238 + 3 * (t : Int))) (z.2 3 (238 + 3 * (j : Int)))) (by omega) ?_
        refine TGo.is dX10_findPupils_57 rfl rfl ?_
        refine TGo.il2 dX10_findPupils_59 rfl ?_
        refine TGo.il3 dX10_findPupils_60 rfl ?_
        refine TGo.icmp_eq 107 dX10_findPupils_61 (by decide) (by omega) (fun h61 => ?_) (fun h61 => ?_)
        · refine TGo.ic0 dX10_findPupils_107 ?_
          refine TGo.is dX10_findPupils_108 rfl rfl ?_
          refine TGo.al0 dX10_findPupils_110 rfl ?_
          refine TGo.getS (t := 18) 51 51 (T + 25) (hT 0 (by decide)) rfl fgX10_112_10 dX10_findPupils_111 rfl rfl rfl ?_
          refine TGo.il2 dX10_findPupils_114 rfl ?_
          refine TGo.dup2 dX10_findPupils_115 rfl rfl ?_
          refine TGo.iald dX10_findPupils_116 (hT 25 (by decide)) (by omega) rfl ?_
          refine TGo.toz (mbZ (fun p => cnZ (z.2 3) a (t : Int) p) 1 j) (by first | exact hx1 | exact (hf79.1 _ _ (Or.inl (by omega))).trans (hx1) | exact (hf97.1 _ _ (Or.inl (by omega))).trans ((hf79.1 _ _ (Or.inl (by omega))).trans (hx1))) ?_
          refine TGo.il dX10_findPupils_117 rfl ?_
          refine TGo.if_eq 128 dX10_findPupils_119 (by decide) (by decide) (fun _ => ?_) (fun h => absurd h (by decide))
          refine TGo.ic0 dX10_findPupils_128 ?_
          refine TGo.ior dX10_findPupils_129 ?_
          first | (refine TGo.tos _ (iI_or0 _) ?_) | (refine TGo.tos _ (iI_orb hb2 (by omega)) ?_)
          refine TGo.iast dX10_findPupils_130 (hT 25 (by decide)) (by omega) rfl ?_
          refine TGo.iinc dX10_findPupils_131 rfl rfl rfl ?_
          refine TGo.goto 21 dX10_findPupils_134 (by decide) ?_
          first | (exfalso; omega) | exact TGo.seq [some (.ref T), some (.int (iI a)), some (.int (iI (t : Int))), some (.int (iI ((((j + 1)) : Nat) : Int))), _, _] [] _ (rfl) rfl rfl (ih (j + 1) _ _ _ (by omega) (by omega) (hz.t 25 rfl) (by
            refine ⟨u2_s.trans ?_, fun i hi => (u2_n (Or.inr (by omega))).trans (by first | exact hx2 i hi | exact (hf79.1 _ _ (Or.inl (by omega))).trans (hx2 i hi) | exact (hf97.1 _ _ (Or.inl (by omega))).trans ((hf79.1 _ _ (Or.inl (by omega))).trans (hx2 i hi)))⟩
            rw [mbZ]
            first
            | (rw [if_neg (show ¬ cnZ (z.2 3) a (t : Int) (j : Int) = 1 by
                  rw [cnZ_0 (show ¬ canZ (z.2 3) a (t : Int) (j : Int) by unfold canZ togZ; omega)]; decide), Int.add_zero])
            | (rw [if_pos (show cnZ (z.2 3) a (t : Int) (j : Int) = 1 from cnZ_1 (by unfold canZ togZ; omega))])))
        · refine TGo.al0 dX10_findPupils_64 rfl ?_
          refine TGo.il2 dX10_findPupils_65 rfl ?_
          refine TGo.il3 dX10_findPupils_66 rfl ?_
          refine TGo.cF (csV2 (y2 := mX10_together) (t := 18) 2 rfl (hT 0 (by decide)) rfl rfl dX10_findPupils_67 q2368 q2370 qs84 okX10_together npX10_together rfl rfl) (kX10_together hT hz W (by omega) (by omega)) ?_
          refine TGo.if_le 107 dX10_findPupils_70 (by decide) (by omega) (fun h70 => ?_) (fun h70 => ?_)
          · refine TGo.ic0 dX10_findPupils_107 ?_
            refine TGo.is dX10_findPupils_108 rfl rfl ?_
            refine TGo.al0 dX10_findPupils_110 rfl ?_
            refine TGo.getS (t := 18) 51 51 (T + 25) (hT 0 (by decide)) rfl fgX10_112_10 dX10_findPupils_111 rfl rfl rfl ?_
            refine TGo.il2 dX10_findPupils_114 rfl ?_
            refine TGo.dup2 dX10_findPupils_115 rfl rfl ?_
            refine TGo.iald dX10_findPupils_116 (hT 25 (by decide)) (by omega) rfl ?_
            refine TGo.toz (mbZ (fun p => cnZ (z.2 3) a (t : Int) p) 1 j) (by first | exact hx1 | exact (hf79.1 _ _ (Or.inl (by omega))).trans (hx1) | exact (hf97.1 _ _ (Or.inl (by omega))).trans ((hf79.1 _ _ (Or.inl (by omega))).trans (hx1))) ?_
            refine TGo.il dX10_findPupils_117 rfl ?_
            refine TGo.if_eq 128 dX10_findPupils_119 (by decide) (by decide) (fun _ => ?_) (fun h => absurd h (by decide))
            refine TGo.ic0 dX10_findPupils_128 ?_
            refine TGo.ior dX10_findPupils_129 ?_
            first | (refine TGo.tos _ (iI_or0 _) ?_) | (refine TGo.tos _ (iI_orb hb2 (by omega)) ?_)
            refine TGo.iast dX10_findPupils_130 (hT 25 (by decide)) (by omega) rfl ?_
            refine TGo.iinc dX10_findPupils_131 rfl rfl rfl ?_
            refine TGo.goto 21 dX10_findPupils_134 (by decide) ?_
            first | (exfalso; omega) | exact TGo.seq [some (.ref T), some (.int (iI a)), some (.int (iI (t : Int))), some (.int (iI ((((j + 1)) : Nat) : Int))), _, _] [] _ (rfl) rfl rfl (ih (j + 1) _ _ _ (by omega) (by omega) (hz.t 25 rfl) (by
              refine ⟨u2_s.trans ?_, fun i hi => (u2_n (Or.inr (by omega))).trans (by first | exact hx2 i hi | exact (hf79.1 _ _ (Or.inl (by omega))).trans (hx2 i hi) | exact (hf97.1 _ _ (Or.inl (by omega))).trans ((hf79.1 _ _ (Or.inl (by omega))).trans (hx2 i hi)))⟩
              rw [mbZ]
              first
              | (rw [if_neg (show ¬ cnZ (z.2 3) a (t : Int) (j : Int) = 1 by
                    rw [cnZ_0 (show ¬ canZ (z.2 3) a (t : Int) (j : Int) by unfold canZ togZ; omega)]; decide), Int.add_zero])
              | (rw [if_pos (show cnZ (z.2 3) a (t : Int) (j : Int) = 1 from cnZ_1 (by unfold canZ togZ; omega))])))
          · refine TGo.al0 dX10_findPupils_73 rfl ?_
            refine TGo.il3 dX10_findPupils_74 rfl ?_
            refine TGo.il1 dX10_findPupils_75 rfl ?_
            refine TGo.il2 dX10_findPupils_76 rfl ?_
            refine TGo.il dX10_findPupils_77 rfl ?_
            refine TGo.cS (csV4 (y2 := mX10_isBarred) (t := 18) 5 rfl (hT 0 (by decide)) rfl rfl dX10_findPupils_79 q2314 q2316 qs77 okX10_isBarred npX10_isBarred rfl rfl) (kX10_isBarred hT hz W WL h15 (by omega) (by omega) (by omega) (by omega)) (fun v79 V79 h79 => ?_)
            obtain ⟨rfl, hz79, hf79⟩ := h79
            refine TGo.ifb_ne 107 dX10_findPupils_82 (by decide) (fun h82 => ?_) (fun h82 => ?_)
            · refine TGo.ic0 dX10_findPupils_107 ?_
              refine TGo.is dX10_findPupils_108 rfl rfl ?_
              refine TGo.al0 dX10_findPupils_110 rfl ?_
              refine TGo.getS (t := 18) 51 51 (T + 25) (hT 0 (by decide)) rfl fgX10_112_10 dX10_findPupils_111 rfl rfl rfl ?_
              refine TGo.il2 dX10_findPupils_114 rfl ?_
              refine TGo.dup2 dX10_findPupils_115 rfl rfl ?_
              refine TGo.iald dX10_findPupils_116 (hT 25 (by decide)) (by omega) rfl ?_
              refine TGo.toz (mbZ (fun p => cnZ (z.2 3) a (t : Int) p) 1 j) (by first | exact hx1 | exact (hf79.1 _ _ (Or.inl (by omega))).trans (hx1) | exact (hf97.1 _ _ (Or.inl (by omega))).trans ((hf79.1 _ _ (Or.inl (by omega))).trans (hx1))) ?_
              refine TGo.il dX10_findPupils_117 rfl ?_
              refine TGo.if_eq 128 dX10_findPupils_119 (by decide) (by decide) (fun _ => ?_) (fun h => absurd h (by decide))
              refine TGo.ic0 dX10_findPupils_128 ?_
              refine TGo.ior dX10_findPupils_129 ?_
              first | (refine TGo.tos _ (iI_or0 _) ?_) | (refine TGo.tos _ (iI_orb hb2 (by omega)) ?_)
              refine TGo.iast dX10_findPupils_130 (hT 25 (by decide)) (by omega) rfl ?_
              refine TGo.iinc dX10_findPupils_131 rfl rfl rfl ?_
              refine TGo.goto 21 dX10_findPupils_134 (by decide) ?_
              first | (exfalso; omega) | exact TGo.seq [some (.ref T), some (.int (iI a)), some (.int (iI (t : Int))), some (.int (iI ((((j + 1)) : Nat) : Int))), _, _] [] _ (rfl) rfl rfl (ih (j + 1) _ _ _ (by omega) (by omega) (hz79.t 25 rfl) (by
                refine ⟨u2_s.trans ?_, fun i hi => (u2_n (Or.inr (by omega))).trans (by first | exact hx2 i hi | exact (hf79.1 _ _ (Or.inl (by omega))).trans (hx2 i hi) | exact (hf97.1 _ _ (Or.inl (by omega))).trans ((hf79.1 _ _ (Or.inl (by omega))).trans (hx2 i hi)))⟩
                rw [mbZ]
                first
                | (rw [if_neg (show ¬ cnZ (z.2 3) a (t : Int) (j : Int) = 1 by
                      rw [cnZ_0 (show ¬ canZ (z.2 3) a (t : Int) (j : Int) by unfold canZ togZ; omega)]; decide), Int.add_zero])
                | (rw [if_pos (show cnZ (z.2 3) a (t : Int) (j : Int) = 1 from cnZ_1 (by unfold canZ togZ; omega))])))
            · refine TGo.al0 dX10_findPupils_85 rfl ?_
              refine TGo.il2 dX10_findPupils_86 rfl ?_
              refine TGo.il3 dX10_findPupils_87 rfl ?_
              refine TGo.cF (csV2 (y2 := mX10_together) (t := 18) 2 rfl (hT 0 (by decide)) rfl rfl dX10_findPupils_88 q2368 q2370 qs84 okX10_together npX10_together rfl rfl) (kX10_together hT hz79 W (by omega) (by omega)) ?_
              refine TGo.al0 dX10_findPupils_91 rfl ?_
              refine TGo.il3 dX10_findPupils_92 rfl ?_
              refine TGo.il1 dX10_findPupils_93 rfl ?_
              refine TGo.il2 dX10_findPupils_94 rfl ?_
              refine TGo.il dX10_findPupils_95 rfl ?_
              refine TGo.cS (csV4 (y2 := mX10_hoursOf) (t := 18) 5 rfl (hT 0 (by decide)) rfl rfl dX10_findPupils_97 q2310 q2312 qs76 okX10_hoursOf npX10_hoursOf rfl rfl) (kX10_hoursOf hT hz79 W WL h15 (by omega) (by omega) (by omega) (by omega)) (fun v97 V97 h97 => ?_)
              obtain ⟨rfl, hz97, hf97⟩ := h97
              refine TGo.icmp_lt 107 dX10_findPupils_100 (by decide) (by omega) (fun h100 => ?_) (fun h100 => ?_)
              · refine TGo.ic0 dX10_findPupils_107 ?_
                refine TGo.is dX10_findPupils_108 rfl rfl ?_
                refine TGo.al0 dX10_findPupils_110 rfl ?_
                refine TGo.getS (t := 18) 51 51 (T + 25) (hT 0 (by decide)) rfl fgX10_112_10 dX10_findPupils_111 rfl rfl rfl ?_
                refine TGo.il2 dX10_findPupils_114 rfl ?_
                refine TGo.dup2 dX10_findPupils_115 rfl rfl ?_
                refine TGo.iald dX10_findPupils_116 (hT 25 (by decide)) (by omega) rfl ?_
                refine TGo.toz (mbZ (fun p => cnZ (z.2 3) a (t : Int) p) 1 j) (by first | exact hx1 | exact (hf79.1 _ _ (Or.inl (by omega))).trans (hx1) | exact (hf97.1 _ _ (Or.inl (by omega))).trans ((hf79.1 _ _ (Or.inl (by omega))).trans (hx1))) ?_
                refine TGo.il dX10_findPupils_117 rfl ?_
                refine TGo.if_eq 128 dX10_findPupils_119 (by decide) (by decide) (fun _ => ?_) (fun h => absurd h (by decide))
                refine TGo.ic0 dX10_findPupils_128 ?_
                refine TGo.ior dX10_findPupils_129 ?_
                first | (refine TGo.tos _ (iI_or0 _) ?_) | (refine TGo.tos _ (iI_orb hb2 (by omega)) ?_)
                refine TGo.iast dX10_findPupils_130 (hT 25 (by decide)) (by omega) rfl ?_
                refine TGo.iinc dX10_findPupils_131 rfl rfl rfl ?_
                refine TGo.goto 21 dX10_findPupils_134 (by decide) ?_
                first | (exfalso; omega) | exact TGo.seq [some (.ref T), some (.int (iI a)), some (.int (iI (t : Int))), some (.int (iI ((((j + 1)) : Nat) : Int))), _, _] [] _ (rfl) rfl rfl (ih (j + 1) _ _ _ (by omega) (by omega) (hz97.t 25 rfl) (by
                  refine ⟨u2_s.trans ?_, fun i hi => (u2_n (Or.inr (by omega))).trans (by first | exact hx2 i hi | exact (hf79.1 _ _ (Or.inl (by omega))).trans (hx2 i hi) | exact (hf97.1 _ _ (Or.inl (by omega))).trans ((hf79.1 _ _ (Or.inl (by omega))).trans (hx2 i hi)))⟩
                  rw [mbZ]
                  first
                  | (rw [if_neg (show ¬ cnZ (z.2 3) a (t : Int) (j : Int) = 1 by
                        rw [cnZ_0 (show ¬ canZ (z.2 3) a (t : Int) (j : Int) by unfold canZ togZ; omega)]; decide), Int.add_zero])
                  | (rw [if_pos (show cnZ (z.2 3) a (t : Int) (j : Int) = 1 from cnZ_1 (by unfold canZ togZ; omega))])))
              · refine TGo.ic1 dX10_findPupils_103 ?_
                refine TGo.goto 108 dX10_findPupils_104 (by decide) ?_
                refine TGo.is dX10_findPupils_108 rfl rfl ?_
                refine TGo.al0 dX10_findPupils_110 rfl ?_
                refine TGo.getS (t := 18) 51 51 (T + 25) (hT 0 (by decide)) rfl fgX10_112_10 dX10_findPupils_111 rfl rfl rfl ?_
                refine TGo.il2 dX10_findPupils_114 rfl ?_
                refine TGo.dup2 dX10_findPupils_115 rfl rfl ?_
                refine TGo.iald dX10_findPupils_116 (hT 25 (by decide)) (by omega) rfl ?_
                refine TGo.toz (mbZ (fun p => cnZ (z.2 3) a (t : Int) p) 1 j) (by first | exact hx1 | exact (hf79.1 _ _ (Or.inl (by omega))).trans (hx1) | exact (hf97.1 _ _ (Or.inl (by omega))).trans ((hf79.1 _ _ (Or.inl (by omega))).trans (hx1))) ?_
                refine TGo.il dX10_findPupils_117 rfl ?_
                refine TGo.if_eq 128 dX10_findPupils_119 (by decide) (by decide) (fun h => absurd h (by decide)) (fun _ => ?_)
                refine TGo.ic1 dX10_findPupils_122 ?_
                refine TGo.il3 dX10_findPupils_123 rfl ?_
                refine TGo.ishl dX10_findPupils_124 ?_
                refine TGo.goto 129 dX10_findPupils_125 (by decide) ?_
                refine TGo.ior dX10_findPupils_129 ?_
                first | (refine TGo.tos _ (iI_or0 _) ?_) | (refine TGo.tos _ (iI_orb hb2 (by omega)) ?_)
                refine TGo.iast dX10_findPupils_130 (hT 25 (by decide)) (by omega) rfl ?_
                refine TGo.iinc dX10_findPupils_131 rfl rfl rfl ?_
                refine TGo.goto 21 dX10_findPupils_134 (by decide) ?_
                first | (exfalso; omega) | exact TGo.seq [some (.ref T), some (.int (iI a)), some (.int (iI (t : Int))), some (.int (iI ((((j + 1)) : Nat) : Int))), _, _] [] _ (rfl) rfl rfl (ih (j + 1) _ _ _ (by omega) (by omega) (hz97.t 25 rfl) (by
                  refine ⟨u2_s.trans ?_, fun i hi => (u2_n (Or.inr (by omega))).trans (by first | exact hx2 i hi | exact (hf79.1 _ _ (Or.inl (by omega))).trans (hx2 i hi) | exact (hf97.1 _ _ (Or.inl (by omega))).trans ((hf79.1 _ _ (Or.inl (by omega))).trans (hx2 i hi)))⟩
                  rw [mbZ]
                  first
                  | (rw [if_neg (show ¬ cnZ (z.2 3) a (t : Int) (j : Int) = 1 by
                        rw [cnZ_0 (show ¬ canZ (z.2 3) a (t : Int) (j : Int) by unfold canZ togZ; omega)]; decide), Int.add_zero])
                  | (rw [if_pos (show cnZ (z.2 3) a (t : Int) (j : Int) = 1 from cnZ_1 (by unfold canZ togZ; omega))])))
      · refine TGo.al0 dX10_findPupils_44 rfl ?_
        refine TGo.il2 dX10_findPupils_45 rfl ?_
        refine TGo.cF (csV1 (y2 := mX10_born) (t := 18) 1 rfl (hT 0 (by decide)) rfl rfl dX10_findPupils_46 q2113 q2115 qs45 okX10_born npX10_born rfl rfl) (kX10_born hT hz (by omega)) ?_
        refine TGo.goto 57 dX10_findPupils_49 (by decide) ?_
        refine TGo.toz (max (z.2 3 (238 + 3 * (t : Int))) (z.2 3 (238 + 3 * (j : Int)))) (by omega) ?_
        refine TGo.is dX10_findPupils_57 rfl rfl ?_
        refine TGo.il2 dX10_findPupils_59 rfl ?_
        refine TGo.il3 dX10_findPupils_60 rfl ?_
        refine TGo.icmp_eq 107 dX10_findPupils_61 (by decide) (by omega) (fun h61 => ?_) (fun h61 => ?_)
        · refine TGo.ic0 dX10_findPupils_107 ?_
          refine TGo.is dX10_findPupils_108 rfl rfl ?_
          refine TGo.al0 dX10_findPupils_110 rfl ?_
          refine TGo.getS (t := 18) 51 51 (T + 25) (hT 0 (by decide)) rfl fgX10_112_10 dX10_findPupils_111 rfl rfl rfl ?_
          refine TGo.il2 dX10_findPupils_114 rfl ?_
          refine TGo.dup2 dX10_findPupils_115 rfl rfl ?_
          refine TGo.iald dX10_findPupils_116 (hT 25 (by decide)) (by omega) rfl ?_
          refine TGo.toz (mbZ (fun p => cnZ (z.2 3) a (t : Int) p) 1 j) (by first | exact hx1 | exact (hf79.1 _ _ (Or.inl (by omega))).trans (hx1) | exact (hf97.1 _ _ (Or.inl (by omega))).trans ((hf79.1 _ _ (Or.inl (by omega))).trans (hx1))) ?_
          refine TGo.il dX10_findPupils_117 rfl ?_
          refine TGo.if_eq 128 dX10_findPupils_119 (by decide) (by decide) (fun _ => ?_) (fun h => absurd h (by decide))
          refine TGo.ic0 dX10_findPupils_128 ?_
          refine TGo.ior dX10_findPupils_129 ?_
          first | (refine TGo.tos _ (iI_or0 _) ?_) | (refine TGo.tos _ (iI_orb hb2 (by omega)) ?_)
          refine TGo.iast dX10_findPupils_130 (hT 25 (by decide)) (by omega) rfl ?_
          refine TGo.iinc dX10_findPupils_131 rfl rfl rfl ?_
          refine TGo.goto 21 dX10_findPupils_134 (by decide) ?_
          first | (exfalso; omega) | exact TGo.seq [some (.ref T), some (.int (iI a)), some (.int (iI (t : Int))), some (.int (iI ((((j + 1)) : Nat) : Int))), _, _] [] _ (rfl) rfl rfl (ih (j + 1) _ _ _ (by omega) (by omega) (hz.t 25 rfl) (by
            refine ⟨u2_s.trans ?_, fun i hi => (u2_n (Or.inr (by omega))).trans (by first | exact hx2 i hi | exact (hf79.1 _ _ (Or.inl (by omega))).trans (hx2 i hi) | exact (hf97.1 _ _ (Or.inl (by omega))).trans ((hf79.1 _ _ (Or.inl (by omega))).trans (hx2 i hi)))⟩
            rw [mbZ]
            first
            | (rw [if_neg (show ¬ cnZ (z.2 3) a (t : Int) (j : Int) = 1 by
                  rw [cnZ_0 (show ¬ canZ (z.2 3) a (t : Int) (j : Int) by unfold canZ togZ; omega)]; decide), Int.add_zero])
            | (rw [if_pos (show cnZ (z.2 3) a (t : Int) (j : Int) = 1 from cnZ_1 (by unfold canZ togZ; omega))])))
        · refine TGo.al0 dX10_findPupils_64 rfl ?_
          refine TGo.il2 dX10_findPupils_65 rfl ?_
          refine TGo.il3 dX10_findPupils_66 rfl ?_
          refine TGo.cF (csV2 (y2 := mX10_together) (t := 18) 2 rfl (hT 0 (by decide)) rfl rfl dX10_findPupils_67 q2368 q2370 qs84 okX10_together npX10_together rfl rfl) (kX10_together hT hz W (by omega) (by omega)) ?_
          refine TGo.if_le 107 dX10_findPupils_70 (by decide) (by omega) (fun h70 => ?_) (fun h70 => ?_)
          · refine TGo.ic0 dX10_findPupils_107 ?_
            refine TGo.is dX10_findPupils_108 rfl rfl ?_
            refine TGo.al0 dX10_findPupils_110 rfl ?_
            refine TGo.getS (t := 18) 51 51 (T + 25) (hT 0 (by decide)) rfl fgX10_112_10 dX10_findPupils_111 rfl rfl rfl ?_
            refine TGo.il2 dX10_findPupils_114 rfl ?_
            refine TGo.dup2 dX10_findPupils_115 rfl rfl ?_
            refine TGo.iald dX10_findPupils_116 (hT 25 (by decide)) (by omega) rfl ?_
            refine TGo.toz (mbZ (fun p => cnZ (z.2 3) a (t : Int) p) 1 j) (by first | exact hx1 | exact (hf79.1 _ _ (Or.inl (by omega))).trans (hx1) | exact (hf97.1 _ _ (Or.inl (by omega))).trans ((hf79.1 _ _ (Or.inl (by omega))).trans (hx1))) ?_
            refine TGo.il dX10_findPupils_117 rfl ?_
            refine TGo.if_eq 128 dX10_findPupils_119 (by decide) (by decide) (fun _ => ?_) (fun h => absurd h (by decide))
            refine TGo.ic0 dX10_findPupils_128 ?_
            refine TGo.ior dX10_findPupils_129 ?_
            first | (refine TGo.tos _ (iI_or0 _) ?_) | (refine TGo.tos _ (iI_orb hb2 (by omega)) ?_)
            refine TGo.iast dX10_findPupils_130 (hT 25 (by decide)) (by omega) rfl ?_
            refine TGo.iinc dX10_findPupils_131 rfl rfl rfl ?_
            refine TGo.goto 21 dX10_findPupils_134 (by decide) ?_
            first | (exfalso; omega) | exact TGo.seq [some (.ref T), some (.int (iI a)), some (.int (iI (t : Int))), some (.int (iI ((((j + 1)) : Nat) : Int))), _, _] [] _ (rfl) rfl rfl (ih (j + 1) _ _ _ (by omega) (by omega) (hz.t 25 rfl) (by
              refine ⟨u2_s.trans ?_, fun i hi => (u2_n (Or.inr (by omega))).trans (by first | exact hx2 i hi | exact (hf79.1 _ _ (Or.inl (by omega))).trans (hx2 i hi) | exact (hf97.1 _ _ (Or.inl (by omega))).trans ((hf79.1 _ _ (Or.inl (by omega))).trans (hx2 i hi)))⟩
              rw [mbZ]
              first
              | (rw [if_neg (show ¬ cnZ (z.2 3) a (t : Int) (j : Int) = 1 by
                    rw [cnZ_0 (show ¬ canZ (z.2 3) a (t : Int) (j : Int) by unfold canZ togZ; omega)]; decide), Int.add_zero])
              | (rw [if_pos (show cnZ (z.2 3) a (t : Int) (j : Int) = 1 from cnZ_1 (by unfold canZ togZ; omega))])))
          · refine TGo.al0 dX10_findPupils_73 rfl ?_
            refine TGo.il3 dX10_findPupils_74 rfl ?_
            refine TGo.il1 dX10_findPupils_75 rfl ?_
            refine TGo.il2 dX10_findPupils_76 rfl ?_
            refine TGo.il dX10_findPupils_77 rfl ?_
            refine TGo.cS (csV4 (y2 := mX10_isBarred) (t := 18) 5 rfl (hT 0 (by decide)) rfl rfl dX10_findPupils_79 q2314 q2316 qs77 okX10_isBarred npX10_isBarred rfl rfl) (kX10_isBarred hT hz W WL h15 (by omega) (by omega) (by omega) (by omega)) (fun v79 V79 h79 => ?_)
            obtain ⟨rfl, hz79, hf79⟩ := h79
            refine TGo.ifb_ne 107 dX10_findPupils_82 (by decide) (fun h82 => ?_) (fun h82 => ?_)
            · refine TGo.ic0 dX10_findPupils_107 ?_
              refine TGo.is dX10_findPupils_108 rfl rfl ?_
              refine TGo.al0 dX10_findPupils_110 rfl ?_
              refine TGo.getS (t := 18) 51 51 (T + 25) (hT 0 (by decide)) rfl fgX10_112_10 dX10_findPupils_111 rfl rfl rfl ?_
              refine TGo.il2 dX10_findPupils_114 rfl ?_
              refine TGo.dup2 dX10_findPupils_115 rfl rfl ?_
              refine TGo.iald dX10_findPupils_116 (hT 25 (by decide)) (by omega) rfl ?_
              refine TGo.toz (mbZ (fun p => cnZ (z.2 3) a (t : Int) p) 1 j) (by first | exact hx1 | exact (hf79.1 _ _ (Or.inl (by omega))).trans (hx1) | exact (hf97.1 _ _ (Or.inl (by omega))).trans ((hf79.1 _ _ (Or.inl (by omega))).trans (hx1))) ?_
              refine TGo.il dX10_findPupils_117 rfl ?_
              refine TGo.if_eq 128 dX10_findPupils_119 (by decide) (by decide) (fun _ => ?_) (fun h => absurd h (by decide))
              refine TGo.ic0 dX10_findPupils_128 ?_
              refine TGo.ior dX10_findPupils_129 ?_
              first | (refine TGo.tos _ (iI_or0 _) ?_) | (refine TGo.tos _ (iI_orb hb2 (by omega)) ?_)
              refine TGo.iast dX10_findPupils_130 (hT 25 (by decide)) (by omega) rfl ?_
              refine TGo.iinc dX10_findPupils_131 rfl rfl rfl ?_
              refine TGo.goto 21 dX10_findPupils_134 (by decide) ?_
              first | (exfalso; omega) | exact TGo.seq [some (.ref T), some (.int (iI a)), some (.int (iI (t : Int))), some (.int (iI ((((j + 1)) : Nat) : Int))), _, _] [] _ (rfl) rfl rfl (ih (j + 1) _ _ _ (by omega) (by omega) (hz79.t 25 rfl) (by
                refine ⟨u2_s.trans ?_, fun i hi => (u2_n (Or.inr (by omega))).trans (by first | exact hx2 i hi | exact (hf79.1 _ _ (Or.inl (by omega))).trans (hx2 i hi) | exact (hf97.1 _ _ (Or.inl (by omega))).trans ((hf79.1 _ _ (Or.inl (by omega))).trans (hx2 i hi)))⟩
                rw [mbZ]
                first
                | (rw [if_neg (show ¬ cnZ (z.2 3) a (t : Int) (j : Int) = 1 by
                      rw [cnZ_0 (show ¬ canZ (z.2 3) a (t : Int) (j : Int) by unfold canZ togZ; omega)]; decide), Int.add_zero])
                | (rw [if_pos (show cnZ (z.2 3) a (t : Int) (j : Int) = 1 from cnZ_1 (by unfold canZ togZ; omega))])))
            · refine TGo.al0 dX10_findPupils_85 rfl ?_
              refine TGo.il2 dX10_findPupils_86 rfl ?_
              refine TGo.il3 dX10_findPupils_87 rfl ?_
              refine TGo.cF (csV2 (y2 := mX10_together) (t := 18) 2 rfl (hT 0 (by decide)) rfl rfl dX10_findPupils_88 q2368 q2370 qs84 okX10_together npX10_together rfl rfl) (kX10_together hT hz79 W (by omega) (by omega)) ?_
              refine TGo.al0 dX10_findPupils_91 rfl ?_
              refine TGo.il3 dX10_findPupils_92 rfl ?_
              refine TGo.il1 dX10_findPupils_93 rfl ?_
              refine TGo.il2 dX10_findPupils_94 rfl ?_
              refine TGo.il dX10_findPupils_95 rfl ?_
              refine TGo.cS (csV4 (y2 := mX10_hoursOf) (t := 18) 5 rfl (hT 0 (by decide)) rfl rfl dX10_findPupils_97 q2310 q2312 qs76 okX10_hoursOf npX10_hoursOf rfl rfl) (kX10_hoursOf hT hz79 W WL h15 (by omega) (by omega) (by omega) (by omega)) (fun v97 V97 h97 => ?_)
              obtain ⟨rfl, hz97, hf97⟩ := h97
              refine TGo.icmp_lt 107 dX10_findPupils_100 (by decide) (by omega) (fun h100 => ?_) (fun h100 => ?_)
              · refine TGo.ic0 dX10_findPupils_107 ?_
                refine TGo.is dX10_findPupils_108 rfl rfl ?_
                refine TGo.al0 dX10_findPupils_110 rfl ?_
                refine TGo.getS (t := 18) 51 51 (T + 25) (hT 0 (by decide)) rfl fgX10_112_10 dX10_findPupils_111 rfl rfl rfl ?_
                refine TGo.il2 dX10_findPupils_114 rfl ?_
                refine TGo.dup2 dX10_findPupils_115 rfl rfl ?_
                refine TGo.iald dX10_findPupils_116 (hT 25 (by decide)) (by omega) rfl ?_
                refine TGo.toz (mbZ (fun p => cnZ (z.2 3) a (t : Int) p) 1 j) (by first | exact hx1 | exact (hf79.1 _ _ (Or.inl (by omega))).trans (hx1) | exact (hf97.1 _ _ (Or.inl (by omega))).trans ((hf79.1 _ _ (Or.inl (by omega))).trans (hx1))) ?_
                refine TGo.il dX10_findPupils_117 rfl ?_
                refine TGo.if_eq 128 dX10_findPupils_119 (by decide) (by decide) (fun _ => ?_) (fun h => absurd h (by decide))
                refine TGo.ic0 dX10_findPupils_128 ?_
                refine TGo.ior dX10_findPupils_129 ?_
                first | (refine TGo.tos _ (iI_or0 _) ?_) | (refine TGo.tos _ (iI_orb hb2 (by omega)) ?_)
                refine TGo.iast dX10_findPupils_130 (hT 25 (by decide)) (by omega) rfl ?_
                refine TGo.iinc dX10_findPupils_131 rfl rfl rfl ?_
                refine TGo.goto 21 dX10_findPupils_134 (by decide) ?_
                first | (exfalso; omega) | exact TGo.seq [some (.ref T), some (.int (iI a)), some (.int (iI (t : Int))), some (.int (iI ((((j + 1)) : Nat) : Int))), _, _] [] _ (rfl) rfl rfl (ih (j + 1) _ _ _ (by omega) (by omega) (hz97.t 25 rfl) (by
                  refine ⟨u2_s.trans ?_, fun i hi => (u2_n (Or.inr (by omega))).trans (by first | exact hx2 i hi | exact (hf79.1 _ _ (Or.inl (by omega))).trans (hx2 i hi) | exact (hf97.1 _ _ (Or.inl (by omega))).trans ((hf79.1 _ _ (Or.inl (by omega))).trans (hx2 i hi)))⟩
                  rw [mbZ]
                  first
                  | (rw [if_neg (show ¬ cnZ (z.2 3) a (t : Int) (j : Int) = 1 by
                        rw [cnZ_0 (show ¬ canZ (z.2 3) a (t : Int) (j : Int) by unfold canZ togZ; omega)]; decide), Int.add_zero])
                  | (rw [if_pos (show cnZ (z.2 3) a (t : Int) (j : Int) = 1 from cnZ_1 (by unfold canZ togZ; omega))])))
              · refine TGo.ic1 dX10_findPupils_103 ?_
                refine TGo.goto 108 dX10_findPupils_104 (by decide) ?_
                refine TGo.is dX10_findPupils_108 rfl rfl ?_
                refine TGo.al0 dX10_findPupils_110 rfl ?_
                refine TGo.getS (t := 18) 51 51 (T + 25) (hT 0 (by decide)) rfl fgX10_112_10 dX10_findPupils_111 rfl rfl rfl ?_
                refine TGo.il2 dX10_findPupils_114 rfl ?_
                refine TGo.dup2 dX10_findPupils_115 rfl rfl ?_
                refine TGo.iald dX10_findPupils_116 (hT 25 (by decide)) (by omega) rfl ?_
                refine TGo.toz (mbZ (fun p => cnZ (z.2 3) a (t : Int) p) 1 j) (by first | exact hx1 | exact (hf79.1 _ _ (Or.inl (by omega))).trans (hx1) | exact (hf97.1 _ _ (Or.inl (by omega))).trans ((hf79.1 _ _ (Or.inl (by omega))).trans (hx1))) ?_
                refine TGo.il dX10_findPupils_117 rfl ?_
                refine TGo.if_eq 128 dX10_findPupils_119 (by decide) (by decide) (fun h => absurd h (by decide)) (fun _ => ?_)
                refine TGo.ic1 dX10_findPupils_122 ?_
                refine TGo.il3 dX10_findPupils_123 rfl ?_
                refine TGo.ishl dX10_findPupils_124 ?_
                refine TGo.goto 129 dX10_findPupils_125 (by decide) ?_
                refine TGo.ior dX10_findPupils_129 ?_
                first | (refine TGo.tos _ (iI_or0 _) ?_) | (refine TGo.tos _ (iI_orb hb2 (by omega)) ?_)
                refine TGo.iast dX10_findPupils_130 (hT 25 (by decide)) (by omega) rfl ?_
                refine TGo.iinc dX10_findPupils_131 rfl rfl rfl ?_
                refine TGo.goto 21 dX10_findPupils_134 (by decide) ?_
                first | (exfalso; omega) | exact TGo.seq [some (.ref T), some (.int (iI a)), some (.int (iI (t : Int))), some (.int (iI ((((j + 1)) : Nat) : Int))), _, _] [] _ (rfl) rfl rfl (ih (j + 1) _ _ _ (by omega) (by omega) (hz97.t 25 rfl) (by
                  refine ⟨u2_s.trans ?_, fun i hi => (u2_n (Or.inr (by omega))).trans (by first | exact hx2 i hi | exact (hf79.1 _ _ (Or.inl (by omega))).trans (hx2 i hi) | exact (hf97.1 _ _ (Or.inl (by omega))).trans ((hf79.1 _ _ (Or.inl (by omega))).trans (hx2 i hi)))⟩
                  rw [mbZ]
                  first
                  | (rw [if_neg (show ¬ cnZ (z.2 3) a (t : Int) (j : Int) = 1 by
                        rw [cnZ_0 (show ¬ canZ (z.2 3) a (t : Int) (j : Int) by unfold canZ togZ; omega)]; decide), Int.add_zero])
                  | (rw [if_pos (show cnZ (z.2 3) a (t : Int) (j : Int) = 1 from cnZ_1 (by unfold canZ togZ; omega))])))
set_option maxHeartbeats 4000000 in
theorem lX10_findPupils {E : ET} {sh : SHT} {nn : Nat × Nat} {T : Nat} {z : ZT} {a : Int} {m : Nat} (hT : MSh T sh) (W : RWZ (z.2 3)) (WL : LawsZ (z.2 3)) (h15 : z.1 15 = 0) (ha : 0 ≤ a ∧ a < z.2 3 0) (hm : z.2 3 1 = (m : Int)) (hm8 : m ≤ 8) : ∀ (n j : Nat) (V : VT) (x3 x4 x5 : Option Value), m - j < n → j ≤ m → PE T V z → ((∀ i : Nat, i < j → V.1 (T + 25) (i : Int) = (mbZ (fun p => cnZ (z.2 3) a (i : Int) p) 1 m))) → TGo E mX10_findPupils 6 2 [some (.ref T), some (.int (iI a)), some (.int (iI (((j) : Nat) : Int))), x3, x4, x5] [] sh nn V (fun o sh' nn' V' => o = .inl none ∧ sh' = sh ∧ nn' = nn ∧ PE T V' z ∧ ∀ i : Nat, i < m → V'.1 (T + 25) (i : Int) = (mbZ (fun p => cnZ (z.2 3) a (i : Int) p) 1 m)) := by
  intro n
  induction n with
  | zero => intro j V x3 x4 x5 h; omega
  | succ n ih =>
    intro j V x3 x4 x5 hn hj hz hx
    have w1 := W.1.2.1
    refine TGo.il2 dX10_findPupils_2 rfl ?_
    refine TGo.al0 dX10_findPupils_3 rfl ?_
    refine TGo.getS (t := 18) 3 3 (T + 2) (hT 0 (by decide)) rfl fgX10_13_10 dX10_findPupils_4 rfl rfl rfl ?_
    refine TGo.ic1 dX10_findPupils_7 ?_
    refine TGo.iald dX10_findPupils_8 (hT 2 (by decide)) (by omega) rfl ?_
    refine TGo.toz _ (hz.2.1 3 (by decide) _) ?_
    refine TGo.icmp_ge 143 dX10_findPupils_9 (by decide) (by omega) (fun h9 => ?_) (fun h9 => ?_)
    · refine TGo.vret dX10_findPupils_143 rfl ?_
      obtain rfl : j = m := by omega
      exact ⟨rfl, rfl, rfl, hz, hx⟩
    · refine TGo.al0 dX10_findPupils_12 rfl ?_
      refine TGo.getS (t := 18) 51 51 (T + 25) (hT 0 (by decide)) rfl fgX10_112_10 dX10_findPupils_13 rfl rfl rfl ?_
      refine TGo.il2 dX10_findPupils_16 rfl ?_
      refine TGo.ic0 dX10_findPupils_17 ?_
      refine TGo.iast dX10_findPupils_18 (hT 25 (by decide)) (by omega) rfl ?_
      refine TGo.ic0 dX10_findPupils_19 ?_
      refine TGo.is3 dX10_findPupils_20 rfl rfl ?_
      exact TGo.seq [some (.ref T), some (.int (iI a)), some (.int (iI (j : Int))), some (.int (iI (((0 : Nat) : Int)))), x4, x5] [] _ rfl rfl rfl (iX10_findPupils (t := j) hT W WL h15 ha hm hm8 (by omega) (fun V1 y3 y4 y5 hz1 hp1 => ih (j + 1) V1 y3 y4 y5 (by omega) (by omega) hz1 hp1) (m + 1) 0 _ _ _ (by omega) (by omega) (hz.t 25 rfl) ⟨u2_s, fun i hi => (u2_n (Or.inr (by omega))).trans (hx i hi)⟩)
set_option maxHeartbeats 4000000 in
theorem kX10_findPupils {E : ET} {sh : SHT} {nn : Nat × Nat} {V : VT} {T : Nat} {z : ZT} {m : Nat} {a : Int} (hT : MSh T sh) (hz : PE T V z) (W : RWZ (z.2 3)) (WL : LawsZ (z.2 3)) (h15 : z.1 15 = 0) (ha : 0 ≤ a ∧ a < z.2 3 0) (hm : z.2 3 1 = (m : Int)) (hm8 : m ≤ 8) : TN E mX10_findPupils 6 [.ref T, .int (iI a)] sh nn V (fun V' => PE T V' z ∧ ∀ i : Nat, i < m → V'.1 (T + 25) (i : Int) = (mbZ (fun p => cnZ (z.2 3) a (i : Int) p) 1 m)) := by
  refine TC.intro [some (.ref T), some (.int (iI a)), none, none, none, none] rfl ?_
  refine TGo.ic0 dX10_findPupils_0 ?_
  refine TGo.is2 dX10_findPupils_1 rfl rfl ?_
  exact lX10_findPupils hT W WL h15 ha hm hm8 (m + 1) 0 _ _ _ _ (by omega) (by omega) hz (fun i hi => by omega)
def CVZ (T : Nat) (V : VT) (S : CT) : Prop := V.1 T 54 = S.2 ∧ (∀ i, 0 ≤ i → i < S.2 → V.1 (T + 26) i = S.1.1 i) ∧ ∀ x, 0 ≤ x → x < 8 → V.1 (T + 27) x = S.1.2 x
set_option maxHeartbeats 4000000 in
theorem iX10_findCome {E : ET} {sh : SHT} {nn : Nat × Nat} {T : Nat} {z : ZT} {a x0 wo x : Int} {m k : Nat} {V0 : VT} (hT : MSh T sh) (hm : z.2 3 1 = (m : Int)) (hm8 : m ≤ 8) (hx0 : 0 ≤ x0 ∧ x0 < (m : Int)) (hwo : -1 ≤ wo ∧ wo ≤ 8) (hpu : ∀ x : Int, 0 ≤ x → x < (m : Int) → V0.1 (T + 25) x = (mbZ (fun p => cnZ (z.2 3) a x p) 1 m)) (hk : (k : Int) < (cmS (okZ (z.2 3) a wo) m x0 k).2) (hxk : (cmS (okZ (z.2 3) a wo) m x0 k).1.1 (k : Int) = x) (K : ∀ (V : VT) (x4 : Option Value), PE T V z → Fr [T, T + 26, T + 27] V0 V → CVZ T V (cmS (okZ (z.2 3) a wo) m x0 (k + 1)) → TGo E mX10_findCome 2 42 [some (.ref T), some (.int (iI x0)), some (.int (iI wo)), some (.int (iI ((((k + 1)) : Nat) : Int))), x4] [] sh nn V (fun o sh' nn' V' => o = .inl none ∧ sh' = sh ∧ nn' = nn ∧ PE T V' z ∧ Fr [T, T + 26, T + 27] V0 V' ∧ CVZ T V' (cmS (okZ (z.2 3) a wo) m x0 m))) : ∀ (n j : Nat) (V : VT), m - j < n → j ≤ m → PE T V z → (Fr [T, T + 26, T + 27] V0 V ∧ CVZ T V (cmR (okZ (z.2 3) a wo) (cmS (okZ (z.2 3) a wo) m x0 k) x j)) → TGo E mX10_findCome 2 53 [some (.ref T), some (.int (iI x0)), some (.int (iI wo)), some (.int (iI (k : Int))), some (.int (iI (((j) : Nat) : Int)))] [] sh nn V (fun o sh' nn' V' => o = .inl none ∧ sh' = sh ∧ nn' = nn ∧ PE T V' z ∧ Fr [T, T + 26, T + 27] V0 V' ∧ CVZ T V' (cmS (okZ (z.2 3) a wo) m x0 m)) := by
  intro n
  induction n with
  | zero => intro j V h; omega
  | succ n ih =>
    intro j V hn hj hz hx
    obtain ⟨hfr, hv1, hv2, hv3⟩ := hx
    have hS := cmS_ok (ok := (okZ (z.2 3) a wo)) hx0 k
    have hxr : 0 ≤ x ∧ x < (m : Int) := by rw [← hxk]; exact (hS.2.1 k (by omega) hk).1
    have hxm : (cmS (okZ (z.2 3) a wo) m x0 k).1.2 x ≠ -1 := by rw [← hxk]; exact (hS.2.1 k (by omega) hk).2
    have hI := cmR_ok (ok := (okZ (z.2 3) a wo)) hS hxr hxm j hj
    have hle := hI.1.le
    have hcm := cmR_come (ok := (okZ (z.2 3) a wo)) (S := (cmS (okZ (z.2 3) a wo) m x0 k)) (x := x) j
    have hkx : (cmR (okZ (z.2 3) a wo) (cmS (okZ (z.2 3) a wo) m x0 k) x j).1.1 (k : Int) = x := by rw [hcm.2 k hk]; exact hxk
    have hpx := hpu x hxr.1 hxr.2
    have hb1 := mbZ_le (fun p => cnZ (z.2 3) a x p) 1 m m (Nat.le_refl _) (by omega)
    refine TGo.il dX10_findCome_53 rfl ?_
    refine TGo.al0 dX10_findCome_55 rfl ?_
    refine TGo.getS (t := 18) 3 3 (T + 2) (hT 0 (by decide)) rfl fgX10_13_10 dX10_findCome_56 rfl rfl rfl ?_
    refine TGo.ic1 dX10_findCome_59 ?_
    refine TGo.iald dX10_findCome_60 (hT 2 (by decide)) (by omega) rfl ?_
    refine TGo.toz _ (hz.2.1 3 (by decide) _) ?_
    refine TGo.icmp_ge 140 dX10_findCome_61 (by decide) (by omega) (fun h61 => ?_) (fun h61 => ?_)
    · obtain rfl : j = m := by omega
      have g1 : cmS (okZ (z.2 3) a wo) j x0 (k + 1) = cmR (okZ (z.2 3) a wo) (cmS (okZ (z.2 3) a wo) j x0 k) x j := by rw [cmS, if_neg (by omega), hxk]
      refine TGo.iinc dX10_findCome_140 rfl rfl rfl ?_
      refine TGo.goto 42 dX10_findCome_143 (by decide) ?_
      exact TGo.seq [some (.ref T), some (.int (iI x0)), some (.int (iI wo)), some (.int (iI ((((k + 1)) : Nat) : Int))), _] [] _ rfl rfl rfl (K _ _ hz hfr (by rw [g1]; exact ⟨hv1, hv2, hv3⟩))
    · have htr := hI.1.2.2.1 (j : Int) (by omega) (by omega)
      have hbit : (mbZ (fun p => cnZ (z.2 3) a x p) 1 m) / ((2 ^ ((j : Int).toNat) : Nat) : Int) % 2 = if cnZ (z.2 3) a x (j : Int) = 1 then 1 else 0 := mbZ_bit (fun p => cnZ (z.2 3) a x p) 1 j m (by omega)
      have hok : (okZ (z.2 3) a wo) x (j : Int) = if (j : Int) = wo then 0 else cnZ (z.2 3) a x (j : Int) := rfl
      have hcn : cnZ (z.2 3) a x (j : Int) = 0 ∨ cnZ (z.2 3) a x (j : Int) = 1 := bZ_or _
      refine TGo.al0 dX10_findCome_64 rfl ?_
      refine TGo.getS (t := 18) 51 51 (T + 25) (hT 0 (by decide)) rfl fgX10_112_10 dX10_findCome_65 rfl rfl rfl ?_
      refine TGo.al0 dX10_findCome_68 rfl ?_
      refine TGo.getS (t := 18) 52 52 (T + 26) (hT 0 (by decide)) rfl fgX10_115_10 dX10_findCome_69 rfl rfl rfl ?_
      refine TGo.il3 dX10_findCome_72 rfl ?_
      refine TGo.iald dX10_findCome_73 (hT 26 (by decide)) (by omega) rfl ?_
      refine TGo.toz x ((hv2 _ (by omega) (by omega)).trans hkx) ?_
      refine TGo.iald dX10_findCome_74 (hT 25 (by decide)) (by omega) rfl ?_
      refine TGo.toz (mbZ (fun p => cnZ (z.2 3) a x p) 1 m) ((congrFun (hfr.1 _ (by simp)) _).trans hpx) ?_
      refine TGo.il dX10_findCome_75 rfl ?_
      refine TGo.cF (csS2 (y2 := mX10_is) 1 rfl dX10_findCome_77 q2480 q2481 okX10_is npX10_is rfl rfl) (kX10_is (by omega) (by omega)) ?_
      refine TGo.ifb_eq 134 dX10_findCome_80 (by decide) (fun h80 => ?_) (fun h80 => ?_)
      · refine TGo.iinc dX10_findCome_134 rfl rfl rfl ?_
        refine TGo.goto 53 dX10_findCome_137 (by decide) ?_
        first | (exfalso; omega) | exact TGo.seq [some (.ref T), some (.int (iI x0)), some (.int (iI wo)), some (.int (iI (k : Int))), some (.int (iI ((((j + 1)) : Nat) : Int)))] [] _ (rfl) rfl rfl (ih (j + 1) _ (by omega) (by omega) hz (by
          first
          | (have e1 : (cmR (okZ (z.2 3) a wo) (cmS (okZ (z.2 3) a wo) m x0 k) x (j + 1)) = (cmR (okZ (z.2 3) a wo) (cmS (okZ (z.2 3) a wo) m x0 k) x j) := by
               rw [cmR, cmC, if_neg (fun q => by
                 obtain ⟨q1, q2⟩ := q
                 rw [hok] at q1
                 first | omega | (rw [if_pos (by omega)] at q1; omega) | ((rcases hcn with q | q; rw [q] at q1; split at q1 <;> omega; rw [if_pos q] at hbit; omega)))]
             rw [e1]; exact ⟨hfr, hv1, hv2, hv3⟩)
          | (have hc1 : cnZ (z.2 3) a x (j : Int) = 1 := by
               rcases hcn with q | q
               · rw [if_neg (by omega)] at hbit; omega
               · exact q
             have e1 : (cmR (okZ (z.2 3) a wo) (cmS (okZ (z.2 3) a wo) m x0 k) x (j + 1)) = ((zu (cmR (okZ (z.2 3) a wo) (cmS (okZ (z.2 3) a wo) m x0 k) x j).1.1 (cmR (okZ (z.2 3) a wo) (cmS (okZ (z.2 3) a wo) m x0 k) x j).2 (j : Int), zu (cmR (okZ (z.2 3) a wo) (cmS (okZ (z.2 3) a wo) m x0 k) x j).1.2 (j : Int) x), (cmR (okZ (z.2 3) a wo) (cmS (okZ (z.2 3) a wo) m x0 k) x j).2 + 1) := by
               rw [cmR, cmC, if_pos ⟨by rw [hok, if_neg (by omega)]; exact hc1, by omega⟩]
             rw [e1]
             refine ⟨((hfr.i (by simp)).i (by simp)).i (by simp), u2_s, fun i h0 h1 => ?_, fun w h0 h1 => ?_⟩
             · show _ = zu (cmR (okZ (z.2 3) a wo) (cmS (okZ (z.2 3) a wo) m x0 k) x j).1.1 (cmR (okZ (z.2 3) a wo) (cmS (okZ (z.2 3) a wo) m x0 k) x j).2 (j : Int) i
               have h1 : i < (cmR (okZ (z.2 3) a wo) (cmS (okZ (z.2 3) a wo) m x0 k) x j).2 + 1 := h1
               refine (u2_n (Or.inl (by omega))).trans ?_
               by_cases e : i = (cmR (okZ (z.2 3) a wo) (cmS (okZ (z.2 3) a wo) m x0 k) x j).2
               · rw [e, zu_s]; exact u2_s
               · rw [zu_n e]; exact (u2_n (Or.inr e)).trans ((u2_n (Or.inl (by omega))).trans (hv2 i h0 (by omega)))
             · show _ = zu (cmR (okZ (z.2 3) a wo) (cmS (okZ (z.2 3) a wo) m x0 k) x j).1.2 (j : Int) x w
               refine (u2_n (Or.inl (by omega))).trans ((u2_n (Or.inl (by omega))).trans ?_)
               by_cases e : w = (j : Int)
               · rw [e, zu_s]; exact u2_s
               · rw [zu_n e]; exact (u2_n (Or.inr e)).trans (hv3 w h0 h1))))
      · refine TGo.al0 dX10_findCome_83 rfl ?_
        refine TGo.getS (t := 18) 53 53 (T + 27) (hT 0 (by decide)) rfl fgX10_118_10 dX10_findCome_84 rfl rfl rfl ?_
        refine TGo.il dX10_findCome_87 rfl ?_
        refine TGo.iald dX10_findCome_89 (hT 27 (by decide)) (by omega) rfl ?_
        refine TGo.toz _ (hv3 _ (by omega) (by omega)) ?_
        refine TGo.icm1 dX10_findCome_90 ?_
        refine TGo.icmp_ne 134 dX10_findCome_91 (by decide) (by omega) (fun h91 => ?_) (fun h91 => ?_)
        · refine TGo.iinc dX10_findCome_134 rfl rfl rfl ?_
          refine TGo.goto 53 dX10_findCome_137 (by decide) ?_
          first | (exfalso; omega) | exact TGo.seq [some (.ref T), some (.int (iI x0)), some (.int (iI wo)), some (.int (iI (k : Int))), some (.int (iI ((((j + 1)) : Nat) : Int)))] [] _ (rfl) rfl rfl (ih (j + 1) _ (by omega) (by omega) hz (by
            first
            | (have e1 : (cmR (okZ (z.2 3) a wo) (cmS (okZ (z.2 3) a wo) m x0 k) x (j + 1)) = (cmR (okZ (z.2 3) a wo) (cmS (okZ (z.2 3) a wo) m x0 k) x j) := by
                 rw [cmR, cmC, if_neg (fun q => by
                   obtain ⟨q1, q2⟩ := q
                   rw [hok] at q1
                   first | omega | (rw [if_pos (by omega)] at q1; omega) | ((rcases hcn with q | q; rw [q] at q1; split at q1 <;> omega; rw [if_pos q] at hbit; omega)))]
               rw [e1]; exact ⟨hfr, hv1, hv2, hv3⟩)
            | (have hc1 : cnZ (z.2 3) a x (j : Int) = 1 := by
                 rcases hcn with q | q
                 · rw [if_neg (by omega)] at hbit; omega
                 · exact q
               have e1 : (cmR (okZ (z.2 3) a wo) (cmS (okZ (z.2 3) a wo) m x0 k) x (j + 1)) = ((zu (cmR (okZ (z.2 3) a wo) (cmS (okZ (z.2 3) a wo) m x0 k) x j).1.1 (cmR (okZ (z.2 3) a wo) (cmS (okZ (z.2 3) a wo) m x0 k) x j).2 (j : Int), zu (cmR (okZ (z.2 3) a wo) (cmS (okZ (z.2 3) a wo) m x0 k) x j).1.2 (j : Int) x), (cmR (okZ (z.2 3) a wo) (cmS (okZ (z.2 3) a wo) m x0 k) x j).2 + 1) := by
                 rw [cmR, cmC, if_pos ⟨by rw [hok, if_neg (by omega)]; exact hc1, by omega⟩]
               rw [e1]
               refine ⟨((hfr.i (by simp)).i (by simp)).i (by simp), u2_s, fun i h0 h1 => ?_, fun w h0 h1 => ?_⟩
               · show _ = zu (cmR (okZ (z.2 3) a wo) (cmS (okZ (z.2 3) a wo) m x0 k) x j).1.1 (cmR (okZ (z.2 3) a wo) (cmS (okZ (z.2 3) a wo) m x0 k) x j).2 (j : Int) i
                 have h1 : i < (cmR (okZ (z.2 3) a wo) (cmS (okZ (z.2 3) a wo) m x0 k) x j).2 + 1 := h1
                 refine (u2_n (Or.inl (by omega))).trans ?_
                 by_cases e : i = (cmR (okZ (z.2 3) a wo) (cmS (okZ (z.2 3) a wo) m x0 k) x j).2
                 · rw [e, zu_s]; exact u2_s
                 · rw [zu_n e]; exact (u2_n (Or.inr e)).trans ((u2_n (Or.inl (by omega))).trans (hv2 i h0 (by omega)))
               · show _ = zu (cmR (okZ (z.2 3) a wo) (cmS (okZ (z.2 3) a wo) m x0 k) x j).1.2 (j : Int) x w
                 refine (u2_n (Or.inl (by omega))).trans ((u2_n (Or.inl (by omega))).trans ?_)
                 by_cases e : w = (j : Int)
                 · rw [e, zu_s]; exact u2_s
                 · rw [zu_n e]; exact (u2_n (Or.inr e)).trans (hv3 w h0 h1))))
        · refine TGo.il dX10_findCome_94 rfl ?_
          refine TGo.il2 dX10_findCome_96 rfl ?_
          refine TGo.icmp_eq 134 dX10_findCome_97 (by decide) (by omega) (fun h97 => ?_) (fun h97 => ?_)
          · refine TGo.iinc dX10_findCome_134 rfl rfl rfl ?_
            refine TGo.goto 53 dX10_findCome_137 (by decide) ?_
            first | (exfalso; omega) | exact TGo.seq [some (.ref T), some (.int (iI x0)), some (.int (iI wo)), some (.int (iI (k : Int))), some (.int (iI ((((j + 1)) : Nat) : Int)))] [] _ (rfl) rfl rfl (ih (j + 1) _ (by omega) (by omega) hz (by
              first
              | (have e1 : (cmR (okZ (z.2 3) a wo) (cmS (okZ (z.2 3) a wo) m x0 k) x (j + 1)) = (cmR (okZ (z.2 3) a wo) (cmS (okZ (z.2 3) a wo) m x0 k) x j) := by
                   rw [cmR, cmC, if_neg (fun q => by
                     obtain ⟨q1, q2⟩ := q
                     rw [hok] at q1
                     first | omega | (rw [if_pos (by omega)] at q1; omega) | ((rcases hcn with q | q; rw [q] at q1; split at q1 <;> omega; rw [if_pos q] at hbit; omega)))]
                 rw [e1]; exact ⟨hfr, hv1, hv2, hv3⟩)
              | (have hc1 : cnZ (z.2 3) a x (j : Int) = 1 := by
                   rcases hcn with q | q
                   · rw [if_neg (by omega)] at hbit; omega
                   · exact q
                 have e1 : (cmR (okZ (z.2 3) a wo) (cmS (okZ (z.2 3) a wo) m x0 k) x (j + 1)) = ((zu (cmR (okZ (z.2 3) a wo) (cmS (okZ (z.2 3) a wo) m x0 k) x j).1.1 (cmR (okZ (z.2 3) a wo) (cmS (okZ (z.2 3) a wo) m x0 k) x j).2 (j : Int), zu (cmR (okZ (z.2 3) a wo) (cmS (okZ (z.2 3) a wo) m x0 k) x j).1.2 (j : Int) x), (cmR (okZ (z.2 3) a wo) (cmS (okZ (z.2 3) a wo) m x0 k) x j).2 + 1) := by
                   rw [cmR, cmC, if_pos ⟨by rw [hok, if_neg (by omega)]; exact hc1, by omega⟩]
                 rw [e1]
                 refine ⟨((hfr.i (by simp)).i (by simp)).i (by simp), u2_s, fun i h0 h1 => ?_, fun w h0 h1 => ?_⟩
                 · show _ = zu (cmR (okZ (z.2 3) a wo) (cmS (okZ (z.2 3) a wo) m x0 k) x j).1.1 (cmR (okZ (z.2 3) a wo) (cmS (okZ (z.2 3) a wo) m x0 k) x j).2 (j : Int) i
                   have h1 : i < (cmR (okZ (z.2 3) a wo) (cmS (okZ (z.2 3) a wo) m x0 k) x j).2 + 1 := h1
                   refine (u2_n (Or.inl (by omega))).trans ?_
                   by_cases e : i = (cmR (okZ (z.2 3) a wo) (cmS (okZ (z.2 3) a wo) m x0 k) x j).2
                   · rw [e, zu_s]; exact u2_s
                   · rw [zu_n e]; exact (u2_n (Or.inr e)).trans ((u2_n (Or.inl (by omega))).trans (hv2 i h0 (by omega)))
                 · show _ = zu (cmR (okZ (z.2 3) a wo) (cmS (okZ (z.2 3) a wo) m x0 k) x j).1.2 (j : Int) x w
                   refine (u2_n (Or.inl (by omega))).trans ((u2_n (Or.inl (by omega))).trans ?_)
                   by_cases e : w = (j : Int)
                   · rw [e, zu_s]; exact u2_s
                   · rw [zu_n e]; exact (u2_n (Or.inr e)).trans (hv3 w h0 h1))))
          · have hlt := (hI.1.step (y := (j : Int)) ⟨hxr, hI.2⟩ (by omega) (by omega)).2
            refine TGo.al0 dX10_findCome_100 rfl ?_
            refine TGo.getS (t := 18) 53 53 (T + 27) (hT 0 (by decide)) rfl fgX10_118_10 dX10_findCome_101 rfl rfl rfl ?_
            refine TGo.il dX10_findCome_104 rfl ?_
            refine TGo.al0 dX10_findCome_106 rfl ?_
            refine TGo.getS (t := 18) 52 52 (T + 26) (hT 0 (by decide)) rfl fgX10_115_10 dX10_findCome_107 rfl rfl rfl ?_
            refine TGo.il3 dX10_findCome_110 rfl ?_
            refine TGo.iald dX10_findCome_111 (hT 26 (by decide)) (by omega) rfl ?_
            refine TGo.toz x ((hv2 _ (by omega) (by omega)).trans hkx) ?_
            refine TGo.iast dX10_findCome_112 (hT 27 (by decide)) (by omega) rfl ?_
            refine TGo.al0 dX10_findCome_113 rfl ?_
            refine TGo.getS (t := 18) 52 52 (T + 26) (hT 0 (by decide)) rfl fgX10_115_10 dX10_findCome_114 rfl rfl rfl ?_
            refine TGo.al0 dX10_findCome_117 rfl ?_
            refine TGo.getI (t := 18) 54 54 (hT 0 (by decide)) rfl fgX10_540_10 dX10_findCome_118 rfl rfl rfl ?_
            refine TGo.toz _ ((u2_n (Or.inl (by omega))).trans hv1) ?_
            refine TGo.il dX10_findCome_121 rfl ?_
            refine TGo.iast dX10_findCome_123 (hT 26 (by decide)) (by omega) rfl ?_
            refine TGo.al0 dX10_findCome_124 rfl ?_
            refine TGo.dup dX10_findCome_125 rfl ?_
            refine TGo.getI (t := 18) 54 54 (hT 0 (by decide)) rfl fgX10_540_10 dX10_findCome_126 rfl rfl rfl ?_
            refine TGo.toz _ ((u2_n (Or.inl (by omega))).trans ((u2_n (Or.inl (by omega))).trans hv1)) ?_
            refine TGo.ic1 dX10_findCome_129 ?_
            refine TGo.iadd dX10_findCome_130 ?_
            refine TGo.putI (t := 18) 54 54 (hT 0 (by decide)) rfl fpX10_540_10 dX10_findCome_131 rfl rfl rfl ?_
            refine TGo.iinc dX10_findCome_134 rfl rfl rfl ?_
            refine TGo.goto 53 dX10_findCome_137 (by decide) ?_
            first | (exfalso; omega) | exact TGo.seq [some (.ref T), some (.int (iI x0)), some (.int (iI wo)), some (.int (iI (k : Int))), some (.int (iI ((((j + 1)) : Nat) : Int)))] [] _ (rfl) rfl rfl (ih (j + 1) _ (by omega) (by omega) (((hz.t 27 rfl).t 26 rfl).s rfl) (by
              first
              | (have e1 : (cmR (okZ (z.2 3) a wo) (cmS (okZ (z.2 3) a wo) m x0 k) x (j + 1)) = (cmR (okZ (z.2 3) a wo) (cmS (okZ (z.2 3) a wo) m x0 k) x j) := by
                   rw [cmR, cmC, if_neg (fun q => by
                     obtain ⟨q1, q2⟩ := q
                     rw [hok] at q1
                     first | omega | (rw [if_pos (by omega)] at q1; omega) | ((rcases hcn with q | q; rw [q] at q1; split at q1 <;> omega; rw [if_pos q] at hbit; omega)))]
                 rw [e1]; exact ⟨hfr, hv1, hv2, hv3⟩)
              | (have hc1 : cnZ (z.2 3) a x (j : Int) = 1 := by
                   rcases hcn with q | q
                   · rw [if_neg (by omega)] at hbit; omega
                   · exact q
                 have e1 : (cmR (okZ (z.2 3) a wo) (cmS (okZ (z.2 3) a wo) m x0 k) x (j + 1)) = ((zu (cmR (okZ (z.2 3) a wo) (cmS (okZ (z.2 3) a wo) m x0 k) x j).1.1 (cmR (okZ (z.2 3) a wo) (cmS (okZ (z.2 3) a wo) m x0 k) x j).2 (j : Int), zu (cmR (okZ (z.2 3) a wo) (cmS (okZ (z.2 3) a wo) m x0 k) x j).1.2 (j : Int) x), (cmR (okZ (z.2 3) a wo) (cmS (okZ (z.2 3) a wo) m x0 k) x j).2 + 1) := by
                   rw [cmR, cmC, if_pos ⟨by rw [hok, if_neg (by omega)]; exact hc1, by omega⟩]
                 rw [e1]
                 refine ⟨((hfr.i (by simp)).i (by simp)).i (by simp), u2_s, fun i h0 h1 => ?_, fun w h0 h1 => ?_⟩
                 · show _ = zu (cmR (okZ (z.2 3) a wo) (cmS (okZ (z.2 3) a wo) m x0 k) x j).1.1 (cmR (okZ (z.2 3) a wo) (cmS (okZ (z.2 3) a wo) m x0 k) x j).2 (j : Int) i
                   have h1 : i < (cmR (okZ (z.2 3) a wo) (cmS (okZ (z.2 3) a wo) m x0 k) x j).2 + 1 := h1
                   refine (u2_n (Or.inl (by omega))).trans ?_
                   by_cases e : i = (cmR (okZ (z.2 3) a wo) (cmS (okZ (z.2 3) a wo) m x0 k) x j).2
                   · rw [e, zu_s]; exact u2_s
                   · rw [zu_n e]; exact (u2_n (Or.inr e)).trans ((u2_n (Or.inl (by omega))).trans (hv2 i h0 (by omega)))
                 · show _ = zu (cmR (okZ (z.2 3) a wo) (cmS (okZ (z.2 3) a wo) m x0 k) x j).1.2 (j : Int) x w
                   refine (u2_n (Or.inl (by omega))).trans ((u2_n (Or.inl (by omega))).trans ?_)
                   by_cases e : w = (j : Int)
                   · rw [e, zu_s]; exact u2_s
                   · rw [zu_n e]; exact (u2_n (Or.inr e)).trans (hv3 w h0 h1))))
set_option maxHeartbeats 4000000 in
theorem lX10_findCome {E : ET} {sh : SHT} {nn : Nat × Nat} {T : Nat} {z : ZT} {a x0 wo : Int} {m : Nat} {V0 : VT} (hT : MSh T sh) (hm : z.2 3 1 = (m : Int)) (hm8 : m ≤ 8) (hx0 : 0 ≤ x0 ∧ x0 < (m : Int)) (hwo : -1 ≤ wo ∧ wo ≤ 8) (hpu : ∀ x : Int, 0 ≤ x → x < (m : Int) → V0.1 (T + 25) x = (mbZ (fun p => cnZ (z.2 3) a x p) 1 m)) : ∀ (n j : Nat) (V : VT) (x4 : Option Value), m - j < n → j ≤ m → PE T V z → (Fr [T, T + 26, T + 27] V0 V ∧ CVZ T V (cmS (okZ (z.2 3) a wo) m x0 j)) → TGo E mX10_findCome 2 42 [some (.ref T), some (.int (iI x0)), some (.int (iI wo)), some (.int (iI (((j) : Nat) : Int))), x4] [] sh nn V (fun o sh' nn' V' => o = .inl none ∧ sh' = sh ∧ nn' = nn ∧ PE T V' z ∧ Fr [T, T + 26, T + 27] V0 V' ∧ CVZ T V' (cmS (okZ (z.2 3) a wo) m x0 m)) := by
  intro n
  induction n with
  | zero => intro j V x4 h; omega
  | succ n ih =>
    intro j V x4 hn hj hz hx
    have hS := cmS_ok (ok := (okZ (z.2 3) a wo)) hx0 j
    have hle := hS.le
    have hge := hS.1.1
    refine TGo.il3 dX10_findCome_42 rfl ?_
    refine TGo.al0 dX10_findCome_43 rfl ?_
    refine TGo.getI (t := 18) 54 54 (hT 0 (by decide)) rfl fgX10_540_10 dX10_findCome_44 rfl rfl rfl ?_
    refine TGo.toz _ hx.2.1 ?_
    refine TGo.icmp_ge 146 dX10_findCome_47 (by decide) (by omega) (fun h47 => ?_) (fun h47 => ?_)
    · refine TGo.vret dX10_findCome_146 rfl ?_
      have e9 : (cmS (okZ (z.2 3) a wo) m x0 m) = cmS (okZ (z.2 3) a wo) m x0 j := cmS_stay (by omega) m hj
      exact ⟨rfl, rfl, rfl, hz, hx.1, by rw [e9]; exact hx.2⟩
    · refine TGo.ic0 dX10_findCome_50 ?_
      refine TGo.is dX10_findCome_51 rfl rfl ?_
      exact TGo.seq [some (.ref T), some (.int (iI x0)), some (.int (iI wo)), some (.int (iI (j : Int))), some (.int (iI (((0 : Nat) : Int))))] [] _ rfl rfl rfl (iX10_findCome (k := j) hT hm hm8 hx0 hwo hpu (by omega) rfl (fun V1 y4 hz1 hf1 hv1 => ih (j + 1) V1 y4 (by omega) (by omega) hz1 ⟨hf1, hv1⟩) (m + 1) 0 _ (by omega) (by omega) hz hx)
set_option maxHeartbeats 4000000 in
theorem zX10_findCome {E : ET} {sh : SHT} {nn : Nat × Nat} {T : Nat} {z : ZT} {a x0 wo : Int} {m : Nat} {V0 : VT} (hT : MSh T sh) (hm : z.2 3 1 = (m : Int)) (hm8 : m ≤ 8) (hx0 : 0 ≤ x0 ∧ x0 < (m : Int)) (hwo : -1 ≤ wo ∧ wo ≤ 8) (hpu : ∀ x : Int, 0 ≤ x → x < (m : Int) → V0.1 (T + 25) x = (mbZ (fun p => cnZ (z.2 3) a x p) 1 m)) : ∀ (n j : Nat) (V : VT), 8 - j < n → j ≤ 8 → PE T V z → (Fr [T, T + 26, T + 27] V0 V ∧ ∀ w, 0 ≤ w → w < (j : Int) → V.1 (T + 27) w = -1) → TGo E mX10_findCome 2 2 [some (.ref T), some (.int (iI x0)), some (.int (iI wo)), some (.int (iI (((j) : Nat) : Int))), none] [] sh nn V (fun o sh' nn' V' => o = .inl none ∧ sh' = sh ∧ nn' = nn ∧ PE T V' z ∧ Fr [T, T + 26, T + 27] V0 V' ∧ CVZ T V' (cmS (okZ (z.2 3) a wo) m x0 m)) := by
  intro n
  induction n with
  | zero => intro j V h; omega
  | succ n ih =>
    intro j V hn hj hz hx
    refine TGo.il3 dX10_findCome_2 rfl ?_
    refine TGo.bip 8 dX10_findCome_3 (by decide) ?_
    refine TGo.icmp_ge 21 dX10_findCome_5 (by decide) (by omega) (fun h5 => ?_) (fun h5 => ?_)
    · refine TGo.al0 dX10_findCome_21 rfl ?_
      refine TGo.getS (t := 18) 53 53 (T + 27) (hT 0 (by decide)) rfl fgX10_118_10 dX10_findCome_22 rfl rfl rfl ?_
      refine TGo.il1 dX10_findCome_25 rfl ?_
      refine TGo.il1 dX10_findCome_26 rfl ?_
      refine TGo.iast dX10_findCome_27 (hT 27 (by decide)) (by omega) rfl ?_
      refine TGo.al0 dX10_findCome_28 rfl ?_
      refine TGo.getS (t := 18) 52 52 (T + 26) (hT 0 (by decide)) rfl fgX10_115_10 dX10_findCome_29 rfl rfl rfl ?_
      refine TGo.ic0 dX10_findCome_32 ?_
      refine TGo.il1 dX10_findCome_33 rfl ?_
      refine TGo.iast dX10_findCome_34 (hT 26 (by decide)) (by omega) rfl ?_
      refine TGo.al0 dX10_findCome_35 rfl ?_
      refine TGo.ic1 dX10_findCome_36 ?_
      refine TGo.putI (t := 18) 54 54 (hT 0 (by decide)) rfl fpX10_540_10 dX10_findCome_37 rfl rfl rfl ?_
      refine TGo.ic0 dX10_findCome_40 ?_
      refine TGo.is3 dX10_findCome_41 rfl rfl ?_
      obtain rfl : j = 8 := by omega
      refine TGo.seq [some (.ref T), some (.int (iI x0)), some (.int (iI wo)), some (.int (iI (((0) : Nat) : Int))), none] [] _ rfl rfl rfl (lX10_findCome hT hm hm8 hx0 hwo hpu (m + 1) 0 _ _ (by omega) (by omega) (((hz.t 27 rfl).t 26 rfl).s rfl) ⟨((hx.1.i (by simp)).i (by simp)).i (by simp), u2_s, fun i h0 h1 => ?_, fun w h0 h1 => ?_⟩)
      · have h1 : i < 1 := h1
        obtain rfl : i = 0 := by omega
        exact (u2_n (Or.inl (by omega))).trans u2_s
      · show _ = if w = x0 then x0 else -1
        refine (u2_n (Or.inl (by omega))).trans ((u2_n (Or.inl (by omega))).trans ?_)
        by_cases e : w = x0
        · rw [e]; exact u2_s.trans (if_pos rfl).symm
        · rw [if_neg e]; exact (u2_n (Or.inr e)).trans (hx.2 w h0 (by omega))
    · refine TGo.al0 dX10_findCome_8 rfl ?_
      refine TGo.getS (t := 18) 53 53 (T + 27) (hT 0 (by decide)) rfl fgX10_118_10 dX10_findCome_9 rfl rfl rfl ?_
      refine TGo.il3 dX10_findCome_12 rfl ?_
      refine TGo.icm1 dX10_findCome_13 ?_
      refine TGo.iast dX10_findCome_14 (hT 27 (by decide)) (by omega) rfl ?_
      refine TGo.iinc dX10_findCome_15 rfl rfl rfl ?_
      refine TGo.goto 2 dX10_findCome_18 (by decide) ?_
      exact TGo.seq [some (.ref T), some (.int (iI x0)), some (.int (iI wo)), some (.int (iI ((((j + 1)) : Nat) : Int))), none] [] _ (rfl) rfl rfl (ih (j + 1) _ (by omega) (by omega) (hz.t 27 rfl) ⟨hx.1.i (by simp), fun r h0 h1 => by
        by_cases e : r = (j : Int)
        · rw [e]; exact u2_s
        · exact (u2_n (Or.inr e)).trans (hx.2 r h0 (by omega))⟩)
set_option maxHeartbeats 4000000 in
theorem kX10_findCome {E : ET} {sh : SHT} {nn : Nat × Nat} {V : VT} {T : Nat} {z : ZT} {a : Int} {m : Nat} {x0 wo : Int} (hT : MSh T sh) (hz : PE T V z) (hm : z.2 3 1 = (m : Int)) (hm8 : m ≤ 8) (hx0 : 0 ≤ x0 ∧ x0 < (m : Int)) (hwo : -1 ≤ wo ∧ wo ≤ 8) (hpu : ∀ x : Int, 0 ≤ x → x < (m : Int) → V.1 (T + 25) x = (mbZ (fun p => cnZ (z.2 3) a x p) 1 m)) : TN E mX10_findCome 2 [.ref T, .int (iI x0), .int (iI wo)] sh nn V (fun V' => PE T V' z ∧ Fr [T, T + 26, T + 27] V V' ∧ CVZ T V' (cmS (okZ (z.2 3) a wo) m x0 m)) := by
  refine TC.intro [some (.ref T), some (.int (iI x0)), some (.int (iI wo)), none, none] rfl ?_
  refine TGo.ic0 dX10_findCome_0 ?_
  refine TGo.is3 dX10_findCome_1 rfl rfl ?_
  exact zX10_findCome hT hm hm8 hx0 hwo hpu 9 0 _ (by omega) (by omega) hz ⟨Fr.rf, fun i h0 h1 => by omega⟩
set_option maxHeartbeats 4000000 in
theorem lX10_lastOf {E : ET} {sh : SHT} {nn : Nat × Nat} {V : VT} {T : Nat} {z : ZT} {x0 : Int} {m q : Nat} {S : CT} (hT : MSh T sh) (hz : PE T V z) (W : RWZ (z.2 3)) (hm : z.2 3 1 = (m : Int)) (hS : CIZ m x0 S) (hv : CVZ T V S) (hq : S.2 = (q : Int) + 1) : ∀ (n j : Nat), q - j < n → j ≤ q → TGo E mX10_lastOf 2 9 [some (.ref T), some (.int (iI (laZ (z.2 3) S (j)))), some (.int (iI (((j) : Nat) + 1 : Int)))] [] sh nn V (fun o sh' nn' V' => o = .inl (some (.int (iI (laZ (z.2 3) S q)))) ∧ sh' = sh ∧ nn' = nn ∧ V' = V) := by
  intro n
  induction n with
  | zero => intro j h; omega
  | succ n ih =>
    intro j hn hj
    have w1 := W.1.2.1
    have hle := hS.le
    obtain ⟨i0, i1, i2, i3⟩ := laZ_in (f := z.2 3) hS j (by omega)
    have hla := (hS.2.1 i0 i1 (by omega)).1
    rw [← i3] at hla
    have wl := W.2.2.2.1 (laZ (z.2 3) S j) (by omega) (by omega)
    refine TGo.il2 dX10_lastOf_9 rfl ?_
    refine TGo.al0 dX10_lastOf_10 rfl ?_
    refine TGo.getI (t := 18) 54 54 (hT 0 (by decide)) rfl fgX10_540_10 dX10_lastOf_11 rfl rfl rfl ?_
    refine TGo.toz _ hv.1 ?_
    refine TGo.icmp_ge 52 dX10_lastOf_14 (by decide) (by omega) (fun h14 => ?_) (fun h14 => ?_)
    · refine TGo.il1 dX10_lastOf_52 rfl ?_
      refine TGo.iret dX10_lastOf_53 rfl ?_
      obtain rfl : j = q := by omega
      exact ⟨rfl, rfl, rfl, rfl⟩
    · have hnj := (hS.2.1 ((j : Int) + 1) (by omega) (by omega)).1
      have wn := W.2.2.2.1 (S.1.1 ((j : Int) + 1)) (by omega) (by omega)
      refine TGo.al0 dX10_lastOf_17 rfl ?_
      refine TGo.al0 dX10_lastOf_18 rfl ?_
      refine TGo.getS (t := 18) 52 52 (T + 26) (hT 0 (by decide)) rfl fgX10_115_10 dX10_lastOf_19 rfl rfl rfl ?_
      refine TGo.il2 dX10_lastOf_22 rfl ?_
      refine TGo.iald dX10_lastOf_23 (hT 26 (by decide)) (by omega) rfl ?_
      refine TGo.toz _ (hv.2.1 _ (by omega) (by omega)) ?_
      refine TGo.cF (csV1 (y2 := mX10_dead) (t := 18) 1 rfl (hT 0 (by decide)) rfl rfl dX10_lastOf_24 q2125 q2127 qs47 okX10_dead npX10_dead rfl rfl) (kX10_dead hT hz (by omega)) ?_
      refine TGo.al0 dX10_lastOf_27 rfl ?_
      refine TGo.il1 dX10_lastOf_28 rfl ?_
      refine TGo.cF (csV1 (y2 := mX10_dead) (t := 18) 1 rfl (hT 0 (by decide)) rfl rfl dX10_lastOf_29 q2125 q2127 qs47 okX10_dead npX10_dead rfl rfl) (kX10_dead hT hz (by omega)) ?_
      refine TGo.icmp_le 44 dX10_lastOf_32 (by decide) (by omega) (fun h32 => ?_) (fun h32 => ?_)
      · refine TGo.il1 dX10_lastOf_44 rfl ?_
        refine TGo.is1 dX10_lastOf_45 rfl rfl ?_
        refine TGo.iinc dX10_lastOf_46 rfl rfl rfl ?_
        refine TGo.goto 9 dX10_lastOf_49 (by decide) ?_
        first | (exfalso; omega) | exact TGo.seq [some (.ref T), some (.int (iI (laZ (z.2 3) S ((j + 1))))), some (.int (iI ((((j + 1)) : Nat) + 1 : Int)))] [] _ (by rw [laZ]; first | (rw [if_pos (by first | assumption | omega)]; rfl) | (rw [if_neg (by first | assumption | omega)]; rfl)) rfl rfl (ih (j + 1) (by omega) (by omega))
      · refine TGo.al0 dX10_lastOf_35 rfl ?_
        refine TGo.getS (t := 18) 52 52 (T + 26) (hT 0 (by decide)) rfl fgX10_115_10 dX10_lastOf_36 rfl rfl rfl ?_
        refine TGo.il2 dX10_lastOf_39 rfl ?_
        refine TGo.iald dX10_lastOf_40 (hT 26 (by decide)) (by omega) rfl ?_
        refine TGo.toz _ (hv.2.1 _ (by omega) (by omega)) ?_
        refine TGo.goto 45 dX10_lastOf_41 (by decide) ?_
        refine TGo.is1 dX10_lastOf_45 rfl rfl ?_
        refine TGo.iinc dX10_lastOf_46 rfl rfl rfl ?_
        refine TGo.goto 9 dX10_lastOf_49 (by decide) ?_
        first | (exfalso; omega) | exact TGo.seq [some (.ref T), some (.int (iI (laZ (z.2 3) S ((j + 1))))), some (.int (iI ((((j + 1)) : Nat) + 1 : Int)))] [] _ (by rw [laZ]; first | (rw [if_pos (by first | assumption | omega)]; rfl) | (rw [if_neg (by first | assumption | omega)]; rfl)) rfl rfl (ih (j + 1) (by omega) (by omega))
set_option maxHeartbeats 4000000 in
theorem kX10_lastOf {E : ET} {sh : SHT} {nn : Nat × Nat} {V : VT} {T : Nat} {z : ZT} {x0 : Int} {m q : Nat} {S : CT} (hT : MSh T sh) (hz : PE T V z) (W : RWZ (z.2 3)) (hm : z.2 3 1 = (m : Int)) (hS : CIZ m x0 S) (hv : CVZ T V S) (hq : S.2 = (q : Int) + 1) : TF E mX10_lastOf 2 [.ref T] sh nn V (.int (iI (laZ (z.2 3) S q))) := by
  refine TC.intro [some (.ref T), none, none] rfl ?_
  refine TGo.al0 dX10_lastOf_0 rfl ?_
  refine TGo.getS (t := 18) 52 52 (T + 26) (hT 0 (by decide)) rfl fgX10_115_10 dX10_lastOf_1 rfl rfl rfl ?_
  refine TGo.ic0 dX10_lastOf_4 ?_
  refine TGo.iald dX10_lastOf_5 (hT 26 (by decide)) (by omega) rfl ?_
  refine TGo.toz _ (hv.2.1 0 (by omega) (by omega)) ?_
  refine TGo.is1 dX10_lastOf_6 rfl rfl ?_
  refine TGo.ic1 dX10_lastOf_7 ?_
  refine TGo.is2 dX10_lastOf_8 rfl rfl ?_
  exact lX10_lastOf hT hz W hm hS hv hq (q + 1) 0 (by omega) (by omega)
set_option maxHeartbeats 4000000 in
theorem lX10_lengthTo {E : ET} {sh : SHT} {nn : Nat × Nat} {V : VT} {T : Nat} {z : ZT} {x x0 : Int} {m q : Nat} {S : CT} (hT : MSh T sh) (hz : PE T V z) (hm8 : m ≤ 8) (hS : CIZ m x0 S) (hv : CVZ T V S) (hq1 : itZ S.1.2 x q = x0) (hq2 : ∀ k : Nat, k ≤ q → (0 ≤ itZ S.1.2 x k ∧ itZ S.1.2 x k < (m : Int)) ∧ S.1.2 (itZ S.1.2 x k) ≠ -1 ∧ (k < q → itZ S.1.2 x k ≠ x0)) (hq8 : q < 8) : ∀ (n j : Nat), q - j < n → j ≤ q → TGo E mX10_lengthTo 1 4 [some (.ref T), some (.int (iI x)), some (.int (iI (((j) : Nat) + 1 : Int))), some (.int (iI (itZ S.1.2 x (j))))] [] sh nn V (fun o sh' nn' V' => o = .inl (some (.int (iI ((q : Int) + 1)))) ∧ sh' = sh ∧ nn' = nn ∧ V' = V) := by
  intro n
  induction n with
  | zero => intro j h; omega
  | succ n ih =>
    intro j hn hj
    have h1 := hq2 j hj
    have h2 := (hS.2.2.2.2.1 _ h1.1.1 h1.1.2 h1.2.1).2
    have h3 := hS.2.2.1 _ h1.1.1 h1.1.2
    have h4 : j < q ∨ itZ S.1.2 x j = x0 := by
      rcases Nat.eq_or_lt_of_le hj with e | e
      · right; rw [e]; exact hq1
      · exact Or.inl e
    refine TGo.al0 dX10_lengthTo_4 rfl ?_
    refine TGo.getS (t := 18) 53 53 (T + 27) (hT 0 (by decide)) rfl fgX10_118_10 dX10_lengthTo_5 rfl rfl rfl ?_
    refine TGo.il3 dX10_lengthTo_8 rfl ?_
    refine TGo.iald dX10_lengthTo_9 (hT 27 (by decide)) (by omega) rfl ?_
    refine TGo.toz _ (hv.2.2 _ (by omega) (by omega)) ?_
    refine TGo.il3 dX10_lengthTo_10 rfl ?_
    refine TGo.icmp_eq 27 dX10_lengthTo_11 (by decide) (by omega) (fun h11 => ?_) (fun h11 => ?_)
    · refine TGo.il2 dX10_lengthTo_27 rfl ?_
      refine TGo.iret dX10_lengthTo_28 rfl ?_
      obtain rfl : j = q := by
        rcases Nat.eq_or_lt_of_le hj with e | e
        · exact e
        · exact absurd (h2.mp (by omega)) (h1.2.2 e)
      exact ⟨rfl, rfl, rfl, rfl⟩
    · refine TGo.iinc dX10_lengthTo_14 rfl rfl rfl ?_
      refine TGo.al0 dX10_lengthTo_17 rfl ?_
      refine TGo.getS (t := 18) 53 53 (T + 27) (hT 0 (by decide)) rfl fgX10_118_10 dX10_lengthTo_18 rfl rfl rfl ?_
      refine TGo.il3 dX10_lengthTo_21 rfl ?_
      refine TGo.iald dX10_lengthTo_22 (hT 27 (by decide)) (by omega) rfl ?_
      refine TGo.toz _ (hv.2.2 _ (by omega) (by omega)) ?_
      refine TGo.is3 dX10_lengthTo_23 rfl rfl ?_
      refine TGo.goto 4 dX10_lengthTo_24 (by decide) ?_
      first | (exfalso; omega) | exact TGo.seq [some (.ref T), some (.int (iI x)), some (.int (iI ((((j + 1)) : Nat) + 1 : Int))), some (.int (iI (itZ S.1.2 x ((j + 1)))))] [] _ (rfl) rfl rfl (ih (j + 1) (by omega) (by omega))
set_option maxHeartbeats 4000000 in
theorem kX10_lengthTo {E : ET} {sh : SHT} {nn : Nat × Nat} {V : VT} {T : Nat} {z : ZT} {x0 : Int} {m q : Nat} {S : CT} {x : Int} (hT : MSh T sh) (hz : PE T V z) (hm8 : m ≤ 8) (hS : CIZ m x0 S) (hv : CVZ T V S) (hq1 : itZ S.1.2 x q = x0) (hq2 : ∀ k : Nat, k ≤ q → (0 ≤ itZ S.1.2 x k ∧ itZ S.1.2 x k < (m : Int)) ∧ S.1.2 (itZ S.1.2 x k) ≠ -1 ∧ (k < q → itZ S.1.2 x k ≠ x0)) (hq8 : q < 8) : TF E mX10_lengthTo 1 [.ref T, .int (iI x)] sh nn V (.int (iI ((q : Int) + 1))) := by
  refine TC.intro [some (.ref T), some (.int (iI x)), none, none] rfl ?_
  refine TGo.ic1 dX10_lengthTo_0 ?_
  refine TGo.is2 dX10_lengthTo_1 rfl rfl ?_
  refine TGo.il1 dX10_lengthTo_2 rfl ?_
  refine TGo.is3 dX10_lengthTo_3 rfl rfl ?_
  exact lX10_lengthTo hT hz hm8 hS hv hq1 hq2 hq8 (q + 1) 0 (by omega) (by omega)
/-- all who are come to from x0, without wo; the first of those who live longest; how many are in the row -/
def chS (f : Int → Int) (a x0 wo : Int) : CT := cmS (okZ f a wo) (f 1).toNat x0 (f 1).toNat
def chL (f : Int → Int) (a x0 wo : Int) : Int := laZ f (chS f a x0 wo) ((chS f a x0 wo).2 - 1).toNat
def chN (f : Int → Int) (a x0 : Int) : Int := (lnkZ (chS f a x0 (-1)).1.2 x0 8 (chL f a x0 (-1)) : Int) + 1
def ndZ (f : Int → Int) (a x0 : Int) : Int → Int := fun x => bZ (x ≠ x0 ∧ f (238 + 3 * chL f a x0 x + 1) = f (238 + 3 * chL f a x0 (-1) + 1))
def chainZ (f : Int → Int) (a x0 w : Int) : Int :=
  if w = 0 then f (238 + 3 * chL f a x0 (-1) + 1) - 1 else if w = 1 then chN f a x0 else if w = 20 then mbZ (ndZ f a x0) 1 (f 1).toNat
  else if w - 2 < chN f a x0 then itZ (chS f a x0 (-1)).1.2 (chL f a x0 (-1)) (chN f a x0 - 1 - (w - 2)).toNat else -1
def zp_chain (z : ZT) (a p w : Int) : Int × ZT := if ¬ ((0 ≤ a ∧ a < z.2 3 0) ∧ (0 ≤ p ∧ p < z.2 3 1) ∧ ((0 ≤ w ∧ w ≤ 9) ∨ w = 20)) then (-1, z) else (chainZ (z.2 3) a p w, z)
theorem chS_ok {f : Int → Int} (W : RWZ f) {a x0 wo : Int} (h : 0 ≤ x0 ∧ x0 < f 1) : CIZ (f 1).toNat x0 (chS f a x0 wo) := cmS_ok ⟨h.1, by omega⟩ _
theorem chL_ok {f : Int → Int} (W : RWZ f) {a x0 wo : Int} (h : 0 ≤ x0 ∧ x0 < f 1) : (0 ≤ chL f a x0 wo ∧ chL f a x0 wo < f 1) ∧ (chS f a x0 wo).1.2 (chL f a x0 wo) ≠ -1 := by
  have h1 := chS_ok W (a := a) (wo := wo) h
  have h2 := h1.1.1
  obtain ⟨i, q1, q2, q3⟩ := laZ_in (f := f) h1 ((chS f a x0 wo).2 - 1).toNat (by omega)
  have h3 := h1.2.1 i q1 (by omega)
  unfold chL
  rw [q3]
  exact ⟨⟨h3.1.1, by have := h3.1.2; have := W.1.2.1; omega⟩, h3.2⟩
theorem chN_ok {f : Int → Int} (W : RWZ f) {a x0 : Int} (h : 0 ≤ x0 ∧ x0 < f 1) : ∃ q : Nat, chN f a x0 = (q : Int) + 1 ∧ q < 8 ∧ itZ (chS f a x0 (-1)).1.2 (chL f a x0 (-1)) q = x0 ∧ ∀ k : Nat, k ≤ q → (0 ≤ itZ (chS f a x0 (-1)).1.2 (chL f a x0 (-1)) k ∧ itZ (chS f a x0 (-1)).1.2 (chL f a x0 (-1)) k < ((f 1).toNat : Int)) ∧ (chS f a x0 (-1)).1.2 (itZ (chS f a x0 (-1)).1.2 (chL f a x0 (-1)) k) ≠ -1 ∧ (k < q → itZ (chS f a x0 (-1)).1.2 (chL f a x0 (-1)) k ≠ x0) := by
  have h1 := chS_ok W (a := a) (wo := -1) h
  have h2 := chL_ok W (a := a) (wo := -1) h
  have h9 := W.1.2.1
  obtain ⟨L, q1, q2, q3⟩ := (h1.2.2.2.2.1 (chL f a x0 (-1)) h2.1.1 (by omega) h2.2).1
  have hle := h1.le
  have e := lnkZ_eq 8 L (chL f a x0 (-1)) (by omega) q2 (fun k hk => (q3 k (by omega)).2.2 hk)
  exact ⟨L, by unfold chN; rw [e], by omega, q2, q3⟩
set_option maxHeartbeats 4000000 in
theorem jX10_chain {E : ET} {sh : SHT} {nn : Nat × Nat} {V : VT} {T : Nat} {z : ZT} {a p w l1 : Int} {m q m2 : Nat} {S : CT} (hT : MSh T sh) (hz : PE T V z) (hm8 : m ≤ 8) (hS : CIZ m p S) (hv : CVZ T V S) (hq1 : itZ S.1.2 l1 q = p) (hq2 : ∀ k : Nat, k ≤ q → (0 ≤ itZ S.1.2 l1 k ∧ itZ S.1.2 l1 k < (m : Int)) ∧ S.1.2 (itZ S.1.2 l1 k) ≠ -1 ∧ (k < q → itZ S.1.2 l1 k ≠ p)) (hq8 : q < 8) (hw : 2 ≤ w ∧ w ≤ 9) (hm2 : m2 = ((q : Int) + 1 - 1 - (w - 2)).toNat) : ∀ (n j : Nat), m2 - j < n → j ≤ m2 → TGo E mX10_chain 7 105 [some (.ref T), some (.int (iI a)), some (.int (iI p)), some (.int (iI w)), some (.int (iI l1)), some (.int (iI ((q : Int) + 1))), some (.int (iI (itZ S.1.2 l1 (j)))), some (.int (iI ((q : Int) + 1 - 1 - (((j) : Nat) : Int))))] [] sh nn V (fun o sh' nn' V' => o = .inl (some (.int (iI (if w - 2 < (q : Int) + 1 then itZ S.1.2 l1 m2 else -1)))) ∧ sh' = sh ∧ nn' = nn ∧ V' = V) := by
  intro n
  induction n with
  | zero => intro j h; omega
  | succ n ih =>
    intro j hn hj
    have h1 := hq2 j (by omega)
    have h3 := hS.2.2.1 _ h1.1.1 h1.1.2
    refine TGo.il dX10_chain_105 rfl ?_
    refine TGo.il3 dX10_chain_107 rfl ?_
    refine TGo.ic2 dX10_chain_108 ?_
    refine TGo.isub dX10_chain_109 ?_
    refine TGo.icmp_le 128 dX10_chain_110 (by decide) (by omega) (fun h110 => ?_) (fun h110 => ?_)
    · refine TGo.il3 dX10_chain_128 rfl ?_
      refine TGo.ic2 dX10_chain_129 ?_
      refine TGo.isub dX10_chain_130 ?_
      refine TGo.il dX10_chain_131 rfl ?_
      refine TGo.icmp_ge 141 dX10_chain_133 (by decide) (by omega) (fun h133 => ?_) (fun h133 => ?_)
      · refine TGo.icm1 dX10_chain_141 ?_
        refine TGo.iret dX10_chain_142 rfl ?_
        obtain rfl : j = m2 := by omega
        refine ⟨rvI ?_, rfl, rfl, rfl⟩
        first | rw [if_pos (by omega)] | rw [if_neg (by omega)]
      · refine TGo.il dX10_chain_136 rfl ?_
        refine TGo.goto 142 dX10_chain_138 (by decide) ?_
        refine TGo.iret dX10_chain_142 rfl ?_
        obtain rfl : j = m2 := by omega
        refine ⟨rvI ?_, rfl, rfl, rfl⟩
        first | rw [if_pos (by omega)] | rw [if_neg (by omega)]
    · refine TGo.al0 dX10_chain_113 rfl ?_
      refine TGo.getS (t := 18) 53 53 (T + 27) (hT 0 (by decide)) rfl fgX10_118_10 dX10_chain_114 rfl rfl rfl ?_
      refine TGo.il dX10_chain_117 rfl ?_
      refine TGo.iald dX10_chain_119 (hT 27 (by decide)) (by omega) rfl ?_
      refine TGo.toz _ (hv.2.2 _ (by omega) (by omega)) ?_
      refine TGo.is dX10_chain_120 rfl rfl ?_
      refine TGo.iinc dX10_chain_122 rfl rfl rfl ?_
      refine TGo.goto 105 dX10_chain_125 (by decide) ?_
      first | (exfalso; omega) | exact TGo.seq [some (.ref T), some (.int (iI a)), some (.int (iI p)), some (.int (iI w)), some (.int (iI l1)), some (.int (iI ((q : Int) + 1))), some (.int (iI (itZ S.1.2 l1 ((j + 1))))), some (.int (iI ((q : Int) + 1 - 1 - ((((j + 1)) : Nat) : Int))))] [] _ (by rw [show (q : Int) + 1 - 1 - (((j + 1) : Nat) : Int) = (q : Int) + 1 - 1 - (j : Int) + -1 by omega]; rfl) rfl rfl (ih (j + 1) (by omega) (by omega))
set_option maxHeartbeats 4000000 in
theorem nX10_chain {E : ET} {sh : SHT} {nn : Nat × Nat} {T : Nat} {z : ZT} {a p w x5 : Int} {m : Nat} {V0 : VT} (hT : MSh T sh) (W : RWZ (z.2 3)) (hm : z.2 3 1 = (m : Int)) (hm8 : m ≤ 8) (hp : 0 ≤ p ∧ p < z.2 3 1) (hpu : ∀ x : Int, 0 ≤ x → x < (m : Int) → V0.1 (T + 25) x = (mbZ (fun p => cnZ (z.2 3) a x p) 1 m)) : ∀ (n j : Nat) (V : VT), m - j < n → j ≤ m → PE T V z → (Fr [T, T + 26, T + 27] V0 V) → TGo E mX10_chain 7 149 [some (.ref T), some (.int (iI a)), some (.int (iI p)), some (.int (iI w)), some (.int (iI (chL (z.2 3) a p (-1)))), some (.int (iI x5)), some (.int (iI (mbZ (ndZ (z.2 3) a p) 1 (j)))), some (.int (iI (((j) : Nat) : Int)))] [] sh nn V (fun o sh' nn' V' => o = .inl (some (.int (iI (mbZ (ndZ (z.2 3) a p) 1 m)))) ∧ sh' = sh ∧ nn' = nn ∧ PE T V' z) := by
  intro n
  induction n with
  | zero => intro j V h; omega
  | succ n ih =>
    intro j V hn hj hz hx
    have hb2 := mbZ_r (ndZ (z.2 3) a p) 1 j
    have em : (z.2 3 1).toNat = m := by omega
    have hL1 := chL_ok W (a := a) (wo := -1) hp
    have hLj := chL_ok W (a := a) (wo := (j : Int)) hp
    have hSj := chS_ok W (a := a) (wo := (j : Int)) hp
    have hSj1 := hSj.1.1
    have wl1 := W.2.2.2.1 _ hL1.1.1 hL1.1.2
    have wlj := W.2.2.2.1 _ hLj.1.1 hLj.1.2
    refine TGo.il dX10_chain_149 rfl ?_
    refine TGo.al0 dX10_chain_151 rfl ?_
    refine TGo.getS (t := 18) 3 3 (T + 2) (hT 0 (by decide)) rfl fgX10_13_10 dX10_chain_152 rfl rfl rfl ?_
    refine TGo.ic1 dX10_chain_155 ?_
    refine TGo.iald dX10_chain_156 (hT 2 (by decide)) (by omega) rfl ?_
    refine TGo.toz _ (hz.2.1 3 (by decide) _) ?_
    refine TGo.icmp_ge 209 dX10_chain_157 (by decide) (by omega) (fun h157 => ?_) (fun h157 => ?_)
    · refine TGo.il dX10_chain_209 rfl ?_
      refine TGo.iret dX10_chain_211 rfl ?_
      obtain rfl : j = m := by omega
      exact ⟨rfl, rfl, rfl, hz⟩
    · refine TGo.al0 dX10_chain_160 rfl ?_
      refine TGo.il2 dX10_chain_161 rfl ?_
      refine TGo.il dX10_chain_162 rfl ?_
      refine TGo.cN (csV2 (y2 := mX10_findCome) (t := 18) 2 rfl (hT 0 (by decide)) rfl rfl dX10_chain_164 q2476 q2478 qs96 okX10_findCome npX10_findCome rfl rfl) (kX10_findCome (a := a) hT hz hm hm8 (by omega) (by omega) (fun x h0 h1 => (congrFun (hx.1 _ (by simp)) _).trans (hpu x h0 h1))) (fun V164 h164 => ?_)
      obtain ⟨hz164, hf164, hv164⟩ := h164
      have hv164 : CVZ T V164 (chS (z.2 3) a p (j : Int)) := by unfold chS; rw [em]; exact hv164
      refine TGo.il dX10_chain_167 rfl ?_
      refine TGo.il dX10_chain_169 rfl ?_
      refine TGo.il2 dX10_chain_171 rfl ?_
      refine TGo.icmp_eq 199 dX10_chain_172 (by decide) (by omega) (fun h172 => ?_) (fun h172 => ?_)
      · refine TGo.ic0 dX10_chain_199 ?_
        refine TGo.ior dX10_chain_200 ?_
        first | (refine TGo.tos _ (iI_or0 _) ?_) | (refine TGo.tos _ (iI_orb hb2 (by omega)) ?_)
        refine TGo.is dX10_chain_201 rfl rfl ?_
        refine TGo.iinc dX10_chain_203 rfl rfl rfl ?_
        refine TGo.goto 149 dX10_chain_206 (by decide) ?_
        first | (exfalso; omega) | exact TGo.seq [some (.ref T), some (.int (iI a)), some (.int (iI p)), some (.int (iI w)), some (.int (iI (chL (z.2 3) a p (-1)))), some (.int (iI x5)), some (.int (iI (mbZ (ndZ (z.2 3) a p) 1 ((j + 1))))), some (.int (iI ((((j + 1)) : Nat) : Int)))] [] _ (by rw [mbZ]; first | (rw [if_pos (show ndZ (z.2 3) a p (j : Int) = 1 from bZ_t (by omega))]; rfl) | (rw [if_neg (show ¬ ndZ (z.2 3) a p (j : Int) = 1 from fun q => absurd (bZ_1.mp q) (by omega))]; simp only [Int.add_zero]; rfl)) rfl rfl (ih (j + 1) _ (by omega) (by omega) hz164 (hx.tr hf164))
      · refine TGo.al0 dX10_chain_175 rfl ?_
        refine TGo.al0 dX10_chain_176 rfl ?_
        refine TGo.cF (csV0 (y2 := mX10_lastOf) (t := 18) 2 rfl (hT 0 (by decide)) rfl rfl dX10_chain_177 q2483 q2485 qs97 okX10_lastOf npX10_lastOf rfl rfl) (kX10_lastOf (S := chS (z.2 3) a p (j : Int)) (q := ((chS (z.2 3) a p (j : Int)).2 - 1).toNat) hT hz164 W (by omega) hSj hv164 (by omega)) ?_
        refine TGo.toz (chL (z.2 3) a p (j : Int)) rfl ?_
        refine TGo.cF (csV1 (y2 := mX10_dead) (t := 18) 1 rfl (hT 0 (by decide)) rfl rfl dX10_chain_180 q2125 q2127 qs47 okX10_dead npX10_dead rfl rfl) (kX10_dead hT hz164 (by omega)) ?_
        refine TGo.al0 dX10_chain_183 rfl ?_
        refine TGo.il dX10_chain_184 rfl ?_
        refine TGo.cF (csV1 (y2 := mX10_dead) (t := 18) 1 rfl (hT 0 (by decide)) rfl rfl dX10_chain_186 q2125 q2127 qs47 okX10_dead npX10_dead rfl rfl) (kX10_dead hT hz164 (by omega)) ?_
        refine TGo.icmp_ne 199 dX10_chain_189 (by decide) (by omega) (fun h189 => ?_) (fun h189 => ?_)
        · refine TGo.ic0 dX10_chain_199 ?_
          refine TGo.ior dX10_chain_200 ?_
          first | (refine TGo.tos _ (iI_or0 _) ?_) | (refine TGo.tos _ (iI_orb hb2 (by omega)) ?_)
          refine TGo.is dX10_chain_201 rfl rfl ?_
          refine TGo.iinc dX10_chain_203 rfl rfl rfl ?_
          refine TGo.goto 149 dX10_chain_206 (by decide) ?_
          first | (exfalso; omega) | exact TGo.seq [some (.ref T), some (.int (iI a)), some (.int (iI p)), some (.int (iI w)), some (.int (iI (chL (z.2 3) a p (-1)))), some (.int (iI x5)), some (.int (iI (mbZ (ndZ (z.2 3) a p) 1 ((j + 1))))), some (.int (iI ((((j + 1)) : Nat) : Int)))] [] _ (by rw [mbZ]; first | (rw [if_pos (show ndZ (z.2 3) a p (j : Int) = 1 from bZ_t (by omega))]; rfl) | (rw [if_neg (show ¬ ndZ (z.2 3) a p (j : Int) = 1 from fun q => absurd (bZ_1.mp q) (by omega))]; simp only [Int.add_zero]; rfl)) rfl rfl (ih (j + 1) _ (by omega) (by omega) hz164 (hx.tr hf164))
        · refine TGo.ic1 dX10_chain_192 ?_
          refine TGo.il dX10_chain_193 rfl ?_
          refine TGo.ishl dX10_chain_195 ?_
          refine TGo.goto 200 dX10_chain_196 (by decide) ?_
          refine TGo.ior dX10_chain_200 ?_
          first | (refine TGo.tos _ (iI_or0 _) ?_) | (refine TGo.tos _ (iI_orb hb2 (by omega)) ?_)
          refine TGo.is dX10_chain_201 rfl rfl ?_
          refine TGo.iinc dX10_chain_203 rfl rfl rfl ?_
          refine TGo.goto 149 dX10_chain_206 (by decide) ?_
          first | (exfalso; omega) | exact TGo.seq [some (.ref T), some (.int (iI a)), some (.int (iI p)), some (.int (iI w)), some (.int (iI (chL (z.2 3) a p (-1)))), some (.int (iI x5)), some (.int (iI (mbZ (ndZ (z.2 3) a p) 1 ((j + 1))))), some (.int (iI ((((j + 1)) : Nat) : Int)))] [] _ (by rw [mbZ]; first | (rw [if_pos (show ndZ (z.2 3) a p (j : Int) = 1 from bZ_t (by omega))]; rfl) | (rw [if_neg (show ¬ ndZ (z.2 3) a p (j : Int) = 1 from fun q => absurd (bZ_1.mp q) (by omega))]; simp only [Int.add_zero]; rfl)) rfl rfl (ih (j + 1) _ (by omega) (by omega) hz164 (hx.tr hf164))
set_option maxHeartbeats 4000000 in
theorem kX10_chain {E : ET} {sh : SHT} {nn : Nat × Nat} {V : VT} {T : Nat} {z : ZT} {a p w : Int} (hT : MSh T sh) (hz : PE T V z) (W : RWZ (z.2 3)) (WL : LawsZ (z.2 3)) (h15 : z.1 15 = 0) (ra : R32 a) (rp : R32 p) (rw : R32 w) : TC E mX10_chain 7 [.ref T, .int (iI a), .int (iI p), .int (iI w)] sh nn V (ZP T sh nn (zp_chain z a p w)) := by
  have w0 := W.1.1
  have w1 := W.1.2.1
  refine TC.intro [some (.ref T), some (.int (iI a)), some (.int (iI p)), some (.int (iI w)), none, none, none, none] rfl ?_
  refine TGo.al0 dX10_chain_0 rfl ?_
  refine TGo.ic0 dX10_chain_1 ?_
  refine TGo.putI (t := 18) 0 0 (hT 0 (by decide)) rfl fpX10_163_10 dX10_chain_2 rfl rfl rfl ?_
  refine TGo.al0 dX10_chain_5 rfl ?_
  refine TGo.il1 dX10_chain_6 rfl ?_
  refine TGo.cF (csV1 (y2 := mX10_isPart) (t := 18) 2 rfl (hT 0 (by decide)) rfl rfl dX10_chain_7 q2061 q2063 qs40 okX10_isPart npX10_isPart rfl rfl) (kX10_isPart hT (hz.s rfl) w0 (by omega)) ?_
  refine TGo.ifb_eq 39 dX10_chain_10 (by decide) (fun h10 => ?_) (fun h10 => ?_)
  · refine TGo.icm1 dX10_chain_39 ?_
    refine TGo.iret dX10_chain_40 rfl ?_
    first
    | (exfalso; omega)
    | (refine leafZ (hz.s rfl) ?_
       unfold zp_chain
       (repeat (first | rw [if_pos (by first | rfl | assumption | omega)] | rw [if_neg (by first | decide | assumption | omega)]))
       (try first | rfl | rw [bZ_t (by first | assumption | omega)] | rw [bZ_f (by first | assumption | omega)]))
  · refine TGo.al0 dX10_chain_13 rfl ?_
    refine TGo.il2 dX10_chain_14 rfl ?_
    refine TGo.cF (csV1 (y2 := mX10_isPerson) (t := 18) 2 rfl (hT 0 (by decide)) rfl rfl dX10_chain_15 q2109 q2111 qs44 okX10_isPerson npX10_isPerson rfl rfl) (kX10_isPerson hT (hz.s rfl) w1 (by omega)) ?_
    refine TGo.ifb_eq 39 dX10_chain_18 (by decide) (fun h18 => ?_) (fun h18 => ?_)
    · refine TGo.icm1 dX10_chain_39 ?_
      refine TGo.iret dX10_chain_40 rfl ?_
      first
      | (exfalso; omega)
      | (refine leafZ (hz.s rfl) ?_
         unfold zp_chain
         (repeat (first | rw [if_pos (by first | rfl | assumption | omega)] | rw [if_neg (by first | decide | assumption | omega)]))
         (try first | rfl | rw [bZ_t (by first | assumption | omega)] | rw [bZ_f (by first | assumption | omega)]))
    · refine TGo.il3 dX10_chain_21 rfl ?_
      refine TGo.i2l dX10_chain_22 (by omega) ?_
      refine TGo.lc0 dX10_chain_23 ?_
      refine TGo.ldc2 9 dX10_chain_24 q2060 (by decide) ?_
      refine TGo.cF (csS3 (y2 := mX10_in) 1 rfl dX10_chain_27 q2032 q2033 okX10_in npX10_in rfl rfl) (kX10_in (by omega) (by omega) (by omega)) ?_
      refine TGo.ifb_ne 41 dX10_chain_30 (by decide) (fun h30 => ?_) (fun h30 => ?_)
      · have em : z.2 3 1 = (((z.2 3 1).toNat : Nat) : Int) := by omega
        have hS1 := chS_ok W (a := a) (wo := -1) (x0 := p) (by omega)
        have hS11 := hS1.1.1
        have hL1 := chL_ok W (a := a) (wo := -1) (x0 := p) (by omega)
        obtain ⟨q, hq0, hq8, hq1, hq2⟩ := chN_ok W (a := a) (x0 := p) (by omega)
        have wl1 := W.2.2.2.1 _ hL1.1.1 hL1.1.2
        refine TGo.al0 dX10_chain_41 rfl ?_
        refine TGo.il1 dX10_chain_42 rfl ?_
        refine TGo.cN (csV1 (y2 := mX10_findPupils) (t := 18) 6 rfl (hT 0 (by decide)) rfl rfl dX10_chain_43 q2472 q2474 qs95 okX10_findPupils npX10_findPupils rfl rfl) (kX10_findPupils (m := (z.2 3 1).toNat) hT (hz.s rfl) W WL h15 (by omega) em (by omega)) (fun V43 h43 => ?_)
        obtain ⟨hz43, hp43⟩ := h43
        have hpu : ∀ x : Int, 0 ≤ x → x < (((z.2 3 1).toNat : Nat) : Int) → V43.1 (T + 25) x = (mbZ (fun p => cnZ (z.2 3) a x p) 1 (z.2 3 1).toNat) := fun x h0 h1 => by
          have := hp43 x.toNat (by omega)
          rw [show ((x.toNat : Nat) : Int) = x by omega] at this
          exact this
        refine TGo.al0 dX10_chain_46 rfl ?_
        refine TGo.il2 dX10_chain_47 rfl ?_
        refine TGo.icm1 dX10_chain_48 ?_
        refine TGo.cN (csV2 (y2 := mX10_findCome) (t := 18) 2 rfl (hT 0 (by decide)) rfl rfl dX10_chain_49 q2476 q2478 qs96 okX10_findCome npX10_findCome rfl rfl) (kX10_findCome (a := a) (m := (z.2 3 1).toNat) hT hz43 em (by omega) (by omega) (by omega) hpu) (fun V49 h49 => ?_)
        obtain ⟨hz49, hf49, hv49⟩ := h49
        have hv49 : CVZ T V49 (chS (z.2 3) a p (-1)) := hv49
        refine TGo.al0 dX10_chain_52 rfl ?_
        refine TGo.cF (csV0 (y2 := mX10_lastOf) (t := 18) 2 rfl (hT 0 (by decide)) rfl rfl dX10_chain_53 q2483 q2485 qs97 okX10_lastOf npX10_lastOf rfl rfl) (kX10_lastOf (S := (chS (z.2 3) a p (-1))) (q := ((chS (z.2 3) a p (-1)).2 - 1).toNat) hT hz49 W em hS1 hv49 (by omega)) ?_
        refine TGo.toz (chL (z.2 3) a p (-1)) rfl ?_
        refine TGo.is dX10_chain_56 rfl rfl ?_
        refine TGo.al0 dX10_chain_58 rfl ?_
        refine TGo.il dX10_chain_59 rfl ?_
        refine TGo.cF (csV1 (y2 := mX10_lengthTo) (t := 18) 1 rfl (hT 0 (by decide)) rfl rfl dX10_chain_61 q2487 q2489 qs98 okX10_lengthTo npX10_lengthTo rfl rfl) (kX10_lengthTo (S := (chS (z.2 3) a p (-1))) (m := (z.2 3 1).toNat) (x0 := p) (q := q) hT hz49 (by omega) hS1 hv49 hq1 hq2 hq8) ?_
        refine TGo.is dX10_chain_64 rfl rfl ?_
        refine TGo.il3 dX10_chain_66 rfl ?_
        refine TGo.ic2 dX10_chain_67 ?_
        refine TGo.icmp_ge 89 dX10_chain_68 (by decide) (by omega) (fun h68 => ?_) (fun h68 => ?_)
        · refine TGo.il3 dX10_chain_89 rfl ?_
          refine TGo.bip 20 dX10_chain_90 (by decide) ?_
          refine TGo.icmp_ge 143 dX10_chain_92 (by decide) (by omega) (fun h92 => ?_) (fun h92 => ?_)
          · refine TGo.ic0 dX10_chain_143 ?_
            refine TGo.is dX10_chain_144 rfl rfl ?_
            refine TGo.ic0 dX10_chain_146 ?_
            refine TGo.is dX10_chain_147 rfl rfl ?_
            first
            | (exfalso; omega)
            | (refine (nX10_chain (V0 := V49) hT W em (by omega) (by omega) (fun x h0 h1 => (congrFun (hf49.1 _ (by simp)) _).trans (hpu x h0 h1)) ((z.2 3 1).toNat + 1) 0 _ (by omega) (by omega) hz49 Fr.rf).mono ?_
               rintro o sh' nn' V' ⟨ho, hs, hn, hp⟩
               unfold zp_chain chainZ
               rw [if_neg (by omega), if_neg (by omega), if_neg (by omega), if_pos (by omega)]
               exact ⟨ho, hs, hn, hp⟩)
          · refine TGo.il dX10_chain_95 rfl ?_
            refine TGo.is dX10_chain_97 rfl rfl ?_
            refine TGo.il dX10_chain_99 rfl ?_
            refine TGo.ic1 dX10_chain_101 ?_
            refine TGo.isub dX10_chain_102 ?_
            refine TGo.is dX10_chain_103 rfl rfl ?_
            first
            | (exfalso; omega)
            | (refine (TGo.seq [some (.ref T), some (.int (iI a)), some (.int (iI p)), some (.int (iI w)), some (.int (iI (chL (z.2 3) a p (-1)))), some (.int (iI ((q : Int) + 1))), some (.int (iI (itZ (chS (z.2 3) a p (-1)).1.2 (chL (z.2 3) a p (-1)) (0)))), some (.int (iI ((q : Int) + 1 - 1 - (((0) : Nat) : Int))))] [] _ (by rw [show (q : Int) + 1 - 1 - ((0 : Nat) : Int) = (q : Int) + 1 - 1 by omega]; rfl) rfl rfl (jX10_chain (m2 := ((q : Int) + 1 - 1 - (w - 2)).toNat) hT hz49 (by omega) hS1 hv49 hq1 hq2 hq8 (by omega) rfl (((q : Int) + 1 - 1 - (w - 2)).toNat + 1) 0 (by omega) (by omega))).mono ?_
               rintro o sh' nn' V' ⟨ho, hs, hn, rfl⟩
               unfold zp_chain chainZ
               rw [if_neg (by omega), if_neg (by omega), if_neg (by omega), if_neg (by omega), hq0]
               exact ⟨ho, hs, hn, hz49⟩)
        · refine TGo.il3 dX10_chain_71 rfl ?_
          refine TGo.if_ne 86 dX10_chain_72 (by decide) (by omega) (fun h72 => ?_) (fun h72 => ?_)
          · refine TGo.il dX10_chain_86 rfl ?_
            refine TGo.iret dX10_chain_88 rfl ?_
            first
            | (exfalso; omega)
            | (refine leafZ hz49 ?_
               unfold zp_chain chainZ
               rw [if_neg (by omega)]
               first | (rw [if_pos (by omega)]) | (rw [if_neg (by omega), if_pos (by omega), hq0]))
          · refine TGo.al0 dX10_chain_75 rfl ?_
            refine TGo.il dX10_chain_76 rfl ?_
            refine TGo.cF (csV1 (y2 := mX10_dead) (t := 18) 1 rfl (hT 0 (by decide)) rfl rfl dX10_chain_78 q2125 q2127 qs47 okX10_dead npX10_dead rfl rfl) (kX10_dead hT hz49 (by omega)) ?_
            refine TGo.ic1 dX10_chain_81 ?_
            refine TGo.isub dX10_chain_82 ?_
            refine TGo.goto 88 dX10_chain_83 (by decide) ?_
            refine TGo.iret dX10_chain_88 rfl ?_
            first
            | (exfalso; omega)
            | (refine leafZ hz49 ?_
               unfold zp_chain chainZ
               rw [if_neg (by omega)]
               first | (rw [if_pos (by omega)]) | (rw [if_neg (by omega), if_pos (by omega), hq0]))
      · refine TGo.il3 dX10_chain_33 rfl ?_
        refine TGo.bip 20 dX10_chain_34 (by decide) ?_
        refine TGo.icmp_eq 41 dX10_chain_36 (by decide) (by omega) (fun h36 => ?_) (fun h36 => ?_)
        · have em : z.2 3 1 = (((z.2 3 1).toNat : Nat) : Int) := by omega
          have hS1 := chS_ok W (a := a) (wo := -1) (x0 := p) (by omega)
          have hS11 := hS1.1.1
          have hL1 := chL_ok W (a := a) (wo := -1) (x0 := p) (by omega)
          obtain ⟨q, hq0, hq8, hq1, hq2⟩ := chN_ok W (a := a) (x0 := p) (by omega)
          have wl1 := W.2.2.2.1 _ hL1.1.1 hL1.1.2
          refine TGo.al0 dX10_chain_41 rfl ?_
          refine TGo.il1 dX10_chain_42 rfl ?_
          refine TGo.cN (csV1 (y2 := mX10_findPupils) (t := 18) 6 rfl (hT 0 (by decide)) rfl rfl dX10_chain_43 q2472 q2474 qs95 okX10_findPupils npX10_findPupils rfl rfl) (kX10_findPupils (m := (z.2 3 1).toNat) hT (hz.s rfl) W WL h15 (by omega) em (by omega)) (fun V43 h43 => ?_)
          obtain ⟨hz43, hp43⟩ := h43
          have hpu : ∀ x : Int, 0 ≤ x → x < (((z.2 3 1).toNat : Nat) : Int) → V43.1 (T + 25) x = (mbZ (fun p => cnZ (z.2 3) a x p) 1 (z.2 3 1).toNat) := fun x h0 h1 => by
            have := hp43 x.toNat (by omega)
            rw [show ((x.toNat : Nat) : Int) = x by omega] at this
            exact this
          refine TGo.al0 dX10_chain_46 rfl ?_
          refine TGo.il2 dX10_chain_47 rfl ?_
          refine TGo.icm1 dX10_chain_48 ?_
          refine TGo.cN (csV2 (y2 := mX10_findCome) (t := 18) 2 rfl (hT 0 (by decide)) rfl rfl dX10_chain_49 q2476 q2478 qs96 okX10_findCome npX10_findCome rfl rfl) (kX10_findCome (a := a) (m := (z.2 3 1).toNat) hT hz43 em (by omega) (by omega) (by omega) hpu) (fun V49 h49 => ?_)
          obtain ⟨hz49, hf49, hv49⟩ := h49
          have hv49 : CVZ T V49 (chS (z.2 3) a p (-1)) := hv49
          refine TGo.al0 dX10_chain_52 rfl ?_
          refine TGo.cF (csV0 (y2 := mX10_lastOf) (t := 18) 2 rfl (hT 0 (by decide)) rfl rfl dX10_chain_53 q2483 q2485 qs97 okX10_lastOf npX10_lastOf rfl rfl) (kX10_lastOf (S := (chS (z.2 3) a p (-1))) (q := ((chS (z.2 3) a p (-1)).2 - 1).toNat) hT hz49 W em hS1 hv49 (by omega)) ?_
          refine TGo.toz (chL (z.2 3) a p (-1)) rfl ?_
          refine TGo.is dX10_chain_56 rfl rfl ?_
          refine TGo.al0 dX10_chain_58 rfl ?_
          refine TGo.il dX10_chain_59 rfl ?_
          refine TGo.cF (csV1 (y2 := mX10_lengthTo) (t := 18) 1 rfl (hT 0 (by decide)) rfl rfl dX10_chain_61 q2487 q2489 qs98 okX10_lengthTo npX10_lengthTo rfl rfl) (kX10_lengthTo (S := (chS (z.2 3) a p (-1))) (m := (z.2 3 1).toNat) (x0 := p) (q := q) hT hz49 (by omega) hS1 hv49 hq1 hq2 hq8) ?_
          refine TGo.is dX10_chain_64 rfl rfl ?_
          refine TGo.il3 dX10_chain_66 rfl ?_
          refine TGo.ic2 dX10_chain_67 ?_
          refine TGo.icmp_ge 89 dX10_chain_68 (by decide) (by omega) (fun h68 => ?_) (fun h68 => ?_)
          · refine TGo.il3 dX10_chain_89 rfl ?_
            refine TGo.bip 20 dX10_chain_90 (by decide) ?_
            refine TGo.icmp_ge 143 dX10_chain_92 (by decide) (by omega) (fun h92 => ?_) (fun h92 => ?_)
            · refine TGo.ic0 dX10_chain_143 ?_
              refine TGo.is dX10_chain_144 rfl rfl ?_
              refine TGo.ic0 dX10_chain_146 ?_
              refine TGo.is dX10_chain_147 rfl rfl ?_
              first
              | (exfalso; omega)
              | (refine (nX10_chain (V0 := V49) hT W em (by omega) (by omega) (fun x h0 h1 => (congrFun (hf49.1 _ (by simp)) _).trans (hpu x h0 h1)) ((z.2 3 1).toNat + 1) 0 _ (by omega) (by omega) hz49 Fr.rf).mono ?_
                 rintro o sh' nn' V' ⟨ho, hs, hn, hp⟩
                 unfold zp_chain chainZ
                 rw [if_neg (by omega), if_neg (by omega), if_neg (by omega), if_pos (by omega)]
                 exact ⟨ho, hs, hn, hp⟩)
            · refine TGo.il dX10_chain_95 rfl ?_
              refine TGo.is dX10_chain_97 rfl rfl ?_
              refine TGo.il dX10_chain_99 rfl ?_
              refine TGo.ic1 dX10_chain_101 ?_
              refine TGo.isub dX10_chain_102 ?_
              refine TGo.is dX10_chain_103 rfl rfl ?_
              first
              | (exfalso; omega)
              | (refine (TGo.seq [some (.ref T), some (.int (iI a)), some (.int (iI p)), some (.int (iI w)), some (.int (iI (chL (z.2 3) a p (-1)))), some (.int (iI ((q : Int) + 1))), some (.int (iI (itZ (chS (z.2 3) a p (-1)).1.2 (chL (z.2 3) a p (-1)) (0)))), some (.int (iI ((q : Int) + 1 - 1 - (((0) : Nat) : Int))))] [] _ (by rw [show (q : Int) + 1 - 1 - ((0 : Nat) : Int) = (q : Int) + 1 - 1 by omega]; rfl) rfl rfl (jX10_chain (m2 := ((q : Int) + 1 - 1 - (w - 2)).toNat) hT hz49 (by omega) hS1 hv49 hq1 hq2 hq8 (by omega) rfl (((q : Int) + 1 - 1 - (w - 2)).toNat + 1) 0 (by omega) (by omega))).mono ?_
                 rintro o sh' nn' V' ⟨ho, hs, hn, rfl⟩
                 unfold zp_chain chainZ
                 rw [if_neg (by omega), if_neg (by omega), if_neg (by omega), if_neg (by omega), hq0]
                 exact ⟨ho, hs, hn, hz49⟩)
          · refine TGo.il3 dX10_chain_71 rfl ?_
            refine TGo.if_ne 86 dX10_chain_72 (by decide) (by omega) (fun h72 => ?_) (fun h72 => ?_)
            · refine TGo.il dX10_chain_86 rfl ?_
              refine TGo.iret dX10_chain_88 rfl ?_
              first
              | (exfalso; omega)
              | (refine leafZ hz49 ?_
                 unfold zp_chain chainZ
                 rw [if_neg (by omega)]
                 first | (rw [if_pos (by omega)]) | (rw [if_neg (by omega), if_pos (by omega), hq0]))
            · refine TGo.al0 dX10_chain_75 rfl ?_
              refine TGo.il dX10_chain_76 rfl ?_
              refine TGo.cF (csV1 (y2 := mX10_dead) (t := 18) 1 rfl (hT 0 (by decide)) rfl rfl dX10_chain_78 q2125 q2127 qs47 okX10_dead npX10_dead rfl rfl) (kX10_dead hT hz49 (by omega)) ?_
              refine TGo.ic1 dX10_chain_81 ?_
              refine TGo.isub dX10_chain_82 ?_
              refine TGo.goto 88 dX10_chain_83 (by decide) ?_
              refine TGo.iret dX10_chain_88 rfl ?_
              first
              | (exfalso; omega)
              | (refine leafZ hz49 ?_
                 unfold zp_chain chainZ
                 rw [if_neg (by omega)]
                 first | (rw [if_pos (by omega)]) | (rw [if_neg (by omega), if_pos (by omega), hq0]))
        · refine TGo.icm1 dX10_chain_39 ?_
          refine TGo.iret dX10_chain_40 rfl ?_
          first
          | (exfalso; omega)
          | (refine leafZ (hz.s rfl) ?_
             unfold zp_chain
             (repeat (first | rw [if_pos (by first | rfl | assumption | omega)] | rw [if_neg (by first | decide | assumption | omega)]))
             (try first | rfl | rw [bZ_t (by first | assumption | omega)] | rw [bZ_f (by first | assumption | omega)]))
