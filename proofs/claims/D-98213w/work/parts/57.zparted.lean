/-! THE MODEL: shortest rows of cues -/
set_option maxRecDepth 100000
/-- breadth first over pairs of states: the pairs in order, whence each came, by which cue, how many; where it was found -/
abbrev BT : Type := ((Int → Int) × (Int → Int) × (Int → Int)) × Int × Int × Int
def bfC (df : Int → Int → Int) (nx : Int → Int → Int) (S : BT) (x c : Int) : BT :=
  if S.2.2.2 ≠ -1 then S else if df x c = 1 then (S.1, S.2.1, x, c)
  else if nx x c ≠ -1 ∧ S.1.2.1 (nx x c) = -1 then ((zu S.1.1 S.2.1 (nx x c), zu S.1.2.1 (nx x c) x, zu S.1.2.2 (nx x c) c), S.2.1 + 1, S.2.2) else S
def bfR (df : Int → Int → Int) (nx : Int → Int → Int) (S : BT) (x : Int) : Nat → BT
  | 0 => S
  | c + 1 => bfC df nx (bfR df nx S x c) x (c : Int)
def bf0 : BT := ((fun _ => 0, fun x => if x = 0 then 0 else -1, fun _ => 0), 1, 0, -1)
def bfS (df : Int → Int → Int) (nx : Int → Int → Int) : Nat → BT
  | 0 => bf0
  | k + 1 => if (bfS df nx k).2.2.2 ≠ -1 ∨ (bfS df nx k).2.1 ≤ (k : Int) then bfS df nx k else bfR df nx (bfS df nx k) ((bfS df nx k).1.1 (k : Int)) 6
/-- n steps back -/
def itZ (f : Int → Int) (x : Int) : Nat → Int
  | 0 => x
  | k + 1 => f (itZ f x k)
theorem itZ_s (f : Int → Int) (x : Int) (k : Nat) : itZ f (f x) k = itZ f x (k + 1) := by
  induction k with
  | zero => rfl
  | succ k ih => rw [itZ, ih]; rfl
/-- how many are marked, of the first k -/
def mkZ (f : Int → Int) : Nat → Int
  | 0 => 0
  | k + 1 => mkZ f k + if f (k : Int) = -1 then 0 else 1
theorem mkZ_le (f : Int → Int) (k : Nat) : 0 ≤ mkZ f k ∧ mkZ f k ≤ k := by
  induction k with
  | zero => exact ⟨Int.le_refl _, Int.le_refl _⟩
  | succ k ih => rw [mkZ]; split <;> omega
theorem mkZ_out {f : Int → Int} {x v : Int} : ∀ k : Nat, (k : Int) ≤ x → mkZ (zu f x v) k = mkZ f k := by
  intro k
  induction k with
  | zero => intro _; rfl
  | succ k ih => intro h; rw [mkZ, mkZ, ih (by omega), zu_n (by omega)]
theorem mkZ_in {f : Int → Int} {x v : Int} (h0 : 0 ≤ x) (hf : f x = -1) (hv : v ≠ -1) : ∀ k : Nat, x < (k : Int) → mkZ (zu f x v) k = mkZ f k + 1 := by
  intro k
  induction k with
  | zero => intro h; omega
  | succ k ih =>
    intro h
    rw [mkZ, mkZ]
    by_cases e : x = (k : Int)
    · subst e
      rw [mkZ_out k (by omega), zu_s, if_neg hv, if_pos hf]; omega
    · rw [ih (by omega), zu_n (by omega)]; omega
/-- a way back to the first -/
def pathZ (f : Int → Int) (n x : Int) : Prop := ∃ L : Nat, (L : Int) < n ∧ itZ f x L = 0 ∧ ∀ k : Nat, k ≤ L → (0 ≤ itZ f x k ∧ itZ f x k < 36) ∧ f (itZ f x k) ≠ -1 ∧ (k < L → itZ f x k ≠ 0)
def BIZ (S : BT) : Prop := (1 ≤ S.2.1 ∧ S.1.1 0 = 0 ∧ S.1.2.1 0 = 0) ∧ (∀ i, 0 ≤ i → i < S.2.1 → (0 ≤ S.1.1 i ∧ S.1.1 i < 36) ∧ S.1.2.1 (S.1.1 i) ≠ -1) ∧ (∀ x, 0 ≤ x → x < 36 → -1 ≤ S.1.2.1 x ∧ S.1.2.1 x < 36) ∧ mkZ S.1.2.1 36 = S.2.1 ∧ (∀ x, 0 ≤ x → x < 36 → S.1.2.1 x ≠ -1 → pathZ S.1.2.1 S.2.1 x ∧ (S.1.2.1 x = x ↔ x = 0)) ∧ (S.2.2.2 ≠ -1 → (0 ≤ S.2.2.1 ∧ S.2.2.1 < 36) ∧ S.1.2.1 S.2.2.1 ≠ -1 ∧ 0 ≤ S.2.2.2 ∧ S.2.2.2 < 6)
theorem BIZ.le {S : BT} (h : BIZ S) : S.2.1 ≤ 36 := by have := mkZ_le S.1.2.1 36; have := h.2.2.2.1; omega
theorem BIZ.zero : BIZ bf0 := by
  refine ⟨⟨by decide, rfl, rfl⟩, fun i h0 h1 => ?_, fun x _ _ => ?_, by decide, fun x h0 h1 hx => ?_, fun h => absurd rfl h⟩
  · have : i < 1 := h1
    exact ⟨⟨by show (0 : Int) ≤ 0; omega, by show (0 : Int) < 36; omega⟩, by show (if (0 : Int) = 0 then (0 : Int) else -1) ≠ -1; decide⟩
  · show -1 ≤ (if x = 0 then (0 : Int) else -1) ∧ (if x = 0 then (0 : Int) else -1) < 36
    split <;> omega
  · have hx : (if x = 0 then (0 : Int) else -1) ≠ -1 := hx
    have e : x = 0 := by
      by_cases e : x = 0
      · exact e
      · rw [if_neg e] at hx; exact absurd rfl hx
    subst e
    refine ⟨⟨0, by show ((0 : Nat) : Int) < 1; decide, rfl, fun k hk => ?_⟩, ⟨fun _ => rfl, fun _ => rfl⟩⟩
    obtain rfl : k = 0 := by omega
    exact ⟨⟨by show (0 : Int) ≤ 0; omega, by show (0 : Int) < 36; omega⟩, by show (if (0 : Int) = 0 then (0 : Int) else -1) ≠ -1; decide, fun h => absurd h (by omega)⟩
theorem itZ_zu {f : Int → Int} {y v x : Int} : ∀ k : Nat, (∀ i : Nat, i < k → itZ f x i ≠ y) → itZ (zu f y v) x k = itZ f x k := by
  intro k
  induction k with
  | zero => intro _; rfl
  | succ k ih =>
    intro h
    rw [itZ, itZ, ih (fun i hi => h i (by omega)), zu_n (h k (by omega))]
theorem BIZ.step {S : BT} (h : BIZ S) {x y c : Int} (hx : (0 ≤ x ∧ x < 36) ∧ S.1.2.1 x ≠ -1) (hy : 0 ≤ y ∧ y < 36) (hb : S.1.2.1 y = -1) (hf : S.2.2.2 = -1) : BIZ ((zu S.1.1 S.2.1 y, zu S.1.2.1 y x, zu S.1.2.2 y c), S.2.1 + 1, S.2.2) ∧ S.2.1 < 36 := by
  obtain ⟨h1, h2, h3, h4, h5, h6⟩ := h
  have hm := mkZ_in (f := S.1.2.1) (v := x) hy.1 hb (by omega) 36 (by omega)
  have hl := mkZ_le (zu S.1.2.1 y x) 36
  have hlt : S.2.1 < 36 := by omega
  have hy0 : y ≠ 0 := fun e => by rw [e, h1.2.2] at hb; omega
  have hxy : x ≠ y := fun e => by rw [e] at hx; exact hx.2 hb
  have old : ∀ w, 0 ≤ w → w < 36 → S.1.2.1 w ≠ -1 → pathZ (zu S.1.2.1 y x) (S.2.1 + 1) w := by
    intro w h0 h36 hw
    obtain ⟨L, q1, q2, q3⟩ := (h5 w h0 h36 hw).1
    have hn : ∀ i : Nat, i ≤ L → itZ S.1.2.1 w i ≠ y := fun i hi e => (q3 i hi).2.1 (by rw [e]; exact hb)
    have he : ∀ k : Nat, k ≤ L → itZ (zu S.1.2.1 y x) w k = itZ S.1.2.1 w k := fun k hk => itZ_zu k (fun i hi => hn i (by omega))
    refine ⟨L, by omega, by rw [he L (Nat.le_refl _)]; exact q2, fun k hk => ?_⟩
    rw [he k hk, zu_n (hn k hk)]
    exact q3 k hk
  refine ⟨⟨⟨by show 1 ≤ S.2.1 + 1; omega, ?_, ?_⟩, fun i h0 hi => ?_, fun w h0 h36 => ?_, ?_, fun w h0 h36 hw => ?_, fun hq => absurd hf hq⟩, hlt⟩
  · show zu S.1.1 S.2.1 y 0 = 0
    rw [zu_n (by omega)]; exact h1.2.1
  · show zu S.1.2.1 y x 0 = 0
    rw [zu_n (by omega)]; exact h1.2.2
  · show (0 ≤ zu S.1.1 S.2.1 y i ∧ zu S.1.1 S.2.1 y i < 36) ∧ zu S.1.2.1 y x (zu S.1.1 S.2.1 y i) ≠ -1
    have hi : i < S.2.1 + 1 := hi
    by_cases e : i = S.2.1
    · rw [e, zu_s, zu_s]; exact ⟨hy, by omega⟩
    · rw [zu_n e]
      have q := h2 i h0 (by omega)
      refine ⟨q.1, ?_⟩
      rw [zu_n (fun e => q.2 (by rw [e]; exact hb))]
      exact q.2
  · show -1 ≤ zu S.1.2.1 y x w ∧ zu S.1.2.1 y x w < 36
    unfold zu
    split
    · omega
    · exact h3 w h0 h36
  · show mkZ (zu S.1.2.1 y x) 36 = S.2.1 + 1
    rw [hm, h4]
  · have hw : zu S.1.2.1 y x w ≠ -1 := hw
    show pathZ (zu S.1.2.1 y x) (S.2.1 + 1) w ∧ (zu S.1.2.1 y x w = w ↔ w = 0)
    by_cases e : w = y
    · subst e
      rw [zu_s]
      refine ⟨?_, fun e => absurd e hxy, fun e => absurd e hy0⟩
      obtain ⟨L, q1, q2, q3⟩ := (h5 x hx.1.1 hx.1.2 hx.2).1
      have hn : ∀ i : Nat, i ≤ L → itZ S.1.2.1 x i ≠ w := fun i hi e => (q3 i hi).2.1 (by rw [e]; exact hb)
      have he : ∀ k : Nat, k ≤ L → itZ (zu S.1.2.1 w x) w (k + 1) = itZ S.1.2.1 x k := fun k hk => by
        rw [← itZ_s, zu_s]; exact itZ_zu k (fun i hi => hn i (by omega))
      refine ⟨L + 1, by omega, by rw [he L (Nat.le_refl _)]; exact q2, fun k hk => ?_⟩
      cases k with
      | zero =>
        show (0 ≤ w ∧ w < 36) ∧ zu S.1.2.1 w x w ≠ -1 ∧ _
        rw [zu_s]
        exact ⟨hy, by omega, fun _ => hy0⟩
      | succ k =>
        rw [he k (by omega), zu_n (hn k (by omega))]
        have q := q3 k (by omega)
        exact ⟨q.1, q.2.1, fun hk => q.2.2 (by omega)⟩
    · rw [zu_n e] at hw ⊢
      exact ⟨old w h0 h36 hw, (h5 w h0 h36 hw).2⟩
/-- links from x to the first -/
def pnZ (f : Int → Int) : Nat → Int → Nat
  | 0, _ => 0
  | n + 1, x => if x = 0 then 0 else pnZ f n (f x) + 1
theorem pnZ_eq {f : Int → Int} : ∀ (n L : Nat) (x : Int), L ≤ n → itZ f x L = 0 → (∀ k : Nat, k < L → itZ f x k ≠ 0) → pnZ f n x = L := by
  intro n
  induction n with
  | zero => intro L x h _ _; obtain rfl : L = 0 := by omega
            rfl
  | succ n ih =>
    intro L x h h0 hk
    rw [pnZ]
    cases L with
    | zero => rw [if_pos (show x = 0 from h0)]
    | succ L =>
      rw [if_neg (show x ≠ 0 from hk 0 (by omega)), ih L (f x) (by omega) (by rw [itZ_s]; exact h0) (fun k hk2 => by rw [itZ_s]; exact hk (k + 1) (by omega))]

set_option maxHeartbeats 4000000 in
theorem lX10_findRow {E : ET} {sh : SHT} {nn : Nat × Nat} {T : Nat} {z : ZT} {f bc : Int → Int} {x c : Int} {m : Nat} {V0 : VT} (hT : MSh T sh) (hm : m < 36) (h0 : itZ f x m = 0) (hp : ∀ k : Nat, k ≤ m → (0 ≤ itZ f x k ∧ itZ f x k < 36) ∧ (k < m → itZ f x k ≠ 0)) (hfr : ∀ k : Nat, k ≤ m → -1 ≤ f (itZ f x k) ∧ f (itZ f x k) < 36 ∧ (f (itZ f x k) = itZ f x k ↔ itZ f x k = 0)) (hf : ∀ k : Nat, k ≤ m → V0.1 (T + 19) (itZ f x k) = f (itZ f x k)) (hb : ∀ k : Nat, k < m → V0.1 (T + 20) (itZ f x k) = bc (itZ f x k)) : ∀ (n j : Nat) (V : VT), m - j < n → j ≤ m → PE T V z → (Fr [T, T + 21] V0 V ∧ V.1 T 42 = (j : Int) + 1 ∧ V.1 (T + 21) 0 = c ∧ ∀ i : Nat, i < j → V.1 (T + 21) ((i : Int) + 1) = bc (itZ f x i)) → TGo E mX10_findRow 1 14 [some (.ref T), some (.int (iI x)), some (.int (iI c)), some (.int (iI (itZ f x (j))))] [] sh nn V (fun o sh' nn' V' => o = .inl none ∧ sh' = sh ∧ nn' = nn ∧ PE T V' z ∧ Fr [T, T + 21] V0 V' ∧ V'.1 T 42 = (m : Int) + 1 ∧ V'.1 (T + 21) 0 = c ∧ ∀ i : Nat, i < m → V'.1 (T + 21) ((i : Int) + 1) = bc (itZ f x i)) := by
  intro n
  induction n with
  | zero => intro j V h; omega
  | succ n ih =>
    intro j V hn hj hz hx
    have hp1 := hp j (by omega)
    have hq := hfr j (by omega)
    have em : j < m ∨ itZ f x j = 0 := by
      rcases Nat.lt_or_ge j m with e | e
      · exact Or.inl e
      · right; obtain rfl : j = m := by omega
        exact h0
    refine TGo.al0 dX10_findRow_14 rfl ?_
    refine TGo.getS (t := 18) 39 39 (T + 19) (hT 0 (by decide)) rfl fgX10_94_10 dX10_findRow_15 rfl rfl rfl ?_
    refine TGo.il3 dX10_findRow_18 rfl ?_
    refine TGo.iald dX10_findRow_19 (hT 19 (by decide)) (by omega) rfl ?_
    refine TGo.toz _ ((congrFun (hx.1.1 _ (by simp)) _).trans (hf j (by omega))) ?_
    refine TGo.il3 dX10_findRow_20 rfl ?_
    refine TGo.icmp_eq 59 dX10_findRow_21 (by decide) (by omega) (fun h21 => ?_) (fun h21 => ?_)
    · refine TGo.vret dX10_findRow_59 rfl ?_
      obtain rfl : j = m := by
        rcases Nat.lt_or_ge j m with e | e
        · exact absurd (hq.2.2.mp (by omega)) (hp1.2 e)
        · omega
      exact ⟨rfl, rfl, rfl, hz, hx⟩
    · refine TGo.al0 dX10_findRow_24 rfl ?_
      refine TGo.getS (t := 18) 41 41 (T + 21) (hT 0 (by decide)) rfl fgX10_100_10 dX10_findRow_25 rfl rfl rfl ?_
      refine TGo.al0 dX10_findRow_28 rfl ?_
      refine TGo.getI (t := 18) 42 42 (hT 0 (by decide)) rfl fgX10_489_10 dX10_findRow_29 rfl rfl rfl ?_
      refine TGo.toz _ (hx.2.1) ?_
      refine TGo.al0 dX10_findRow_32 rfl ?_
      refine TGo.getS (t := 18) 40 40 (T + 20) (hT 0 (by decide)) rfl fgX10_97_10 dX10_findRow_33 rfl rfl rfl ?_
      refine TGo.il3 dX10_findRow_36 rfl ?_
      refine TGo.iald dX10_findRow_37 (hT 20 (by decide)) (by omega) rfl ?_
      refine TGo.toz _ ((congrFun (hx.1.1 _ (by simp)) _).trans (hb j (by omega))) ?_
      refine TGo.iast dX10_findRow_38 (hT 21 (by decide)) (by omega) rfl ?_
      refine TGo.al0 dX10_findRow_39 rfl ?_
      refine TGo.dup dX10_findRow_40 rfl ?_
      refine TGo.getI (t := 18) 42 42 (hT 0 (by decide)) rfl fgX10_489_10 dX10_findRow_41 rfl rfl rfl ?_
      refine TGo.toz _ ((u2_n (Or.inl (by omega))).trans (hx.2.1)) ?_
      refine TGo.ic1 dX10_findRow_44 ?_
      refine TGo.iadd dX10_findRow_45 ?_
      refine TGo.putI (t := 18) 42 42 (hT 0 (by decide)) rfl fpX10_489_10 dX10_findRow_46 rfl rfl rfl ?_
      refine TGo.al0 dX10_findRow_49 rfl ?_
      refine TGo.getS (t := 18) 39 39 (T + 19) (hT 0 (by decide)) rfl fgX10_94_10 dX10_findRow_50 rfl rfl rfl ?_
      refine TGo.il3 dX10_findRow_53 rfl ?_
      refine TGo.iald dX10_findRow_54 (hT 19 (by decide)) (by omega) rfl ?_
      refine TGo.toz _ ((u2_n (Or.inl (by omega))).trans ((u2_n (Or.inl (by omega))).trans ((congrFun (hx.1.1 _ (by simp)) _).trans (hf j (by omega))))) ?_
      refine TGo.is3 dX10_findRow_55 rfl rfl ?_
      refine TGo.goto 14 dX10_findRow_56 (by decide) ?_
      first | (exfalso; omega) | exact TGo.seq [some (.ref T), some (.int (iI x)), some (.int (iI c)), some (.int (iI (itZ f x ((j + 1)))))] [] _ (rfl) rfl rfl (ih (j + 1) _ (by omega) (by omega) ((hz.t 21 rfl).s rfl) ⟨(hx.1.i (by simp)).i (by simp), by refine u2_s.trans ?_; rfl, (u2_n (Or.inl (by omega))).trans ((u2_n (Or.inr (by omega))).trans hx.2.2.1), fun i hi => by
        refine (u2_n (Or.inl (by omega))).trans ?_
        rcases Nat.lt_or_ge i j with e | e
        · exact (u2_n (Or.inr (by omega))).trans (hx.2.2.2 i e)
        · obtain rfl : i = j := by omega
          exact u2_s⟩)
set_option maxHeartbeats 4000000 in
theorem kX10_findRow {E : ET} {sh : SHT} {nn : Nat × Nat} {V : VT} {T : Nat} {z : ZT} {f bc : Int → Int} {m : Nat} {x c : Int} (hT : MSh T sh) (hz : PE T V z) (hm : m < 36) (h0 : itZ f x m = 0) (hp : ∀ k : Nat, k ≤ m → (0 ≤ itZ f x k ∧ itZ f x k < 36) ∧ (k < m → itZ f x k ≠ 0)) (hfr : ∀ k : Nat, k ≤ m → -1 ≤ f (itZ f x k) ∧ f (itZ f x k) < 36 ∧ (f (itZ f x k) = itZ f x k ↔ itZ f x k = 0)) (hf : ∀ k : Nat, k ≤ m → V.1 (T + 19) (itZ f x k) = f (itZ f x k)) (hb : ∀ k : Nat, k < m → V.1 (T + 20) (itZ f x k) = bc (itZ f x k)) : TN E mX10_findRow 1 [.ref T, .int (iI x), .int (iI c)] sh nn V (fun V' => PE T V' z ∧ Fr [T, T + 21] V V' ∧ V'.1 T 42 = (m : Int) + 1 ∧ V'.1 (T + 21) 0 = c ∧ ∀ i : Nat, i < m → V'.1 (T + 21) ((i : Int) + 1) = bc (itZ f x i)) := by
  refine TC.intro [some (.ref T), some (.int (iI x)), some (.int (iI c)), none] rfl ?_
  refine TGo.al0 dX10_findRow_0 rfl ?_
  refine TGo.ic1 dX10_findRow_1 ?_
  refine TGo.putI (t := 18) 42 42 (hT 0 (by decide)) rfl fpX10_489_10 dX10_findRow_2 rfl rfl rfl ?_
  refine TGo.al0 dX10_findRow_5 rfl ?_
  refine TGo.getS (t := 18) 41 41 (T + 21) (hT 0 (by decide)) rfl fgX10_100_10 dX10_findRow_6 rfl rfl rfl ?_
  refine TGo.ic0 dX10_findRow_9 ?_
  refine TGo.il2 dX10_findRow_10 rfl ?_
  refine TGo.iast dX10_findRow_11 (hT 21 (by decide)) (by omega) rfl ?_
  refine TGo.il1 dX10_findRow_12 rfl ?_
  refine TGo.is3 dX10_findRow_13 rfl rfl ?_
  exact lX10_findRow (V0 := V) hT hm h0 hp hfr hf hb (m + 1) 0 _ (by omega) (by omega) ((hz.s rfl).t 21 rfl) ⟨(Fr.rf.i (by simp)).i (by simp), (u2_n (Or.inl (by omega))).trans u2_s, u2_s, fun i hi => by omega⟩
theorem bfC_ok {df nx : Int → Int → Int} (hn : ∀ x c, (0 ≤ x ∧ x < 36) → (0 ≤ c ∧ c < 6) → df x c ≠ 1 → -1 ≤ nx x c ∧ nx x c < 36) {S : BT} (h : BIZ S) {x c : Int} (hx : 0 ≤ x ∧ x < 36) (hm : S.1.2.1 x ≠ -1) (hc : 0 ≤ c ∧ c < 6) : BIZ (bfC df nx S x c) ∧ (bfC df nx S x c).1.2.1 x ≠ -1 := by
  unfold bfC
  by_cases h1 : S.2.2.2 ≠ -1
  · rw [if_pos h1]; exact ⟨h, hm⟩
  · rw [if_neg h1]
    by_cases h2 : df x c = 1
    · rw [if_pos h2]
      exact ⟨⟨h.1, h.2.1, h.2.2.1, h.2.2.2.1, h.2.2.2.2.1, fun _ => ⟨hx, hm, hc⟩⟩, hm⟩
    · rw [if_neg h2]
      by_cases h3 : nx x c ≠ -1 ∧ S.1.2.1 (nx x c) = -1
      · rw [if_pos h3]
        have h4 := hn x c hx hc h2
        refine ⟨(h.step ⟨hx, hm⟩ (by omega) h3.2 (by omega)).1, ?_⟩
        show zu S.1.2.1 (nx x c) x x ≠ -1
        unfold zu
        split
        · omega
        · exact hm
      · rw [if_neg h3]; exact ⟨h, hm⟩
theorem bfR_ok {df nx : Int → Int → Int} (hn : ∀ x c, (0 ≤ x ∧ x < 36) → (0 ≤ c ∧ c < 6) → df x c ≠ 1 → -1 ≤ nx x c ∧ nx x c < 36) {S : BT} (h : BIZ S) {x : Int} (hx : 0 ≤ x ∧ x < 36) (hm : S.1.2.1 x ≠ -1) : ∀ c : Nat, c ≤ 6 → BIZ (bfR df nx S x c) ∧ (bfR df nx S x c).1.2.1 x ≠ -1 := by
  intro c
  induction c with
  | zero => intro _; exact ⟨h, hm⟩
  | succ c ih =>
    intro hc
    have h1 := ih (by omega)
    exact bfC_ok hn h1.1 hx h1.2 (by omega)
theorem bfS_ok {df nx : Int → Int → Int} (hn : ∀ x c, (0 ≤ x ∧ x < 36) → (0 ≤ c ∧ c < 6) → df x c ≠ 1 → -1 ≤ nx x c ∧ nx x c < 36) : ∀ k : Nat, BIZ (bfS df nx k) := by
  intro k
  induction k with
  | zero => exact BIZ.zero
  | succ k ih =>
    rw [bfS]
    split
    · exact ih
    · have q := ih.2.1 (k : Int) (by omega) (by omega)
      exact (bfR_ok hn ih q.1 q.2 6 (Nat.le_refl _)).1
theorem bfR_stay {df nx : Int → Int → Int} {S : BT} {x : Int} {j : Nat} (h : (bfR df nx S x j).2.2.2 ≠ -1) : ∀ k, j ≤ k → bfR df nx S x k = bfR df nx S x j := by
  intro k hk
  induction k with
  | zero => obtain rfl : j = 0 := by omega
            rfl
  | succ k ih =>
    rcases Nat.eq_or_lt_of_le hk with e | e
    · rw [e]
    · rw [bfR, ih (by omega), bfC, if_pos h]
theorem bfS_stay {df nx : Int → Int → Int} {j : Nat} (h : (bfS df nx j).2.2.2 ≠ -1 ∨ (bfS df nx j).2.1 ≤ (j : Int)) : ∀ k, j ≤ k → bfS df nx k = bfS df nx j := by
  intro k hk
  induction k with
  | zero => obtain rfl : j = 0 := by omega
            rfl
  | succ k ih =>
    rcases Nat.eq_or_lt_of_le hk with e | e
    · rw [e]
    · have e1 := ih (by omega)
      rw [bfS, e1, if_pos (by omega)]
theorem bfR_come {df nx : Int → Int → Int} {S : BT} {x : Int} : ∀ c, S.2.1 ≤ (bfR df nx S x c).2.1 ∧ ∀ i, i < S.2.1 → (bfR df nx S x c).1.1 i = S.1.1 i := by
  intro c
  induction c with
  | zero => exact ⟨Int.le_refl _, fun _ _ => rfl⟩
  | succ c ih =>
    rw [bfR]
    unfold bfC
    split
    · exact ih
    · split
      · exact ih
      · split
        · refine ⟨by simp only; omega, fun i hi => ?_⟩
          simp only
          rw [zu_n (by omega)]
          exact ih.2 i hi
        · exact ih
/-- what stands in the model's arrays -/
def BVZ (T : Nat) (V : VT) (S : BT) : Prop := (∀ i, 0 ≤ i → i < S.2.1 → V.1 (T + 18) i = S.1.1 i) ∧ (∀ x, 0 ≤ x → x < 36 → V.1 (T + 19) x = S.1.2.1 x) ∧ ∀ x, 0 ≤ x → x < 36 → x ≠ 0 → S.1.2.1 x ≠ -1 → V.1 (T + 20) x = S.1.2.2 x
/-- a row was found: it lies there -/
def FOZ (T : Nat) (V' : VT) (S : BT) : Prop := V'.1 T 42 = (pnZ S.1.2.1 36 S.2.2.1 : Int) + 1 ∧ V'.1 (T + 21) 0 = S.2.2.2 ∧ ∀ i : Nat, i < pnZ S.1.2.1 36 S.2.2.1 → V'.1 (T + 21) ((i : Int) + 1) = S.1.2.2 (itZ S.1.2.1 S.2.2.1 i)
/-- two versions' rules at a pair of states and a cue; whether they are unlike; the next pair -/
def pvZ (z : ZT) (a x c : Int) : Int := z.2 3 (298 + 36 * a + (6 * (x / 6) + c))
def qvZ (z : ZT) (a b x c : Int) : Int := if b = -1 then pvZ z a x c else z.2 3 (298 + 36 * b + (6 * (x % 6) + c))
def dfZ (z : ZT) (a b x c : Int) : Int := bZ ((b = -1 ∧ pvZ z a x c = -1) ∨ (b ≠ -1 ∧ wZ (pvZ z a x c) ≠ wZ (qvZ z a b x c)))
def nxZ (z : ZT) (a b x c : Int) : Int := if pvZ z a x c = -1 then -1 else 6 * nZ (pvZ z a x c) + nZ (qvZ z a b x c)
theorem pqZ_r {z : ZT} (W : RWZ (z.2 3)) {a b : Int} (ha : 0 ≤ a ∧ a < z.2 3 2) (hb : -1 ≤ b ∧ b < z.2 3 2) {x c : Int} (hx : 0 ≤ x ∧ x < 36) (hc : 0 ≤ c ∧ c < 6) : cOK (pvZ z a x c) ∧ cOK (qvZ z a b x c) := by
  have h1 : cOK (pvZ z a x c) := W.2.2.2.2.2.1 a (6 * (x / 6) + c) ha.1 ha.2 (by omega) (by omega)
  refine ⟨h1, ?_⟩
  unfold qvZ
  split
  · exact h1
  · exact W.2.2.2.2.2.1 b (6 * (x % 6) + c) (by omega) hb.2 (by omega) (by omega)
theorem nxZ_r {z : ZT} (W : RWZ (z.2 3)) {a b : Int} (ha : 0 ≤ a ∧ a < z.2 3 2) (hb : -1 ≤ b ∧ b < z.2 3 2) : ∀ x c, (0 ≤ x ∧ x < 36) → (0 ≤ c ∧ c < 6) → dfZ z a b x c ≠ 1 → -1 ≤ nxZ z a b x c ∧ nxZ z a b x c < 36 := by
  intro x c hx hc hd
  have h := pqZ_r W ha hb hx hc
  have h1 := wZ_r h.1
  have h2 := nZ_r h.1
  have h3 := wZ_r h.2
  have h4 := nZ_r h.2
  have hd2 : ¬ ((b = -1 ∧ pvZ z a x c = -1) ∨ (b ≠ -1 ∧ wZ (pvZ z a x c) ≠ wZ (qvZ z a b x c))) := fun q => hd (bZ_t q)
  have h5 : b = -1 → qvZ z a b x c = pvZ z a x c := fun e => by unfold qvZ; rw [if_pos e]
  unfold nxZ
  split
  · omega
  · by_cases e : b = -1
    · rw [h5 e]; omega
    · omega

set_option maxHeartbeats 4000000 in
theorem iX10_isParted {E : ET} {sh : SHT} {nn : Nat × Nat} {T : Nat} {z : ZT} {a b x : Int} {k : Nat} {V0 : VT} (hT : MSh T sh) (W : RWZ (z.2 3)) (ha : 0 ≤ a ∧ a < z.2 3 2) (hb : -1 ≤ b ∧ b < z.2 3 2) (hk : (k : Int) < (bfS (dfZ z a b) (nxZ z a b) k).2.1) (hk36 : k < 36) (hf0 : (bfS (dfZ z a b) (nxZ z a b) k).2.2.2 = -1) (hxk : (bfS (dfZ z a b) (nxZ z a b) k).1.1 (k : Int) = x) (K : ∀ (V : VT) (y5 y6 y7 y8 : Option Value), PE T V z → Fr [T, T + 18, T + 19, T + 20, T + 21] V0 V → BVZ T V (bfS (dfZ z a b) (nxZ z a b) (k + 1)) → (bfS (dfZ z a b) (nxZ z a b) (k + 1)).2.2.2 = -1 → TGo E mX10_isParted 2 40 [some (.ref T), some (.int (iI a)), some (.int (iI b)), some (.int (iI (bfS (dfZ z a b) (nxZ z a b) (k + 1)).2.1)), some (.int (iI (((k + 1) : Nat) : Int))), y5, y6, y7, y8] [] sh nn V (fun o sh' nn' V' => ∃ v, o = .inl (some v) ∧ sh' = sh ∧ nn' = nn ∧ (fun v V' => v = .int (iI (bZ ((bfS (dfZ z a b) (nxZ z a b) 36).2.2.2 ≠ -1))) ∧ PE T V' z ∧ Fr [T, T + 18, T + 19, T + 20, T + 21] V0 V' ∧ ((bfS (dfZ z a b) (nxZ z a b) 36).2.2.2 ≠ -1 → FOZ T V' (bfS (dfZ z a b) (nxZ z a b) 36))) v V')) : ∀ (n j : Nat) (V : VT) (y6 y7 y8 : Option Value), 6 - j < n → j ≤ 6 → PE T V z → (Fr [T, T + 18, T + 19, T + 20, T + 21] V0 V ∧ BVZ T V (bfR (dfZ z a b) (nxZ z a b) (bfS (dfZ z a b) (nxZ z a b) k) x j) ∧ (bfR (dfZ z a b) (nxZ z a b) (bfS (dfZ z a b) (nxZ z a b) k) x j).2.2.2 = -1) → TGo E mX10_isParted 2 49 [some (.ref T), some (.int (iI a)), some (.int (iI b)), some (.int (iI (bfR (dfZ z a b) (nxZ z a b) (bfS (dfZ z a b) (nxZ z a b) k) x (j)).2.1)), some (.int (iI (k : Int))), some (.int (iI (((j) : Nat) : Int))), y6, y7, y8] [] sh nn V (fun o sh' nn' V' => ∃ v, o = .inl (some v) ∧ sh' = sh ∧ nn' = nn ∧ (fun v V' => v = .int (iI (bZ ((bfS (dfZ z a b) (nxZ z a b) 36).2.2.2 ≠ -1))) ∧ PE T V' z ∧ Fr [T, T + 18, T + 19, T + 20, T + 21] V0 V' ∧ ((bfS (dfZ z a b) (nxZ z a b) 36).2.2.2 ≠ -1 → FOZ T V' (bfS (dfZ z a b) (nxZ z a b) 36))) v V') := by
  intro n
  induction n with
  | zero => intro j V y6 y7 y8 h; omega
  | succ n ih =>
    intro j V y6 y7 y8 hn hj hz hx
    have w2 := W.1.2.2.1
    have hnr := nxZ_r W ha hb
    have hS := bfS_ok hnr k
    have hx36 : 0 ≤ x ∧ x < 36 := by rw [← hxk]; exact (hS.2.1 k (by omega) hk).1
    have hxm : (bfS (dfZ z a b) (nxZ z a b) k).1.2.1 x ≠ -1 := by rw [← hxk]; exact (hS.2.1 k (by omega) hk).2
    have hI := bfR_ok hnr hS hx36 hxm j hj
    have hle := hI.1.le
    have hcm := bfR_come (df := (dfZ z a b)) (nx := (nxZ z a b)) (S := (bfS (dfZ z a b) (nxZ z a b) k)) (x := x) j
    have hkx : (bfR (dfZ z a b) (nxZ z a b) (bfS (dfZ z a b) (nxZ z a b) k) x j).1.1 (k : Int) = x := by rw [hcm.2 k hk]; exact hxk
    obtain ⟨hfr, ⟨hv1, hv2, hv3⟩, hfc⟩ := hx
    refine TGo.il dX10_isParted_49 rfl ?_
    refine TGo.bip 6 dX10_isParted_51 (by decide) ?_
    refine TGo.icmp_ge 237 dX10_isParted_53 (by decide) (by omega) (fun h53 => ?_) (fun h53 => ?_)
    · obtain rfl : j = 6 := by omega
      have g1 : bfS (dfZ z a b) (nxZ z a b) (k + 1) = bfR (dfZ z a b) (nxZ z a b) (bfS (dfZ z a b) (nxZ z a b) k) x 6 := by rw [bfS, if_neg (by omega), hxk]
      refine TGo.iinc dX10_isParted_237 rfl rfl rfl ?_
      refine TGo.goto 40 dX10_isParted_240 (by decide) ?_
      exact TGo.seq [some (.ref T), some (.int (iI a)), some (.int (iI b)), some (.int (iI (bfS (dfZ z a b) (nxZ z a b) (k + 1)).2.1)), some (.int (iI (((k + 1) : Nat) : Int))), _, _, _, _] [] _ (by rw [g1]; rfl) rfl rfl (K _ _ _ _ _ hz hfr (by rw [g1]; exact ⟨hv1, hv2, hv3⟩) (by rw [g1]; exact hfc))
    · have hpq := pqZ_r W ha hb hx36 (c := (j : Int)) (by omega)
      have hw1 := wZ_r hpq.1
      have hw2 := nZ_r hpq.1
      have hw3 := wZ_r hpq.2
      have hw4 := nZ_r hpq.2
      have hq1 : b = -1 → (qvZ z a b x (j : Int)) = (pvZ z a x (j : Int)) := fun e => by unfold qvZ; rw [if_pos e]
      refine TGo.al0 dX10_isParted_56 rfl ?_
      refine TGo.il1 dX10_isParted_57 rfl ?_
      refine TGo.bip 6 dX10_isParted_58 (by decide) ?_
      refine TGo.al0 dX10_isParted_60 rfl ?_
      refine TGo.getS (t := 18) 38 38 (T + 18) (hT 0 (by decide)) rfl fgX10_91_10 dX10_isParted_61 rfl rfl rfl ?_
      refine TGo.il dX10_isParted_64 rfl ?_
      refine TGo.iald dX10_isParted_66 (hT 18 (by decide)) (by omega) rfl ?_
      refine TGo.toz x ((hv1 _ (by omega) (by omega)).trans hkx) ?_
      refine TGo.bip 6 dX10_isParted_67 (by decide) ?_
      refine TGo.idiv dX10_isParted_69 (by omega) ?_
      refine TGo.imul dX10_isParted_70 ?_
      refine TGo.il dX10_isParted_71 rfl ?_
      refine TGo.iadd dX10_isParted_73 ?_
      refine TGo.cF (csV2 (y2 := mX10_ruleOf) (t := 18) 1 rfl (hT 0 (by decide)) rfl rfl dX10_isParted_74 q2372 q2374 qs85 okX10_ruleOf npX10_ruleOf rfl rfl) (kX10_ruleOf hT hz (by omega) (by omega)) ?_
      refine TGo.toz (pvZ z a x (j : Int)) rfl ?_
      refine TGo.is dX10_isParted_77 rfl rfl ?_
      refine TGo.il2 dX10_isParted_79 rfl ?_
      refine TGo.icm1 dX10_isParted_80 ?_
      refine TGo.icmp_ne 89 dX10_isParted_81 (by decide) (by omega) (fun h81 => ?_) (fun h81 => ?_)
      · refine TGo.al0 dX10_isParted_89 rfl ?_
        refine TGo.il2 dX10_isParted_90 rfl ?_
        refine TGo.bip 6 dX10_isParted_91 (by decide) ?_
        refine TGo.al0 dX10_isParted_93 rfl ?_
        refine TGo.getS (t := 18) 38 38 (T + 18) (hT 0 (by decide)) rfl fgX10_91_10 dX10_isParted_94 rfl rfl rfl ?_
        refine TGo.il dX10_isParted_97 rfl ?_
        refine TGo.iald dX10_isParted_99 (hT 18 (by decide)) (by omega) rfl ?_
        refine TGo.toz x ((hv1 _ (by omega) (by omega)).trans hkx) ?_
        refine TGo.bip 6 dX10_isParted_100 (by decide) ?_
        refine TGo.irem dX10_isParted_102 (by omega) ?_
        refine TGo.imul dX10_isParted_103 ?_
        refine TGo.il dX10_isParted_104 rfl ?_
        refine TGo.iadd dX10_isParted_106 ?_
        refine TGo.cF (csV2 (y2 := mX10_ruleOf) (t := 18) 1 rfl (hT 0 (by decide)) rfl rfl dX10_isParted_107 q2372 q2374 qs85 okX10_ruleOf npX10_ruleOf rfl rfl) (kX10_ruleOf hT hz (by omega) (by omega)) ?_
        first | (refine TGo.toz (qvZ z a b x (j : Int)) (by rw [hq1 (by omega)]) ?_) | (refine TGo.toz (qvZ z a b x (j : Int)) (by unfold qvZ; rw [if_neg (by omega)]) ?_)
        refine TGo.is dX10_isParted_110 rfl rfl ?_
        refine TGo.il2 dX10_isParted_112 rfl ?_
        refine TGo.icm1 dX10_isParted_113 ?_
        refine TGo.icmp_ne 126 dX10_isParted_114 (by decide) (by omega) (fun h114 => ?_) (fun h114 => ?_)
        · refine TGo.il dX10_isParted_126 rfl ?_
          refine TGo.cF (csS1 (y2 := mX10_wordOf) 1 rfl dX10_isParted_128 q2069 q2070 okX10_wordOf npX10_wordOf rfl rfl) (kX10_wordOf (by omega)) ?_
          refine TGo.il dX10_isParted_131 rfl ?_
          refine TGo.cF (csS1 (y2 := mX10_wordOf) 1 rfl dX10_isParted_133 q2069 q2070 okX10_wordOf npX10_wordOf rfl rfl) (kX10_wordOf (by omega)) ?_
          refine TGo.icmp_eq 154 dX10_isParted_136 (by decide) (by omega) (fun h136 => ?_) (fun h136 => ?_)
          · have hd0 : dfZ z a b x (j : Int) ≠ 1 := fun q => absurd (bZ_1.mp q) (by omega)
            have hnr1 := hnr x (j : Int) hx36 (by omega) hd0
            refine TGo.il dX10_isParted_154 rfl ?_
            refine TGo.icm1 dX10_isParted_156 ?_
            refine TGo.icmp_ne 164 dX10_isParted_157 (by decide) (by omega) (fun h157 => ?_) (fun h157 => ?_)
            · refine TGo.bip 6 dX10_isParted_164 (by decide) ?_
              refine TGo.il dX10_isParted_166 rfl ?_
              refine TGo.cF (csS1 (y2 := mX10_nextOf) 1 rfl dX10_isParted_168 q2087 q2088 okX10_nextOf npX10_nextOf rfl rfl) (kX10_nextOf (by omega)) ?_
              refine TGo.imul dX10_isParted_171 ?_
              refine TGo.il dX10_isParted_172 rfl ?_
              refine TGo.cF (csS1 (y2 := mX10_nextOf) 1 rfl dX10_isParted_174 q2087 q2088 okX10_nextOf npX10_nextOf rfl rfl) (kX10_nextOf (by omega)) ?_
              refine TGo.iadd dX10_isParted_177 ?_
              first | (refine TGo.toz (nxZ z a b x (j : Int)) (by unfold nxZ; rw [if_pos (by assumption)]) ?_) | (refine TGo.toz (nxZ z a b x (j : Int)) (by unfold nxZ; rw [if_neg (by assumption)]) ?_)
              refine TGo.is dX10_isParted_178 rfl rfl ?_
              refine TGo.il dX10_isParted_180 rfl ?_
              refine TGo.icm1 dX10_isParted_182 ?_
              refine TGo.icmp_eq 231 dX10_isParted_183 (by decide) (by omega) (fun h183 => ?_) (fun h183 => ?_)
              · refine TGo.iinc dX10_isParted_231 rfl rfl rfl ?_
                refine TGo.goto 49 dX10_isParted_234 (by decide) ?_
                first | (exfalso; omega) | exact TGo.seq [some (.ref T), some (.int (iI a)), some (.int (iI b)), some (.int (iI (bfR (dfZ z a b) (nxZ z a b) (bfS (dfZ z a b) (nxZ z a b) k) x ((j + 1))).2.1)), some (.int (iI (k : Int))), some (.int (iI ((((j + 1)) : Nat) : Int))), _, _, _] [] _ (by first | (rw [show (bfR (dfZ z a b) (nxZ z a b) (bfS (dfZ z a b) (nxZ z a b) k) x (j + 1)) = (bfR (dfZ z a b) (nxZ z a b) (bfS (dfZ z a b) (nxZ z a b) k) x j) by rw [bfR, bfC, if_neg (by omega), if_neg hd0, if_neg (by omega)]]; rfl) | (rw [show (bfR (dfZ z a b) (nxZ z a b) (bfS (dfZ z a b) (nxZ z a b) k) x (j + 1)) = ((zu (bfR (dfZ z a b) (nxZ z a b) (bfS (dfZ z a b) (nxZ z a b) k) x j).1.1 (bfR (dfZ z a b) (nxZ z a b) (bfS (dfZ z a b) (nxZ z a b) k) x j).2.1 (nxZ z a b x (j : Int)), zu (bfR (dfZ z a b) (nxZ z a b) (bfS (dfZ z a b) (nxZ z a b) k) x j).1.2.1 (nxZ z a b x (j : Int)) x, zu (bfR (dfZ z a b) (nxZ z a b) (bfS (dfZ z a b) (nxZ z a b) k) x j).1.2.2 (nxZ z a b x (j : Int)) (j : Int)), (bfR (dfZ z a b) (nxZ z a b) (bfS (dfZ z a b) (nxZ z a b) k) x j).2.1 + 1, (bfR (dfZ z a b) (nxZ z a b) (bfS (dfZ z a b) (nxZ z a b) k) x j).2.2) by rw [bfR, bfC, if_neg (by omega), if_neg hd0, if_pos (by omega)]]; rfl)) rfl rfl (ih (j + 1) _ _ _ _ (by omega) (by omega) hz (by
                  first
                  | (have e1 : (bfR (dfZ z a b) (nxZ z a b) (bfS (dfZ z a b) (nxZ z a b) k) x (j + 1)) = (bfR (dfZ z a b) (nxZ z a b) (bfS (dfZ z a b) (nxZ z a b) k) x j) := by rw [bfR, bfC, if_neg (by omega), if_neg hd0, if_neg (by omega)]
                     rw [e1]; exact ⟨hfr, ⟨hv1, hv2, hv3⟩, hfc⟩)
                  | (have e1 : (bfR (dfZ z a b) (nxZ z a b) (bfS (dfZ z a b) (nxZ z a b) k) x (j + 1)) = ((zu (bfR (dfZ z a b) (nxZ z a b) (bfS (dfZ z a b) (nxZ z a b) k) x j).1.1 (bfR (dfZ z a b) (nxZ z a b) (bfS (dfZ z a b) (nxZ z a b) k) x j).2.1 (nxZ z a b x (j : Int)), zu (bfR (dfZ z a b) (nxZ z a b) (bfS (dfZ z a b) (nxZ z a b) k) x j).1.2.1 (nxZ z a b x (j : Int)) x, zu (bfR (dfZ z a b) (nxZ z a b) (bfS (dfZ z a b) (nxZ z a b) k) x j).1.2.2 (nxZ z a b x (j : Int)) (j : Int)), (bfR (dfZ z a b) (nxZ z a b) (bfS (dfZ z a b) (nxZ z a b) k) x j).2.1 + 1, (bfR (dfZ z a b) (nxZ z a b) (bfS (dfZ z a b) (nxZ z a b) k) x j).2.2) := by rw [bfR, bfC, if_neg (by omega), if_neg hd0, if_pos (by omega)]
                     rw [e1]
                     refine ⟨((hfr.i (by simp)).i (by simp)).i (by simp), ⟨fun i h0 h1 => ?_, fun w h0 h1 => ?_, fun w h0 h1 h2 h3 => ?_⟩, hfc⟩
                     · show _ = zu (bfR (dfZ z a b) (nxZ z a b) (bfS (dfZ z a b) (nxZ z a b) k) x j).1.1 (bfR (dfZ z a b) (nxZ z a b) (bfS (dfZ z a b) (nxZ z a b) k) x j).2.1 (nxZ z a b x (j : Int)) i
                       have h1 : i < (bfR (dfZ z a b) (nxZ z a b) (bfS (dfZ z a b) (nxZ z a b) k) x j).2.1 + 1 := h1
                       by_cases e : i = (bfR (dfZ z a b) (nxZ z a b) (bfS (dfZ z a b) (nxZ z a b) k) x j).2.1
                       · rw [e, zu_s]; exact u2_s
                       · rw [zu_n e]; exact (u2_n (Or.inr e)).trans ((u2_n (Or.inl (by omega))).trans ((u2_n (Or.inl (by omega))).trans (hv1 i h0 (by omega))))
                     · show _ = zu (bfR (dfZ z a b) (nxZ z a b) (bfS (dfZ z a b) (nxZ z a b) k) x j).1.2.1 (nxZ z a b x (j : Int)) x w
                       refine (u2_n (Or.inl (by omega))).trans ((u2_n (Or.inl (by omega))).trans ?_)
                       by_cases e : w = (nxZ z a b x (j : Int))
                       · rw [e, zu_s]; exact u2_s
                       · rw [zu_n e]; exact (u2_n (Or.inr e)).trans (hv2 w h0 h1)
                     · show _ = zu (bfR (dfZ z a b) (nxZ z a b) (bfS (dfZ z a b) (nxZ z a b) k) x j).1.2.2 (nxZ z a b x (j : Int)) (j : Int) w
                       have h3 : zu (bfR (dfZ z a b) (nxZ z a b) (bfS (dfZ z a b) (nxZ z a b) k) x j).1.2.1 (nxZ z a b x (j : Int)) x w ≠ -1 := h3
                       refine (u2_n (Or.inl (by omega))).trans ?_
                       by_cases e : w = (nxZ z a b x (j : Int))
                       · rw [e, zu_s]; exact u2_s
                       · rw [zu_n e] at h3 ⊢; exact (u2_n (Or.inr e)).trans ((u2_n (Or.inl (by omega))).trans (hv3 w h0 h1 h2 h3)))))
              · have hb1 := hI.1.2.2.1 (nxZ z a b x (j : Int)) (by omega) (by omega)
                refine TGo.al0 dX10_isParted_186 rfl ?_
                refine TGo.getS (t := 18) 39 39 (T + 19) (hT 0 (by decide)) rfl fgX10_94_10 dX10_isParted_187 rfl rfl rfl ?_
                refine TGo.il dX10_isParted_190 rfl ?_
                refine TGo.iald dX10_isParted_192 (hT 19 (by decide)) (by omega) rfl ?_
                refine TGo.toz _ (hv2 _ (by omega) (by omega)) ?_
                refine TGo.icm1 dX10_isParted_193 ?_
                refine TGo.icmp_ne 231 dX10_isParted_194 (by decide) (by omega) (fun h194 => ?_) (fun h194 => ?_)
                · refine TGo.iinc dX10_isParted_231 rfl rfl rfl ?_
                  refine TGo.goto 49 dX10_isParted_234 (by decide) ?_
                  first | (exfalso; omega) | exact TGo.seq [some (.ref T), some (.int (iI a)), some (.int (iI b)), some (.int (iI (bfR (dfZ z a b) (nxZ z a b) (bfS (dfZ z a b) (nxZ z a b) k) x ((j + 1))).2.1)), some (.int (iI (k : Int))), some (.int (iI ((((j + 1)) : Nat) : Int))), _, _, _] [] _ (by first | (rw [show (bfR (dfZ z a b) (nxZ z a b) (bfS (dfZ z a b) (nxZ z a b) k) x (j + 1)) = (bfR (dfZ z a b) (nxZ z a b) (bfS (dfZ z a b) (nxZ z a b) k) x j) by rw [bfR, bfC, if_neg (by omega), if_neg hd0, if_neg (by omega)]]; rfl) | (rw [show (bfR (dfZ z a b) (nxZ z a b) (bfS (dfZ z a b) (nxZ z a b) k) x (j + 1)) = ((zu (bfR (dfZ z a b) (nxZ z a b) (bfS (dfZ z a b) (nxZ z a b) k) x j).1.1 (bfR (dfZ z a b) (nxZ z a b) (bfS (dfZ z a b) (nxZ z a b) k) x j).2.1 (nxZ z a b x (j : Int)), zu (bfR (dfZ z a b) (nxZ z a b) (bfS (dfZ z a b) (nxZ z a b) k) x j).1.2.1 (nxZ z a b x (j : Int)) x, zu (bfR (dfZ z a b) (nxZ z a b) (bfS (dfZ z a b) (nxZ z a b) k) x j).1.2.2 (nxZ z a b x (j : Int)) (j : Int)), (bfR (dfZ z a b) (nxZ z a b) (bfS (dfZ z a b) (nxZ z a b) k) x j).2.1 + 1, (bfR (dfZ z a b) (nxZ z a b) (bfS (dfZ z a b) (nxZ z a b) k) x j).2.2) by rw [bfR, bfC, if_neg (by omega), if_neg hd0, if_pos (by omega)]]; rfl)) rfl rfl (ih (j + 1) _ _ _ _ (by omega) (by omega) hz (by
                    first
                    | (have e1 : (bfR (dfZ z a b) (nxZ z a b) (bfS (dfZ z a b) (nxZ z a b) k) x (j + 1)) = (bfR (dfZ z a b) (nxZ z a b) (bfS (dfZ z a b) (nxZ z a b) k) x j) := by rw [bfR, bfC, if_neg (by omega), if_neg hd0, if_neg (by omega)]
                       rw [e1]; exact ⟨hfr, ⟨hv1, hv2, hv3⟩, hfc⟩)
                    | (have e1 : (bfR (dfZ z a b) (nxZ z a b) (bfS (dfZ z a b) (nxZ z a b) k) x (j + 1)) = ((zu (bfR (dfZ z a b) (nxZ z a b) (bfS (dfZ z a b) (nxZ z a b) k) x j).1.1 (bfR (dfZ z a b) (nxZ z a b) (bfS (dfZ z a b) (nxZ z a b) k) x j).2.1 (nxZ z a b x (j : Int)), zu (bfR (dfZ z a b) (nxZ z a b) (bfS (dfZ z a b) (nxZ z a b) k) x j).1.2.1 (nxZ z a b x (j : Int)) x, zu (bfR (dfZ z a b) (nxZ z a b) (bfS (dfZ z a b) (nxZ z a b) k) x j).1.2.2 (nxZ z a b x (j : Int)) (j : Int)), (bfR (dfZ z a b) (nxZ z a b) (bfS (dfZ z a b) (nxZ z a b) k) x j).2.1 + 1, (bfR (dfZ z a b) (nxZ z a b) (bfS (dfZ z a b) (nxZ z a b) k) x j).2.2) := by rw [bfR, bfC, if_neg (by omega), if_neg hd0, if_pos (by omega)]
                       rw [e1]
                       refine ⟨((hfr.i (by simp)).i (by simp)).i (by simp), ⟨fun i h0 h1 => ?_, fun w h0 h1 => ?_, fun w h0 h1 h2 h3 => ?_⟩, hfc⟩
                       · show _ = zu (bfR (dfZ z a b) (nxZ z a b) (bfS (dfZ z a b) (nxZ z a b) k) x j).1.1 (bfR (dfZ z a b) (nxZ z a b) (bfS (dfZ z a b) (nxZ z a b) k) x j).2.1 (nxZ z a b x (j : Int)) i
                         have h1 : i < (bfR (dfZ z a b) (nxZ z a b) (bfS (dfZ z a b) (nxZ z a b) k) x j).2.1 + 1 := h1
                         by_cases e : i = (bfR (dfZ z a b) (nxZ z a b) (bfS (dfZ z a b) (nxZ z a b) k) x j).2.1
                         · rw [e, zu_s]; exact u2_s
                         · rw [zu_n e]; exact (u2_n (Or.inr e)).trans ((u2_n (Or.inl (by omega))).trans ((u2_n (Or.inl (by omega))).trans (hv1 i h0 (by omega))))
                       · show _ = zu (bfR (dfZ z a b) (nxZ z a b) (bfS (dfZ z a b) (nxZ z a b) k) x j).1.2.1 (nxZ z a b x (j : Int)) x w
                         refine (u2_n (Or.inl (by omega))).trans ((u2_n (Or.inl (by omega))).trans ?_)
                         by_cases e : w = (nxZ z a b x (j : Int))
                         · rw [e, zu_s]; exact u2_s
                         · rw [zu_n e]; exact (u2_n (Or.inr e)).trans (hv2 w h0 h1)
                       · show _ = zu (bfR (dfZ z a b) (nxZ z a b) (bfS (dfZ z a b) (nxZ z a b) k) x j).1.2.2 (nxZ z a b x (j : Int)) (j : Int) w
                         have h3 : zu (bfR (dfZ z a b) (nxZ z a b) (bfS (dfZ z a b) (nxZ z a b) k) x j).1.2.1 (nxZ z a b x (j : Int)) x w ≠ -1 := h3
                         refine (u2_n (Or.inl (by omega))).trans ?_
                         by_cases e : w = (nxZ z a b x (j : Int))
                         · rw [e, zu_s]; exact u2_s
                         · rw [zu_n e] at h3 ⊢; exact (u2_n (Or.inr e)).trans ((u2_n (Or.inl (by omega))).trans (hv3 w h0 h1 h2 h3)))))
                · have hlt := (hI.1.step (y := (nxZ z a b x (j : Int))) (c := (j : Int)) ⟨hx36, hI.2⟩ (by omega) (by omega) hfc).2
                  refine TGo.al0 dX10_isParted_197 rfl ?_
                  refine TGo.getS (t := 18) 39 39 (T + 19) (hT 0 (by decide)) rfl fgX10_94_10 dX10_isParted_198 rfl rfl rfl ?_
                  refine TGo.il dX10_isParted_201 rfl ?_
                  refine TGo.al0 dX10_isParted_203 rfl ?_
                  refine TGo.getS (t := 18) 38 38 (T + 18) (hT 0 (by decide)) rfl fgX10_91_10 dX10_isParted_204 rfl rfl rfl ?_
                  refine TGo.il dX10_isParted_207 rfl ?_
                  refine TGo.iald dX10_isParted_209 (hT 18 (by decide)) (by omega) rfl ?_
                  refine TGo.toz x ((hv1 _ (by omega) (by omega)).trans hkx) ?_
                  refine TGo.iast dX10_isParted_210 (hT 19 (by decide)) (by omega) rfl ?_
                  refine TGo.al0 dX10_isParted_211 rfl ?_
                  refine TGo.getS (t := 18) 40 40 (T + 20) (hT 0 (by decide)) rfl fgX10_97_10 dX10_isParted_212 rfl rfl rfl ?_
                  refine TGo.il dX10_isParted_215 rfl ?_
                  refine TGo.il dX10_isParted_217 rfl ?_
                  refine TGo.iast dX10_isParted_219 (hT 20 (by decide)) (by omega) rfl ?_
                  refine TGo.al0 dX10_isParted_220 rfl ?_
                  refine TGo.getS (t := 18) 38 38 (T + 18) (hT 0 (by decide)) rfl fgX10_91_10 dX10_isParted_221 rfl rfl rfl ?_
                  refine TGo.il3 dX10_isParted_224 rfl ?_
                  refine TGo.il dX10_isParted_225 rfl ?_
                  refine TGo.iast dX10_isParted_227 (hT 18 (by decide)) (by omega) rfl ?_
                  refine TGo.iinc dX10_isParted_228 rfl rfl rfl ?_
                  refine TGo.iinc dX10_isParted_231 rfl rfl rfl ?_
                  refine TGo.goto 49 dX10_isParted_234 (by decide) ?_
                  first | (exfalso; omega) | exact TGo.seq [some (.ref T), some (.int (iI a)), some (.int (iI b)), some (.int (iI (bfR (dfZ z a b) (nxZ z a b) (bfS (dfZ z a b) (nxZ z a b) k) x ((j + 1))).2.1)), some (.int (iI (k : Int))), some (.int (iI ((((j + 1)) : Nat) : Int))), _, _, _] [] _ (by first | (rw [show (bfR (dfZ z a b) (nxZ z a b) (bfS (dfZ z a b) (nxZ z a b) k) x (j + 1)) = (bfR (dfZ z a b) (nxZ z a b) (bfS (dfZ z a b) (nxZ z a b) k) x j) by rw [bfR, bfC, if_neg (by omega), if_neg hd0, if_neg (by omega)]]; rfl) | (rw [show (bfR (dfZ z a b) (nxZ z a b) (bfS (dfZ z a b) (nxZ z a b) k) x (j + 1)) = ((zu (bfR (dfZ z a b) (nxZ z a b) (bfS (dfZ z a b) (nxZ z a b) k) x j).1.1 (bfR (dfZ z a b) (nxZ z a b) (bfS (dfZ z a b) (nxZ z a b) k) x j).2.1 (nxZ z a b x (j : Int)), zu (bfR (dfZ z a b) (nxZ z a b) (bfS (dfZ z a b) (nxZ z a b) k) x j).1.2.1 (nxZ z a b x (j : Int)) x, zu (bfR (dfZ z a b) (nxZ z a b) (bfS (dfZ z a b) (nxZ z a b) k) x j).1.2.2 (nxZ z a b x (j : Int)) (j : Int)), (bfR (dfZ z a b) (nxZ z a b) (bfS (dfZ z a b) (nxZ z a b) k) x j).2.1 + 1, (bfR (dfZ z a b) (nxZ z a b) (bfS (dfZ z a b) (nxZ z a b) k) x j).2.2) by rw [bfR, bfC, if_neg (by omega), if_neg hd0, if_pos (by omega)]]; rfl)) rfl rfl (ih (j + 1) _ _ _ _ (by omega) (by omega) (((hz.t 19 rfl).t 20 rfl).t 18 rfl) (by
                    first
                    | (have e1 : (bfR (dfZ z a b) (nxZ z a b) (bfS (dfZ z a b) (nxZ z a b) k) x (j + 1)) = (bfR (dfZ z a b) (nxZ z a b) (bfS (dfZ z a b) (nxZ z a b) k) x j) := by rw [bfR, bfC, if_neg (by omega), if_neg hd0, if_neg (by omega)]
                       rw [e1]; exact ⟨hfr, ⟨hv1, hv2, hv3⟩, hfc⟩)
                    | (have e1 : (bfR (dfZ z a b) (nxZ z a b) (bfS (dfZ z a b) (nxZ z a b) k) x (j + 1)) = ((zu (bfR (dfZ z a b) (nxZ z a b) (bfS (dfZ z a b) (nxZ z a b) k) x j).1.1 (bfR (dfZ z a b) (nxZ z a b) (bfS (dfZ z a b) (nxZ z a b) k) x j).2.1 (nxZ z a b x (j : Int)), zu (bfR (dfZ z a b) (nxZ z a b) (bfS (dfZ z a b) (nxZ z a b) k) x j).1.2.1 (nxZ z a b x (j : Int)) x, zu (bfR (dfZ z a b) (nxZ z a b) (bfS (dfZ z a b) (nxZ z a b) k) x j).1.2.2 (nxZ z a b x (j : Int)) (j : Int)), (bfR (dfZ z a b) (nxZ z a b) (bfS (dfZ z a b) (nxZ z a b) k) x j).2.1 + 1, (bfR (dfZ z a b) (nxZ z a b) (bfS (dfZ z a b) (nxZ z a b) k) x j).2.2) := by rw [bfR, bfC, if_neg (by omega), if_neg hd0, if_pos (by omega)]
                       rw [e1]
                       refine ⟨((hfr.i (by simp)).i (by simp)).i (by simp), ⟨fun i h0 h1 => ?_, fun w h0 h1 => ?_, fun w h0 h1 h2 h3 => ?_⟩, hfc⟩
                       · show _ = zu (bfR (dfZ z a b) (nxZ z a b) (bfS (dfZ z a b) (nxZ z a b) k) x j).1.1 (bfR (dfZ z a b) (nxZ z a b) (bfS (dfZ z a b) (nxZ z a b) k) x j).2.1 (nxZ z a b x (j : Int)) i
                         have h1 : i < (bfR (dfZ z a b) (nxZ z a b) (bfS (dfZ z a b) (nxZ z a b) k) x j).2.1 + 1 := h1
                         by_cases e : i = (bfR (dfZ z a b) (nxZ z a b) (bfS (dfZ z a b) (nxZ z a b) k) x j).2.1
                         · rw [e, zu_s]; exact u2_s
                         · rw [zu_n e]; exact (u2_n (Or.inr e)).trans ((u2_n (Or.inl (by omega))).trans ((u2_n (Or.inl (by omega))).trans (hv1 i h0 (by omega))))
                       · show _ = zu (bfR (dfZ z a b) (nxZ z a b) (bfS (dfZ z a b) (nxZ z a b) k) x j).1.2.1 (nxZ z a b x (j : Int)) x w
                         refine (u2_n (Or.inl (by omega))).trans ((u2_n (Or.inl (by omega))).trans ?_)
                         by_cases e : w = (nxZ z a b x (j : Int))
                         · rw [e, zu_s]; exact u2_s
                         · rw [zu_n e]; exact (u2_n (Or.inr e)).trans (hv2 w h0 h1)
                       · show _ = zu (bfR (dfZ z a b) (nxZ z a b) (bfS (dfZ z a b) (nxZ z a b) k) x j).1.2.2 (nxZ z a b x (j : Int)) (j : Int) w
                         have h3 : zu (bfR (dfZ z a b) (nxZ z a b) (bfS (dfZ z a b) (nxZ z a b) k) x j).1.2.1 (nxZ z a b x (j : Int)) x w ≠ -1 := h3
                         refine (u2_n (Or.inl (by omega))).trans ?_
                         by_cases e : w = (nxZ z a b x (j : Int))
                         · rw [e, zu_s]; exact u2_s
                         · rw [zu_n e] at h3 ⊢; exact (u2_n (Or.inr e)).trans ((u2_n (Or.inl (by omega))).trans (hv3 w h0 h1 h2 h3)))))
            · refine TGo.icm1 dX10_isParted_160 ?_
              refine TGo.goto 178 dX10_isParted_161 (by decide) ?_
              first | (refine TGo.toz (nxZ z a b x (j : Int)) (by unfold nxZ; rw [if_pos (by assumption)]) ?_) | (refine TGo.toz (nxZ z a b x (j : Int)) (by unfold nxZ; rw [if_neg (by assumption)]) ?_)
              refine TGo.is dX10_isParted_178 rfl rfl ?_
              refine TGo.il dX10_isParted_180 rfl ?_
              refine TGo.icm1 dX10_isParted_182 ?_
              refine TGo.icmp_eq 231 dX10_isParted_183 (by decide) (by omega) (fun h183 => ?_) (fun h183 => ?_)
              · refine TGo.iinc dX10_isParted_231 rfl rfl rfl ?_
                refine TGo.goto 49 dX10_isParted_234 (by decide) ?_
                first | (exfalso; omega) | exact TGo.seq [some (.ref T), some (.int (iI a)), some (.int (iI b)), some (.int (iI (bfR (dfZ z a b) (nxZ z a b) (bfS (dfZ z a b) (nxZ z a b) k) x ((j + 1))).2.1)), some (.int (iI (k : Int))), some (.int (iI ((((j + 1)) : Nat) : Int))), _, _, _] [] _ (by first | (rw [show (bfR (dfZ z a b) (nxZ z a b) (bfS (dfZ z a b) (nxZ z a b) k) x (j + 1)) = (bfR (dfZ z a b) (nxZ z a b) (bfS (dfZ z a b) (nxZ z a b) k) x j) by rw [bfR, bfC, if_neg (by omega), if_neg hd0, if_neg (by omega)]]; rfl) | (rw [show (bfR (dfZ z a b) (nxZ z a b) (bfS (dfZ z a b) (nxZ z a b) k) x (j + 1)) = ((zu (bfR (dfZ z a b) (nxZ z a b) (bfS (dfZ z a b) (nxZ z a b) k) x j).1.1 (bfR (dfZ z a b) (nxZ z a b) (bfS (dfZ z a b) (nxZ z a b) k) x j).2.1 (nxZ z a b x (j : Int)), zu (bfR (dfZ z a b) (nxZ z a b) (bfS (dfZ z a b) (nxZ z a b) k) x j).1.2.1 (nxZ z a b x (j : Int)) x, zu (bfR (dfZ z a b) (nxZ z a b) (bfS (dfZ z a b) (nxZ z a b) k) x j).1.2.2 (nxZ z a b x (j : Int)) (j : Int)), (bfR (dfZ z a b) (nxZ z a b) (bfS (dfZ z a b) (nxZ z a b) k) x j).2.1 + 1, (bfR (dfZ z a b) (nxZ z a b) (bfS (dfZ z a b) (nxZ z a b) k) x j).2.2) by rw [bfR, bfC, if_neg (by omega), if_neg hd0, if_pos (by omega)]]; rfl)) rfl rfl (ih (j + 1) _ _ _ _ (by omega) (by omega) hz (by
                  first
                  | (have e1 : (bfR (dfZ z a b) (nxZ z a b) (bfS (dfZ z a b) (nxZ z a b) k) x (j + 1)) = (bfR (dfZ z a b) (nxZ z a b) (bfS (dfZ z a b) (nxZ z a b) k) x j) := by rw [bfR, bfC, if_neg (by omega), if_neg hd0, if_neg (by omega)]
                     rw [e1]; exact ⟨hfr, ⟨hv1, hv2, hv3⟩, hfc⟩)
                  | (have e1 : (bfR (dfZ z a b) (nxZ z a b) (bfS (dfZ z a b) (nxZ z a b) k) x (j + 1)) = ((zu (bfR (dfZ z a b) (nxZ z a b) (bfS (dfZ z a b) (nxZ z a b) k) x j).1.1 (bfR (dfZ z a b) (nxZ z a b) (bfS (dfZ z a b) (nxZ z a b) k) x j).2.1 (nxZ z a b x (j : Int)), zu (bfR (dfZ z a b) (nxZ z a b) (bfS (dfZ z a b) (nxZ z a b) k) x j).1.2.1 (nxZ z a b x (j : Int)) x, zu (bfR (dfZ z a b) (nxZ z a b) (bfS (dfZ z a b) (nxZ z a b) k) x j).1.2.2 (nxZ z a b x (j : Int)) (j : Int)), (bfR (dfZ z a b) (nxZ z a b) (bfS (dfZ z a b) (nxZ z a b) k) x j).2.1 + 1, (bfR (dfZ z a b) (nxZ z a b) (bfS (dfZ z a b) (nxZ z a b) k) x j).2.2) := by rw [bfR, bfC, if_neg (by omega), if_neg hd0, if_pos (by omega)]
                     rw [e1]
                     refine ⟨((hfr.i (by simp)).i (by simp)).i (by simp), ⟨fun i h0 h1 => ?_, fun w h0 h1 => ?_, fun w h0 h1 h2 h3 => ?_⟩, hfc⟩
                     · show _ = zu (bfR (dfZ z a b) (nxZ z a b) (bfS (dfZ z a b) (nxZ z a b) k) x j).1.1 (bfR (dfZ z a b) (nxZ z a b) (bfS (dfZ z a b) (nxZ z a b) k) x j).2.1 (nxZ z a b x (j : Int)) i
                       have h1 : i < (bfR (dfZ z a b) (nxZ z a b) (bfS (dfZ z a b) (nxZ z a b) k) x j).2.1 + 1 := h1
                       by_cases e : i = (bfR (dfZ z a b) (nxZ z a b) (bfS (dfZ z a b) (nxZ z a b) k) x j).2.1
                       · rw [e, zu_s]; exact u2_s
                       · rw [zu_n e]; exact (u2_n (Or.inr e)).trans ((u2_n (Or.inl (by omega))).trans ((u2_n (Or.inl (by omega))).trans (hv1 i h0 (by omega))))
                     · show _ = zu (bfR (dfZ z a b) (nxZ z a b) (bfS (dfZ z a b) (nxZ z a b) k) x j).1.2.1 (nxZ z a b x (j : Int)) x w
                       refine (u2_n (Or.inl (by omega))).trans ((u2_n (Or.inl (by omega))).trans ?_)
                       by_cases e : w = (nxZ z a b x (j : Int))
                       · rw [e, zu_s]; exact u2_s
                       · rw [zu_n e]; exact (u2_n (Or.inr e)).trans (hv2 w h0 h1)
                     · show _ = zu (bfR (dfZ z a b) (nxZ z a b) (bfS (dfZ z a b) (nxZ z a b) k) x j).1.2.2 (nxZ z a b x (j : Int)) (j : Int) w
                       have h3 : zu (bfR (dfZ z a b) (nxZ z a b) (bfS (dfZ z a b) (nxZ z a b) k) x j).1.2.1 (nxZ z a b x (j : Int)) x w ≠ -1 := h3
                       refine (u2_n (Or.inl (by omega))).trans ?_
                       by_cases e : w = (nxZ z a b x (j : Int))
                       · rw [e, zu_s]; exact u2_s
                       · rw [zu_n e] at h3 ⊢; exact (u2_n (Or.inr e)).trans ((u2_n (Or.inl (by omega))).trans (hv3 w h0 h1 h2 h3)))))
              · have hb1 := hI.1.2.2.1 (nxZ z a b x (j : Int)) (by omega) (by omega)
                refine TGo.al0 dX10_isParted_186 rfl ?_
                refine TGo.getS (t := 18) 39 39 (T + 19) (hT 0 (by decide)) rfl fgX10_94_10 dX10_isParted_187 rfl rfl rfl ?_
                refine TGo.il dX10_isParted_190 rfl ?_
                refine TGo.iald dX10_isParted_192 (hT 19 (by decide)) (by omega) rfl ?_
                refine TGo.toz _ (hv2 _ (by omega) (by omega)) ?_
                refine TGo.icm1 dX10_isParted_193 ?_
                refine TGo.icmp_ne 231 dX10_isParted_194 (by decide) (by omega) (fun h194 => ?_) (fun h194 => ?_)
                · refine TGo.iinc dX10_isParted_231 rfl rfl rfl ?_
                  refine TGo.goto 49 dX10_isParted_234 (by decide) ?_
                  first | (exfalso; omega) | exact TGo.seq [some (.ref T), some (.int (iI a)), some (.int (iI b)), some (.int (iI (bfR (dfZ z a b) (nxZ z a b) (bfS (dfZ z a b) (nxZ z a b) k) x ((j + 1))).2.1)), some (.int (iI (k : Int))), some (.int (iI ((((j + 1)) : Nat) : Int))), _, _, _] [] _ (by first | (rw [show (bfR (dfZ z a b) (nxZ z a b) (bfS (dfZ z a b) (nxZ z a b) k) x (j + 1)) = (bfR (dfZ z a b) (nxZ z a b) (bfS (dfZ z a b) (nxZ z a b) k) x j) by rw [bfR, bfC, if_neg (by omega), if_neg hd0, if_neg (by omega)]]; rfl) | (rw [show (bfR (dfZ z a b) (nxZ z a b) (bfS (dfZ z a b) (nxZ z a b) k) x (j + 1)) = ((zu (bfR (dfZ z a b) (nxZ z a b) (bfS (dfZ z a b) (nxZ z a b) k) x j).1.1 (bfR (dfZ z a b) (nxZ z a b) (bfS (dfZ z a b) (nxZ z a b) k) x j).2.1 (nxZ z a b x (j : Int)), zu (bfR (dfZ z a b) (nxZ z a b) (bfS (dfZ z a b) (nxZ z a b) k) x j).1.2.1 (nxZ z a b x (j : Int)) x, zu (bfR (dfZ z a b) (nxZ z a b) (bfS (dfZ z a b) (nxZ z a b) k) x j).1.2.2 (nxZ z a b x (j : Int)) (j : Int)), (bfR (dfZ z a b) (nxZ z a b) (bfS (dfZ z a b) (nxZ z a b) k) x j).2.1 + 1, (bfR (dfZ z a b) (nxZ z a b) (bfS (dfZ z a b) (nxZ z a b) k) x j).2.2) by rw [bfR, bfC, if_neg (by omega), if_neg hd0, if_pos (by omega)]]; rfl)) rfl rfl (ih (j + 1) _ _ _ _ (by omega) (by omega) hz (by
                    first
                    | (have e1 : (bfR (dfZ z a b) (nxZ z a b) (bfS (dfZ z a b) (nxZ z a b) k) x (j + 1)) = (bfR (dfZ z a b) (nxZ z a b) (bfS (dfZ z a b) (nxZ z a b) k) x j) := by rw [bfR, bfC, if_neg (by omega), if_neg hd0, if_neg (by omega)]
                       rw [e1]; exact ⟨hfr, ⟨hv1, hv2, hv3⟩, hfc⟩)
                    | (have e1 : (bfR (dfZ z a b) (nxZ z a b) (bfS (dfZ z a b) (nxZ z a b) k) x (j + 1)) = ((zu (bfR (dfZ z a b) (nxZ z a b) (bfS (dfZ z a b) (nxZ z a b) k) x j).1.1 (bfR (dfZ z a b) (nxZ z a b) (bfS (dfZ z a b) (nxZ z a b) k) x j).2.1 (nxZ z a b x (j : Int)), zu (bfR (dfZ z a b) (nxZ z a b) (bfS (dfZ z a b) (nxZ z a b) k) x j).1.2.1 (nxZ z a b x (j : Int)) x, zu (bfR (dfZ z a b) (nxZ z a b) (bfS (dfZ z a b) (nxZ z a b) k) x j).1.2.2 (nxZ z a b x (j : Int)) (j : Int)), (bfR (dfZ z a b) (nxZ z a b) (bfS (dfZ z a b) (nxZ z a b) k) x j).2.1 + 1, (bfR (dfZ z a b) (nxZ z a b) (bfS (dfZ z a b) (nxZ z a b) k) x j).2.2) := by rw [bfR, bfC, if_neg (by omega), if_neg hd0, if_pos (by omega)]
                       rw [e1]
                       refine ⟨((hfr.i (by simp)).i (by simp)).i (by simp), ⟨fun i h0 h1 => ?_, fun w h0 h1 => ?_, fun w h0 h1 h2 h3 => ?_⟩, hfc⟩
                       · show _ = zu (bfR (dfZ z a b) (nxZ z a b) (bfS (dfZ z a b) (nxZ z a b) k) x j).1.1 (bfR (dfZ z a b) (nxZ z a b) (bfS (dfZ z a b) (nxZ z a b) k) x j).2.1 (nxZ z a b x (j : Int)) i
                         have h1 : i < (bfR (dfZ z a b) (nxZ z a b) (bfS (dfZ z a b) (nxZ z a b) k) x j).2.1 + 1 := h1
                         by_cases e : i = (bfR (dfZ z a b) (nxZ z a b) (bfS (dfZ z a b) (nxZ z a b) k) x j).2.1
                         · rw [e, zu_s]; exact u2_s
                         · rw [zu_n e]; exact (u2_n (Or.inr e)).trans ((u2_n (Or.inl (by omega))).trans ((u2_n (Or.inl (by omega))).trans (hv1 i h0 (by omega))))
                       · show _ = zu (bfR (dfZ z a b) (nxZ z a b) (bfS (dfZ z a b) (nxZ z a b) k) x j).1.2.1 (nxZ z a b x (j : Int)) x w
                         refine (u2_n (Or.inl (by omega))).trans ((u2_n (Or.inl (by omega))).trans ?_)
                         by_cases e : w = (nxZ z a b x (j : Int))
                         · rw [e, zu_s]; exact u2_s
                         · rw [zu_n e]; exact (u2_n (Or.inr e)).trans (hv2 w h0 h1)
                       · show _ = zu (bfR (dfZ z a b) (nxZ z a b) (bfS (dfZ z a b) (nxZ z a b) k) x j).1.2.2 (nxZ z a b x (j : Int)) (j : Int) w
                         have h3 : zu (bfR (dfZ z a b) (nxZ z a b) (bfS (dfZ z a b) (nxZ z a b) k) x j).1.2.1 (nxZ z a b x (j : Int)) x w ≠ -1 := h3
                         refine (u2_n (Or.inl (by omega))).trans ?_
                         by_cases e : w = (nxZ z a b x (j : Int))
                         · rw [e, zu_s]; exact u2_s
                         · rw [zu_n e] at h3 ⊢; exact (u2_n (Or.inr e)).trans ((u2_n (Or.inl (by omega))).trans (hv3 w h0 h1 h2 h3)))))
                · have hlt := (hI.1.step (y := (nxZ z a b x (j : Int))) (c := (j : Int)) ⟨hx36, hI.2⟩ (by omega) (by omega) hfc).2
                  refine TGo.al0 dX10_isParted_197 rfl ?_
                  refine TGo.getS (t := 18) 39 39 (T + 19) (hT 0 (by decide)) rfl fgX10_94_10 dX10_isParted_198 rfl rfl rfl ?_
                  refine TGo.il dX10_isParted_201 rfl ?_
                  refine TGo.al0 dX10_isParted_203 rfl ?_
                  refine TGo.getS (t := 18) 38 38 (T + 18) (hT 0 (by decide)) rfl fgX10_91_10 dX10_isParted_204 rfl rfl rfl ?_
                  refine TGo.il dX10_isParted_207 rfl ?_
                  refine TGo.iald dX10_isParted_209 (hT 18 (by decide)) (by omega) rfl ?_
                  refine TGo.toz x ((hv1 _ (by omega) (by omega)).trans hkx) ?_
                  refine TGo.iast dX10_isParted_210 (hT 19 (by decide)) (by omega) rfl ?_
                  refine TGo.al0 dX10_isParted_211 rfl ?_
                  refine TGo.getS (t := 18) 40 40 (T + 20) (hT 0 (by decide)) rfl fgX10_97_10 dX10_isParted_212 rfl rfl rfl ?_
                  refine TGo.il dX10_isParted_215 rfl ?_
                  refine TGo.il dX10_isParted_217 rfl ?_
                  refine TGo.iast dX10_isParted_219 (hT 20 (by decide)) (by omega) rfl ?_
                  refine TGo.al0 dX10_isParted_220 rfl ?_
                  refine TGo.getS (t := 18) 38 38 (T + 18) (hT 0 (by decide)) rfl fgX10_91_10 dX10_isParted_221 rfl rfl rfl ?_
                  refine TGo.il3 dX10_isParted_224 rfl ?_
                  refine TGo.il dX10_isParted_225 rfl ?_
                  refine TGo.iast dX10_isParted_227 (hT 18 (by decide)) (by omega) rfl ?_
                  refine TGo.iinc dX10_isParted_228 rfl rfl rfl ?_
                  refine TGo.iinc dX10_isParted_231 rfl rfl rfl ?_
                  refine TGo.goto 49 dX10_isParted_234 (by decide) ?_
                  first | (exfalso; omega) | exact TGo.seq [some (.ref T), some (.int (iI a)), some (.int (iI b)), some (.int (iI (bfR (dfZ z a b) (nxZ z a b) (bfS (dfZ z a b) (nxZ z a b) k) x ((j + 1))).2.1)), some (.int (iI (k : Int))), some (.int (iI ((((j + 1)) : Nat) : Int))), _, _, _] [] _ (by first | (rw [show (bfR (dfZ z a b) (nxZ z a b) (bfS (dfZ z a b) (nxZ z a b) k) x (j + 1)) = (bfR (dfZ z a b) (nxZ z a b) (bfS (dfZ z a b) (nxZ z a b) k) x j) by rw [bfR, bfC, if_neg (by omega), if_neg hd0, if_neg (by omega)]]; rfl) | (rw [show (bfR (dfZ z a b) (nxZ z a b) (bfS (dfZ z a b) (nxZ z a b) k) x (j + 1)) = ((zu (bfR (dfZ z a b) (nxZ z a b) (bfS (dfZ z a b) (nxZ z a b) k) x j).1.1 (bfR (dfZ z a b) (nxZ z a b) (bfS (dfZ z a b) (nxZ z a b) k) x j).2.1 (nxZ z a b x (j : Int)), zu (bfR (dfZ z a b) (nxZ z a b) (bfS (dfZ z a b) (nxZ z a b) k) x j).1.2.1 (nxZ z a b x (j : Int)) x, zu (bfR (dfZ z a b) (nxZ z a b) (bfS (dfZ z a b) (nxZ z a b) k) x j).1.2.2 (nxZ z a b x (j : Int)) (j : Int)), (bfR (dfZ z a b) (nxZ z a b) (bfS (dfZ z a b) (nxZ z a b) k) x j).2.1 + 1, (bfR (dfZ z a b) (nxZ z a b) (bfS (dfZ z a b) (nxZ z a b) k) x j).2.2) by rw [bfR, bfC, if_neg (by omega), if_neg hd0, if_pos (by omega)]]; rfl)) rfl rfl (ih (j + 1) _ _ _ _ (by omega) (by omega) (((hz.t 19 rfl).t 20 rfl).t 18 rfl) (by
                    first
                    | (have e1 : (bfR (dfZ z a b) (nxZ z a b) (bfS (dfZ z a b) (nxZ z a b) k) x (j + 1)) = (bfR (dfZ z a b) (nxZ z a b) (bfS (dfZ z a b) (nxZ z a b) k) x j) := by rw [bfR, bfC, if_neg (by omega), if_neg hd0, if_neg (by omega)]
                       rw [e1]; exact ⟨hfr, ⟨hv1, hv2, hv3⟩, hfc⟩)
                    | (have e1 : (bfR (dfZ z a b) (nxZ z a b) (bfS (dfZ z a b) (nxZ z a b) k) x (j + 1)) = ((zu (bfR (dfZ z a b) (nxZ z a b) (bfS (dfZ z a b) (nxZ z a b) k) x j).1.1 (bfR (dfZ z a b) (nxZ z a b) (bfS (dfZ z a b) (nxZ z a b) k) x j).2.1 (nxZ z a b x (j : Int)), zu (bfR (dfZ z a b) (nxZ z a b) (bfS (dfZ z a b) (nxZ z a b) k) x j).1.2.1 (nxZ z a b x (j : Int)) x, zu (bfR (dfZ z a b) (nxZ z a b) (bfS (dfZ z a b) (nxZ z a b) k) x j).1.2.2 (nxZ z a b x (j : Int)) (j : Int)), (bfR (dfZ z a b) (nxZ z a b) (bfS (dfZ z a b) (nxZ z a b) k) x j).2.1 + 1, (bfR (dfZ z a b) (nxZ z a b) (bfS (dfZ z a b) (nxZ z a b) k) x j).2.2) := by rw [bfR, bfC, if_neg (by omega), if_neg hd0, if_pos (by omega)]
                       rw [e1]
                       refine ⟨((hfr.i (by simp)).i (by simp)).i (by simp), ⟨fun i h0 h1 => ?_, fun w h0 h1 => ?_, fun w h0 h1 h2 h3 => ?_⟩, hfc⟩
                       · show _ = zu (bfR (dfZ z a b) (nxZ z a b) (bfS (dfZ z a b) (nxZ z a b) k) x j).1.1 (bfR (dfZ z a b) (nxZ z a b) (bfS (dfZ z a b) (nxZ z a b) k) x j).2.1 (nxZ z a b x (j : Int)) i
                         have h1 : i < (bfR (dfZ z a b) (nxZ z a b) (bfS (dfZ z a b) (nxZ z a b) k) x j).2.1 + 1 := h1
                         by_cases e : i = (bfR (dfZ z a b) (nxZ z a b) (bfS (dfZ z a b) (nxZ z a b) k) x j).2.1
                         · rw [e, zu_s]; exact u2_s
                         · rw [zu_n e]; exact (u2_n (Or.inr e)).trans ((u2_n (Or.inl (by omega))).trans ((u2_n (Or.inl (by omega))).trans (hv1 i h0 (by omega))))
                       · show _ = zu (bfR (dfZ z a b) (nxZ z a b) (bfS (dfZ z a b) (nxZ z a b) k) x j).1.2.1 (nxZ z a b x (j : Int)) x w
                         refine (u2_n (Or.inl (by omega))).trans ((u2_n (Or.inl (by omega))).trans ?_)
                         by_cases e : w = (nxZ z a b x (j : Int))
                         · rw [e, zu_s]; exact u2_s
                         · rw [zu_n e]; exact (u2_n (Or.inr e)).trans (hv2 w h0 h1)
                       · show _ = zu (bfR (dfZ z a b) (nxZ z a b) (bfS (dfZ z a b) (nxZ z a b) k) x j).1.2.2 (nxZ z a b x (j : Int)) (j : Int) w
                         have h3 : zu (bfR (dfZ z a b) (nxZ z a b) (bfS (dfZ z a b) (nxZ z a b) k) x j).1.2.1 (nxZ z a b x (j : Int)) x w ≠ -1 := h3
                         refine (u2_n (Or.inl (by omega))).trans ?_
                         by_cases e : w = (nxZ z a b x (j : Int))
                         · rw [e, zu_s]; exact u2_s
                         · rw [zu_n e] at h3 ⊢; exact (u2_n (Or.inr e)).trans ((u2_n (Or.inl (by omega))).trans (hv3 w h0 h1 h2 h3)))))
          · have hd1 : dfZ z a b x (j : Int) = 1 := bZ_t (by omega)
            have ef : (bfR (dfZ z a b) (nxZ z a b) (bfS (dfZ z a b) (nxZ z a b) k) x (j + 1)) = ((bfR (dfZ z a b) (nxZ z a b) (bfS (dfZ z a b) (nxZ z a b) k) x j).1, (bfR (dfZ z a b) (nxZ z a b) (bfS (dfZ z a b) (nxZ z a b) k) x j).2.1, x, (j : Int)) := by
              rw [bfR, bfC, if_neg (by omega), if_pos hd1]
            have e36 : (bfS (dfZ z a b) (nxZ z a b) 36) = ((bfR (dfZ z a b) (nxZ z a b) (bfS (dfZ z a b) (nxZ z a b) k) x j).1, (bfR (dfZ z a b) (nxZ z a b) (bfS (dfZ z a b) (nxZ z a b) k) x j).2.1, x, (j : Int)) := by
              have g1 : bfS (dfZ z a b) (nxZ z a b) (k + 1) = bfR (dfZ z a b) (nxZ z a b) (bfS (dfZ z a b) (nxZ z a b) k) x 6 := by rw [bfS, if_neg (by omega), hxk]
              have g2 : bfR (dfZ z a b) (nxZ z a b) (bfS (dfZ z a b) (nxZ z a b) k) x 6 = (bfR (dfZ z a b) (nxZ z a b) (bfS (dfZ z a b) (nxZ z a b) k) x (j + 1)) := bfR_stay (by rw [ef]; show (j : Int) ≠ -1; omega) 6 (by omega)
              have g3 : (bfS (dfZ z a b) (nxZ z a b) (k + 1)).2.2.2 ≠ -1 := by rw [g1, g2, ef]; show (j : Int) ≠ -1; omega
              rw [bfS_stay (Or.inl g3) 36 (by omega), g1, g2, ef]
            obtain ⟨m, q1, q2, q3⟩ := (hI.1.2.2.2.2.1 x hx36.1 hx36.2 hI.2).1
            have hm36 := hI.1.le
            refine TGo.al0 dX10_isParted_139 rfl ?_
            refine TGo.al0 dX10_isParted_140 rfl ?_
            refine TGo.getS (t := 18) 38 38 (T + 18) (hT 0 (by decide)) rfl fgX10_91_10 dX10_isParted_141 rfl rfl rfl ?_
            refine TGo.il dX10_isParted_144 rfl ?_
            refine TGo.iald dX10_isParted_146 (hT 18 (by decide)) (by omega) rfl ?_
            refine TGo.toz x ((hv1 _ (by omega) (by omega)).trans hkx) ?_
            refine TGo.il dX10_isParted_147 rfl ?_
            refine TGo.cN (csV2 (y2 := mX10_findRow) (t := 18) 1 rfl (hT 0 (by decide)) rfl rfl dX10_isParted_149 q2409 q2411 qs88 okX10_findRow npX10_findRow rfl rfl) (kX10_findRow (f := (bfR (dfZ z a b) (nxZ z a b) (bfS (dfZ z a b) (nxZ z a b) k) x j).1.2.1) (bc := (bfR (dfZ z a b) (nxZ z a b) (bfS (dfZ z a b) (nxZ z a b) k) x j).1.2.2) (m := m) hT hz (by omega) q2 (fun i hi => ⟨(q3 i hi).1, (q3 i hi).2.2⟩) (fun i hi => ⟨(hI.1.2.2.1 _ (q3 i hi).1.1 (q3 i hi).1.2).1, (hI.1.2.2.1 _ (q3 i hi).1.1 (q3 i hi).1.2).2, (hI.1.2.2.2.2.1 _ (q3 i hi).1.1 (q3 i hi).1.2 (q3 i hi).2.1).2⟩) (fun i hi => hv2 _ (q3 i hi).1.1 (q3 i hi).1.2) (fun i hi => hv3 _ (q3 i (by omega)).1.1 (q3 i (by omega)).1.2 ((q3 i (by omega)).2.2 hi) (q3 i (by omega)).2.1)) (fun V149 h149 => ?_)
            obtain ⟨hz149, hf149, hn149, hl149, hb149⟩ := h149
            refine TGo.ic1 dX10_isParted_152 ?_
            refine TGo.zret dX10_isParted_153 rfl (by first | exact Or.inl rfl | exact Or.inr rfl | exact bZ_or _ | assumption) ?_
            refine ⟨_, rfl, rfl, rfl, ?_, hz149, hfr.tr (hf149.sub (fun i hi => by simp only [List.mem_cons, List.not_mem_nil, or_false] at hi ⊢; omega)), fun _ => ?_⟩
            · rw [bZ_t]; rw [e36]; show (j : Int) ≠ -1; omega
            · have ep : pnZ (bfR (dfZ z a b) (nxZ z a b) (bfS (dfZ z a b) (nxZ z a b) k) x j).1.2.1 36 x = m := pnZ_eq 36 m x (by omega) q2 (fun i hi => (q3 i (by omega)).2.2 hi)
              rw [e36]
              unfold FOZ
              simp only
              rw [ep]
              exact ⟨hn149, hl149, hb149⟩
        · refine TGo.il dX10_isParted_117 rfl ?_
          refine TGo.icm1 dX10_isParted_119 ?_
          refine TGo.icmp_ne 154 dX10_isParted_120 (by decide) (by omega) (fun h120 => ?_) (fun h120 => ?_)
          · have hd0 : dfZ z a b x (j : Int) ≠ 1 := fun q => absurd (bZ_1.mp q) (by omega)
            have hnr1 := hnr x (j : Int) hx36 (by omega) hd0
            refine TGo.il dX10_isParted_154 rfl ?_
            refine TGo.icm1 dX10_isParted_156 ?_
            refine TGo.icmp_ne 164 dX10_isParted_157 (by decide) (by omega) (fun h157 => ?_) (fun h157 => ?_)
            · refine TGo.bip 6 dX10_isParted_164 (by decide) ?_
              refine TGo.il dX10_isParted_166 rfl ?_
              refine TGo.cF (csS1 (y2 := mX10_nextOf) 1 rfl dX10_isParted_168 q2087 q2088 okX10_nextOf npX10_nextOf rfl rfl) (kX10_nextOf (by omega)) ?_
              refine TGo.imul dX10_isParted_171 ?_
              refine TGo.il dX10_isParted_172 rfl ?_
              refine TGo.cF (csS1 (y2 := mX10_nextOf) 1 rfl dX10_isParted_174 q2087 q2088 okX10_nextOf npX10_nextOf rfl rfl) (kX10_nextOf (by omega)) ?_
              refine TGo.iadd dX10_isParted_177 ?_
              first | (refine TGo.toz (nxZ z a b x (j : Int)) (by unfold nxZ; rw [if_pos (by assumption)]) ?_) | (refine TGo.toz (nxZ z a b x (j : Int)) (by unfold nxZ; rw [if_neg (by assumption)]) ?_)
              refine TGo.is dX10_isParted_178 rfl rfl ?_
              refine TGo.il dX10_isParted_180 rfl ?_
              refine TGo.icm1 dX10_isParted_182 ?_
              refine TGo.icmp_eq 231 dX10_isParted_183 (by decide) (by omega) (fun h183 => ?_) (fun h183 => ?_)
              · refine TGo.iinc dX10_isParted_231 rfl rfl rfl ?_
                refine TGo.goto 49 dX10_isParted_234 (by decide) ?_
                first | (exfalso; omega) | exact TGo.seq [some (.ref T), some (.int (iI a)), some (.int (iI b)), some (.int (iI (bfR (dfZ z a b) (nxZ z a b) (bfS (dfZ z a b) (nxZ z a b) k) x ((j + 1))).2.1)), some (.int (iI (k : Int))), some (.int (iI ((((j + 1)) : Nat) : Int))), _, _, _] [] _ (by first | (rw [show (bfR (dfZ z a b) (nxZ z a b) (bfS (dfZ z a b) (nxZ z a b) k) x (j + 1)) = (bfR (dfZ z a b) (nxZ z a b) (bfS (dfZ z a b) (nxZ z a b) k) x j) by rw [bfR, bfC, if_neg (by omega), if_neg hd0, if_neg (by omega)]]; rfl) | (rw [show (bfR (dfZ z a b) (nxZ z a b) (bfS (dfZ z a b) (nxZ z a b) k) x (j + 1)) = ((zu (bfR (dfZ z a b) (nxZ z a b) (bfS (dfZ z a b) (nxZ z a b) k) x j).1.1 (bfR (dfZ z a b) (nxZ z a b) (bfS (dfZ z a b) (nxZ z a b) k) x j).2.1 (nxZ z a b x (j : Int)), zu (bfR (dfZ z a b) (nxZ z a b) (bfS (dfZ z a b) (nxZ z a b) k) x j).1.2.1 (nxZ z a b x (j : Int)) x, zu (bfR (dfZ z a b) (nxZ z a b) (bfS (dfZ z a b) (nxZ z a b) k) x j).1.2.2 (nxZ z a b x (j : Int)) (j : Int)), (bfR (dfZ z a b) (nxZ z a b) (bfS (dfZ z a b) (nxZ z a b) k) x j).2.1 + 1, (bfR (dfZ z a b) (nxZ z a b) (bfS (dfZ z a b) (nxZ z a b) k) x j).2.2) by rw [bfR, bfC, if_neg (by omega), if_neg hd0, if_pos (by omega)]]; rfl)) rfl rfl (ih (j + 1) _ _ _ _ (by omega) (by omega) hz (by
                  first
                  | (have e1 : (bfR (dfZ z a b) (nxZ z a b) (bfS (dfZ z a b) (nxZ z a b) k) x (j + 1)) = (bfR (dfZ z a b) (nxZ z a b) (bfS (dfZ z a b) (nxZ z a b) k) x j) := by rw [bfR, bfC, if_neg (by omega), if_neg hd0, if_neg (by omega)]
                     rw [e1]; exact ⟨hfr, ⟨hv1, hv2, hv3⟩, hfc⟩)
                  | (have e1 : (bfR (dfZ z a b) (nxZ z a b) (bfS (dfZ z a b) (nxZ z a b) k) x (j + 1)) = ((zu (bfR (dfZ z a b) (nxZ z a b) (bfS (dfZ z a b) (nxZ z a b) k) x j).1.1 (bfR (dfZ z a b) (nxZ z a b) (bfS (dfZ z a b) (nxZ z a b) k) x j).2.1 (nxZ z a b x (j : Int)), zu (bfR (dfZ z a b) (nxZ z a b) (bfS (dfZ z a b) (nxZ z a b) k) x j).1.2.1 (nxZ z a b x (j : Int)) x, zu (bfR (dfZ z a b) (nxZ z a b) (bfS (dfZ z a b) (nxZ z a b) k) x j).1.2.2 (nxZ z a b x (j : Int)) (j : Int)), (bfR (dfZ z a b) (nxZ z a b) (bfS (dfZ z a b) (nxZ z a b) k) x j).2.1 + 1, (bfR (dfZ z a b) (nxZ z a b) (bfS (dfZ z a b) (nxZ z a b) k) x j).2.2) := by rw [bfR, bfC, if_neg (by omega), if_neg hd0, if_pos (by omega)]
                     rw [e1]
                     refine ⟨((hfr.i (by simp)).i (by simp)).i (by simp), ⟨fun i h0 h1 => ?_, fun w h0 h1 => ?_, fun w h0 h1 h2 h3 => ?_⟩, hfc⟩
                     · show _ = zu (bfR (dfZ z a b) (nxZ z a b) (bfS (dfZ z a b) (nxZ z a b) k) x j).1.1 (bfR (dfZ z a b) (nxZ z a b) (bfS (dfZ z a b) (nxZ z a b) k) x j).2.1 (nxZ z a b x (j : Int)) i
                       have h1 : i < (bfR (dfZ z a b) (nxZ z a b) (bfS (dfZ z a b) (nxZ z a b) k) x j).2.1 + 1 := h1
                       by_cases e : i = (bfR (dfZ z a b) (nxZ z a b) (bfS (dfZ z a b) (nxZ z a b) k) x j).2.1
                       · rw [e, zu_s]; exact u2_s
                       · rw [zu_n e]; exact (u2_n (Or.inr e)).trans ((u2_n (Or.inl (by omega))).trans ((u2_n (Or.inl (by omega))).trans (hv1 i h0 (by omega))))
                     · show _ = zu (bfR (dfZ z a b) (nxZ z a b) (bfS (dfZ z a b) (nxZ z a b) k) x j).1.2.1 (nxZ z a b x (j : Int)) x w
                       refine (u2_n (Or.inl (by omega))).trans ((u2_n (Or.inl (by omega))).trans ?_)
                       by_cases e : w = (nxZ z a b x (j : Int))
                       · rw [e, zu_s]; exact u2_s
                       · rw [zu_n e]; exact (u2_n (Or.inr e)).trans (hv2 w h0 h1)
                     · show _ = zu (bfR (dfZ z a b) (nxZ z a b) (bfS (dfZ z a b) (nxZ z a b) k) x j).1.2.2 (nxZ z a b x (j : Int)) (j : Int) w
                       have h3 : zu (bfR (dfZ z a b) (nxZ z a b) (bfS (dfZ z a b) (nxZ z a b) k) x j).1.2.1 (nxZ z a b x (j : Int)) x w ≠ -1 := h3
                       refine (u2_n (Or.inl (by omega))).trans ?_
                       by_cases e : w = (nxZ z a b x (j : Int))
                       · rw [e, zu_s]; exact u2_s
                       · rw [zu_n e] at h3 ⊢; exact (u2_n (Or.inr e)).trans ((u2_n (Or.inl (by omega))).trans (hv3 w h0 h1 h2 h3)))))
              · have hb1 := hI.1.2.2.1 (nxZ z a b x (j : Int)) (by omega) (by omega)
                refine TGo.al0 dX10_isParted_186 rfl ?_
                refine TGo.getS (t := 18) 39 39 (T + 19) (hT 0 (by decide)) rfl fgX10_94_10 dX10_isParted_187 rfl rfl rfl ?_
                refine TGo.il dX10_isParted_190 rfl ?_
                refine TGo.iald dX10_isParted_192 (hT 19 (by decide)) (by omega) rfl ?_
                refine TGo.toz _ (hv2 _ (by omega) (by omega)) ?_
                refine TGo.icm1 dX10_isParted_193 ?_
                refine TGo.icmp_ne 231 dX10_isParted_194 (by decide) (by omega) (fun h194 => ?_) (fun h194 => ?_)
                · refine TGo.iinc dX10_isParted_231 rfl rfl rfl ?_
                  refine TGo.goto 49 dX10_isParted_234 (by decide) ?_
                  first | (exfalso; omega) | exact TGo.seq [some (.ref T), some (.int (iI a)), some (.int (iI b)), some (.int (iI (bfR (dfZ z a b) (nxZ z a b) (bfS (dfZ z a b) (nxZ z a b) k) x ((j + 1))).2.1)), some (.int (iI (k : Int))), some (.int (iI ((((j + 1)) : Nat) : Int))), _, _, _] [] _ (by first | (rw [show (bfR (dfZ z a b) (nxZ z a b) (bfS (dfZ z a b) (nxZ z a b) k) x (j + 1)) = (bfR (dfZ z a b) (nxZ z a b) (bfS (dfZ z a b) (nxZ z a b) k) x j) by rw [bfR, bfC, if_neg (by omega), if_neg hd0, if_neg (by omega)]]; rfl) | (rw [show (bfR (dfZ z a b) (nxZ z a b) (bfS (dfZ z a b) (nxZ z a b) k) x (j + 1)) = ((zu (bfR (dfZ z a b) (nxZ z a b) (bfS (dfZ z a b) (nxZ z a b) k) x j).1.1 (bfR (dfZ z a b) (nxZ z a b) (bfS (dfZ z a b) (nxZ z a b) k) x j).2.1 (nxZ z a b x (j : Int)), zu (bfR (dfZ z a b) (nxZ z a b) (bfS (dfZ z a b) (nxZ z a b) k) x j).1.2.1 (nxZ z a b x (j : Int)) x, zu (bfR (dfZ z a b) (nxZ z a b) (bfS (dfZ z a b) (nxZ z a b) k) x j).1.2.2 (nxZ z a b x (j : Int)) (j : Int)), (bfR (dfZ z a b) (nxZ z a b) (bfS (dfZ z a b) (nxZ z a b) k) x j).2.1 + 1, (bfR (dfZ z a b) (nxZ z a b) (bfS (dfZ z a b) (nxZ z a b) k) x j).2.2) by rw [bfR, bfC, if_neg (by omega), if_neg hd0, if_pos (by omega)]]; rfl)) rfl rfl (ih (j + 1) _ _ _ _ (by omega) (by omega) hz (by
                    first
                    | (have e1 : (bfR (dfZ z a b) (nxZ z a b) (bfS (dfZ z a b) (nxZ z a b) k) x (j + 1)) = (bfR (dfZ z a b) (nxZ z a b) (bfS (dfZ z a b) (nxZ z a b) k) x j) := by rw [bfR, bfC, if_neg (by omega), if_neg hd0, if_neg (by omega)]
                       rw [e1]; exact ⟨hfr, ⟨hv1, hv2, hv3⟩, hfc⟩)
                    | (have e1 : (bfR (dfZ z a b) (nxZ z a b) (bfS (dfZ z a b) (nxZ z a b) k) x (j + 1)) = ((zu (bfR (dfZ z a b) (nxZ z a b) (bfS (dfZ z a b) (nxZ z a b) k) x j).1.1 (bfR (dfZ z a b) (nxZ z a b) (bfS (dfZ z a b) (nxZ z a b) k) x j).2.1 (nxZ z a b x (j : Int)), zu (bfR (dfZ z a b) (nxZ z a b) (bfS (dfZ z a b) (nxZ z a b) k) x j).1.2.1 (nxZ z a b x (j : Int)) x, zu (bfR (dfZ z a b) (nxZ z a b) (bfS (dfZ z a b) (nxZ z a b) k) x j).1.2.2 (nxZ z a b x (j : Int)) (j : Int)), (bfR (dfZ z a b) (nxZ z a b) (bfS (dfZ z a b) (nxZ z a b) k) x j).2.1 + 1, (bfR (dfZ z a b) (nxZ z a b) (bfS (dfZ z a b) (nxZ z a b) k) x j).2.2) := by rw [bfR, bfC, if_neg (by omega), if_neg hd0, if_pos (by omega)]
                       rw [e1]
                       refine ⟨((hfr.i (by simp)).i (by simp)).i (by simp), ⟨fun i h0 h1 => ?_, fun w h0 h1 => ?_, fun w h0 h1 h2 h3 => ?_⟩, hfc⟩
                       · show _ = zu (bfR (dfZ z a b) (nxZ z a b) (bfS (dfZ z a b) (nxZ z a b) k) x j).1.1 (bfR (dfZ z a b) (nxZ z a b) (bfS (dfZ z a b) (nxZ z a b) k) x j).2.1 (nxZ z a b x (j : Int)) i
                         have h1 : i < (bfR (dfZ z a b) (nxZ z a b) (bfS (dfZ z a b) (nxZ z a b) k) x j).2.1 + 1 := h1
                         by_cases e : i = (bfR (dfZ z a b) (nxZ z a b) (bfS (dfZ z a b) (nxZ z a b) k) x j).2.1
                         · rw [e, zu_s]; exact u2_s
                         · rw [zu_n e]; exact (u2_n (Or.inr e)).trans ((u2_n (Or.inl (by omega))).trans ((u2_n (Or.inl (by omega))).trans (hv1 i h0 (by omega))))
                       · show _ = zu (bfR (dfZ z a b) (nxZ z a b) (bfS (dfZ z a b) (nxZ z a b) k) x j).1.2.1 (nxZ z a b x (j : Int)) x w
                         refine (u2_n (Or.inl (by omega))).trans ((u2_n (Or.inl (by omega))).trans ?_)
                         by_cases e : w = (nxZ z a b x (j : Int))
                         · rw [e, zu_s]; exact u2_s
                         · rw [zu_n e]; exact (u2_n (Or.inr e)).trans (hv2 w h0 h1)
                       · show _ = zu (bfR (dfZ z a b) (nxZ z a b) (bfS (dfZ z a b) (nxZ z a b) k) x j).1.2.2 (nxZ z a b x (j : Int)) (j : Int) w
                         have h3 : zu (bfR (dfZ z a b) (nxZ z a b) (bfS (dfZ z a b) (nxZ z a b) k) x j).1.2.1 (nxZ z a b x (j : Int)) x w ≠ -1 := h3
                         refine (u2_n (Or.inl (by omega))).trans ?_
                         by_cases e : w = (nxZ z a b x (j : Int))
                         · rw [e, zu_s]; exact u2_s
                         · rw [zu_n e] at h3 ⊢; exact (u2_n (Or.inr e)).trans ((u2_n (Or.inl (by omega))).trans (hv3 w h0 h1 h2 h3)))))
                · have hlt := (hI.1.step (y := (nxZ z a b x (j : Int))) (c := (j : Int)) ⟨hx36, hI.2⟩ (by omega) (by omega) hfc).2
                  refine TGo.al0 dX10_isParted_197 rfl ?_
                  refine TGo.getS (t := 18) 39 39 (T + 19) (hT 0 (by decide)) rfl fgX10_94_10 dX10_isParted_198 rfl rfl rfl ?_
                  refine TGo.il dX10_isParted_201 rfl ?_
                  refine TGo.al0 dX10_isParted_203 rfl ?_
                  refine TGo.getS (t := 18) 38 38 (T + 18) (hT 0 (by decide)) rfl fgX10_91_10 dX10_isParted_204 rfl rfl rfl ?_
                  refine TGo.il dX10_isParted_207 rfl ?_
                  refine TGo.iald dX10_isParted_209 (hT 18 (by decide)) (by omega) rfl ?_
                  refine TGo.toz x ((hv1 _ (by omega) (by omega)).trans hkx) ?_
                  refine TGo.iast dX10_isParted_210 (hT 19 (by decide)) (by omega) rfl ?_
                  refine TGo.al0 dX10_isParted_211 rfl ?_
                  refine TGo.getS (t := 18) 40 40 (T + 20) (hT 0 (by decide)) rfl fgX10_97_10 dX10_isParted_212 rfl rfl rfl ?_
                  refine TGo.il dX10_isParted_215 rfl ?_
                  refine TGo.il dX10_isParted_217 rfl ?_
                  refine TGo.iast dX10_isParted_219 (hT 20 (by decide)) (by omega) rfl ?_
                  refine TGo.al0 dX10_isParted_220 rfl ?_
                  refine TGo.getS (t := 18) 38 38 (T + 18) (hT 0 (by decide)) rfl fgX10_91_10 dX10_isParted_221 rfl rfl rfl ?_
                  refine TGo.il3 dX10_isParted_224 rfl ?_
                  refine TGo.il dX10_isParted_225 rfl ?_
                  refine TGo.iast dX10_isParted_227 (hT 18 (by decide)) (by omega) rfl ?_
                  refine TGo.iinc dX10_isParted_228 rfl rfl rfl ?_
                  refine TGo.iinc dX10_isParted_231 rfl rfl rfl ?_
                  refine TGo.goto 49 dX10_isParted_234 (by decide) ?_
                  first | (exfalso; omega) | exact TGo.seq [some (.ref T), some (.int (iI a)), some (.int (iI b)), some (.int (iI (bfR (dfZ z a b) (nxZ z a b) (bfS (dfZ z a b) (nxZ z a b) k) x ((j + 1))).2.1)), some (.int (iI (k : Int))), some (.int (iI ((((j + 1)) : Nat) : Int))), _, _, _] [] _ (by first | (rw [show (bfR (dfZ z a b) (nxZ z a b) (bfS (dfZ z a b) (nxZ z a b) k) x (j + 1)) = (bfR (dfZ z a b) (nxZ z a b) (bfS (dfZ z a b) (nxZ z a b) k) x j) by rw [bfR, bfC, if_neg (by omega), if_neg hd0, if_neg (by omega)]]; rfl) | (rw [show (bfR (dfZ z a b) (nxZ z a b) (bfS (dfZ z a b) (nxZ z a b) k) x (j + 1)) = ((zu (bfR (dfZ z a b) (nxZ z a b) (bfS (dfZ z a b) (nxZ z a b) k) x j).1.1 (bfR (dfZ z a b) (nxZ z a b) (bfS (dfZ z a b) (nxZ z a b) k) x j).2.1 (nxZ z a b x (j : Int)), zu (bfR (dfZ z a b) (nxZ z a b) (bfS (dfZ z a b) (nxZ z a b) k) x j).1.2.1 (nxZ z a b x (j : Int)) x, zu (bfR (dfZ z a b) (nxZ z a b) (bfS (dfZ z a b) (nxZ z a b) k) x j).1.2.2 (nxZ z a b x (j : Int)) (j : Int)), (bfR (dfZ z a b) (nxZ z a b) (bfS (dfZ z a b) (nxZ z a b) k) x j).2.1 + 1, (bfR (dfZ z a b) (nxZ z a b) (bfS (dfZ z a b) (nxZ z a b) k) x j).2.2) by rw [bfR, bfC, if_neg (by omega), if_neg hd0, if_pos (by omega)]]; rfl)) rfl rfl (ih (j + 1) _ _ _ _ (by omega) (by omega) (((hz.t 19 rfl).t 20 rfl).t 18 rfl) (by
                    first
                    | (have e1 : (bfR (dfZ z a b) (nxZ z a b) (bfS (dfZ z a b) (nxZ z a b) k) x (j + 1)) = (bfR (dfZ z a b) (nxZ z a b) (bfS (dfZ z a b) (nxZ z a b) k) x j) := by rw [bfR, bfC, if_neg (by omega), if_neg hd0, if_neg (by omega)]
                       rw [e1]; exact ⟨hfr, ⟨hv1, hv2, hv3⟩, hfc⟩)
                    | (have e1 : (bfR (dfZ z a b) (nxZ z a b) (bfS (dfZ z a b) (nxZ z a b) k) x (j + 1)) = ((zu (bfR (dfZ z a b) (nxZ z a b) (bfS (dfZ z a b) (nxZ z a b) k) x j).1.1 (bfR (dfZ z a b) (nxZ z a b) (bfS (dfZ z a b) (nxZ z a b) k) x j).2.1 (nxZ z a b x (j : Int)), zu (bfR (dfZ z a b) (nxZ z a b) (bfS (dfZ z a b) (nxZ z a b) k) x j).1.2.1 (nxZ z a b x (j : Int)) x, zu (bfR (dfZ z a b) (nxZ z a b) (bfS (dfZ z a b) (nxZ z a b) k) x j).1.2.2 (nxZ z a b x (j : Int)) (j : Int)), (bfR (dfZ z a b) (nxZ z a b) (bfS (dfZ z a b) (nxZ z a b) k) x j).2.1 + 1, (bfR (dfZ z a b) (nxZ z a b) (bfS (dfZ z a b) (nxZ z a b) k) x j).2.2) := by rw [bfR, bfC, if_neg (by omega), if_neg hd0, if_pos (by omega)]
                       rw [e1]
                       refine ⟨((hfr.i (by simp)).i (by simp)).i (by simp), ⟨fun i h0 h1 => ?_, fun w h0 h1 => ?_, fun w h0 h1 h2 h3 => ?_⟩, hfc⟩
                       · show _ = zu (bfR (dfZ z a b) (nxZ z a b) (bfS (dfZ z a b) (nxZ z a b) k) x j).1.1 (bfR (dfZ z a b) (nxZ z a b) (bfS (dfZ z a b) (nxZ z a b) k) x j).2.1 (nxZ z a b x (j : Int)) i
                         have h1 : i < (bfR (dfZ z a b) (nxZ z a b) (bfS (dfZ z a b) (nxZ z a b) k) x j).2.1 + 1 := h1
                         by_cases e : i = (bfR (dfZ z a b) (nxZ z a b) (bfS (dfZ z a b) (nxZ z a b) k) x j).2.1
                         · rw [e, zu_s]; exact u2_s
                         · rw [zu_n e]; exact (u2_n (Or.inr e)).trans ((u2_n (Or.inl (by omega))).trans ((u2_n (Or.inl (by omega))).trans (hv1 i h0 (by omega))))
                       · show _ = zu (bfR (dfZ z a b) (nxZ z a b) (bfS (dfZ z a b) (nxZ z a b) k) x j).1.2.1 (nxZ z a b x (j : Int)) x w
                         refine (u2_n (Or.inl (by omega))).trans ((u2_n (Or.inl (by omega))).trans ?_)
                         by_cases e : w = (nxZ z a b x (j : Int))
                         · rw [e, zu_s]; exact u2_s
                         · rw [zu_n e]; exact (u2_n (Or.inr e)).trans (hv2 w h0 h1)
                       · show _ = zu (bfR (dfZ z a b) (nxZ z a b) (bfS (dfZ z a b) (nxZ z a b) k) x j).1.2.2 (nxZ z a b x (j : Int)) (j : Int) w
                         have h3 : zu (bfR (dfZ z a b) (nxZ z a b) (bfS (dfZ z a b) (nxZ z a b) k) x j).1.2.1 (nxZ z a b x (j : Int)) x w ≠ -1 := h3
                         refine (u2_n (Or.inl (by omega))).trans ?_
                         by_cases e : w = (nxZ z a b x (j : Int))
                         · rw [e, zu_s]; exact u2_s
                         · rw [zu_n e] at h3 ⊢; exact (u2_n (Or.inr e)).trans ((u2_n (Or.inl (by omega))).trans (hv3 w h0 h1 h2 h3)))))
            · refine TGo.icm1 dX10_isParted_160 ?_
              refine TGo.goto 178 dX10_isParted_161 (by decide) ?_
              first | (refine TGo.toz (nxZ z a b x (j : Int)) (by unfold nxZ; rw [if_pos (by assumption)]) ?_) | (refine TGo.toz (nxZ z a b x (j : Int)) (by unfold nxZ; rw [if_neg (by assumption)]) ?_)
              refine TGo.is dX10_isParted_178 rfl rfl ?_
              refine TGo.il dX10_isParted_180 rfl ?_
              refine TGo.icm1 dX10_isParted_182 ?_
              refine TGo.icmp_eq 231 dX10_isParted_183 (by decide) (by omega) (fun h183 => ?_) (fun h183 => ?_)
              · refine TGo.iinc dX10_isParted_231 rfl rfl rfl ?_
                refine TGo.goto 49 dX10_isParted_234 (by decide) ?_
                first | (exfalso; omega) | exact TGo.seq [some (.ref T), some (.int (iI a)), some (.int (iI b)), some (.int (iI (bfR (dfZ z a b) (nxZ z a b) (bfS (dfZ z a b) (nxZ z a b) k) x ((j + 1))).2.1)), some (.int (iI (k : Int))), some (.int (iI ((((j + 1)) : Nat) : Int))), _, _, _] [] _ (by first | (rw [show (bfR (dfZ z a b) (nxZ z a b) (bfS (dfZ z a b) (nxZ z a b) k) x (j + 1)) = (bfR (dfZ z a b) (nxZ z a b) (bfS (dfZ z a b) (nxZ z a b) k) x j) by rw [bfR, bfC, if_neg (by omega), if_neg hd0, if_neg (by omega)]]; rfl) | (rw [show (bfR (dfZ z a b) (nxZ z a b) (bfS (dfZ z a b) (nxZ z a b) k) x (j + 1)) = ((zu (bfR (dfZ z a b) (nxZ z a b) (bfS (dfZ z a b) (nxZ z a b) k) x j).1.1 (bfR (dfZ z a b) (nxZ z a b) (bfS (dfZ z a b) (nxZ z a b) k) x j).2.1 (nxZ z a b x (j : Int)), zu (bfR (dfZ z a b) (nxZ z a b) (bfS (dfZ z a b) (nxZ z a b) k) x j).1.2.1 (nxZ z a b x (j : Int)) x, zu (bfR (dfZ z a b) (nxZ z a b) (bfS (dfZ z a b) (nxZ z a b) k) x j).1.2.2 (nxZ z a b x (j : Int)) (j : Int)), (bfR (dfZ z a b) (nxZ z a b) (bfS (dfZ z a b) (nxZ z a b) k) x j).2.1 + 1, (bfR (dfZ z a b) (nxZ z a b) (bfS (dfZ z a b) (nxZ z a b) k) x j).2.2) by rw [bfR, bfC, if_neg (by omega), if_neg hd0, if_pos (by omega)]]; rfl)) rfl rfl (ih (j + 1) _ _ _ _ (by omega) (by omega) hz (by
                  first
                  | (have e1 : (bfR (dfZ z a b) (nxZ z a b) (bfS (dfZ z a b) (nxZ z a b) k) x (j + 1)) = (bfR (dfZ z a b) (nxZ z a b) (bfS (dfZ z a b) (nxZ z a b) k) x j) := by rw [bfR, bfC, if_neg (by omega), if_neg hd0, if_neg (by omega)]
                     rw [e1]; exact ⟨hfr, ⟨hv1, hv2, hv3⟩, hfc⟩)
                  | (have e1 : (bfR (dfZ z a b) (nxZ z a b) (bfS (dfZ z a b) (nxZ z a b) k) x (j + 1)) = ((zu (bfR (dfZ z a b) (nxZ z a b) (bfS (dfZ z a b) (nxZ z a b) k) x j).1.1 (bfR (dfZ z a b) (nxZ z a b) (bfS (dfZ z a b) (nxZ z a b) k) x j).2.1 (nxZ z a b x (j : Int)), zu (bfR (dfZ z a b) (nxZ z a b) (bfS (dfZ z a b) (nxZ z a b) k) x j).1.2.1 (nxZ z a b x (j : Int)) x, zu (bfR (dfZ z a b) (nxZ z a b) (bfS (dfZ z a b) (nxZ z a b) k) x j).1.2.2 (nxZ z a b x (j : Int)) (j : Int)), (bfR (dfZ z a b) (nxZ z a b) (bfS (dfZ z a b) (nxZ z a b) k) x j).2.1 + 1, (bfR (dfZ z a b) (nxZ z a b) (bfS (dfZ z a b) (nxZ z a b) k) x j).2.2) := by rw [bfR, bfC, if_neg (by omega), if_neg hd0, if_pos (by omega)]
                     rw [e1]
                     refine ⟨((hfr.i (by simp)).i (by simp)).i (by simp), ⟨fun i h0 h1 => ?_, fun w h0 h1 => ?_, fun w h0 h1 h2 h3 => ?_⟩, hfc⟩
                     · show _ = zu (bfR (dfZ z a b) (nxZ z a b) (bfS (dfZ z a b) (nxZ z a b) k) x j).1.1 (bfR (dfZ z a b) (nxZ z a b) (bfS (dfZ z a b) (nxZ z a b) k) x j).2.1 (nxZ z a b x (j : Int)) i
                       have h1 : i < (bfR (dfZ z a b) (nxZ z a b) (bfS (dfZ z a b) (nxZ z a b) k) x j).2.1 + 1 := h1
                       by_cases e : i = (bfR (dfZ z a b) (nxZ z a b) (bfS (dfZ z a b) (nxZ z a b) k) x j).2.1
                       · rw [e, zu_s]; exact u2_s
                       · rw [zu_n e]; exact (u2_n (Or.inr e)).trans ((u2_n (Or.inl (by omega))).trans ((u2_n (Or.inl (by omega))).trans (hv1 i h0 (by omega))))
                     · show _ = zu (bfR (dfZ z a b) (nxZ z a b) (bfS (dfZ z a b) (nxZ z a b) k) x j).1.2.1 (nxZ z a b x (j : Int)) x w
                       refine (u2_n (Or.inl (by omega))).trans ((u2_n (Or.inl (by omega))).trans ?_)
                       by_cases e : w = (nxZ z a b x (j : Int))
                       · rw [e, zu_s]; exact u2_s
                       · rw [zu_n e]; exact (u2_n (Or.inr e)).trans (hv2 w h0 h1)
                     · show _ = zu (bfR (dfZ z a b) (nxZ z a b) (bfS (dfZ z a b) (nxZ z a b) k) x j).1.2.2 (nxZ z a b x (j : Int)) (j : Int) w
                       have h3 : zu (bfR (dfZ z a b) (nxZ z a b) (bfS (dfZ z a b) (nxZ z a b) k) x j).1.2.1 (nxZ z a b x (j : Int)) x w ≠ -1 := h3
                       refine (u2_n (Or.inl (by omega))).trans ?_
                       by_cases e : w = (nxZ z a b x (j : Int))
                       · rw [e, zu_s]; exact u2_s
                       · rw [zu_n e] at h3 ⊢; exact (u2_n (Or.inr e)).trans ((u2_n (Or.inl (by omega))).trans (hv3 w h0 h1 h2 h3)))))
              · have hb1 := hI.1.2.2.1 (nxZ z a b x (j : Int)) (by omega) (by omega)
                refine TGo.al0 dX10_isParted_186 rfl ?_
                refine TGo.getS (t := 18) 39 39 (T + 19) (hT 0 (by decide)) rfl fgX10_94_10 dX10_isParted_187 rfl rfl rfl ?_
                refine TGo.il dX10_isParted_190 rfl ?_
                refine TGo.iald dX10_isParted_192 (hT 19 (by decide)) (by omega) rfl ?_
                refine TGo.toz _ (hv2 _ (by omega) (by omega)) ?_
                refine TGo.icm1 dX10_isParted_193 ?_
                refine TGo.icmp_ne 231 dX10_isParted_194 (by decide) (by omega) (fun h194 => ?_) (fun h194 => ?_)
                · refine TGo.iinc dX10_isParted_231 rfl rfl rfl ?_
                  refine TGo.goto 49 dX10_isParted_234 (by decide) ?_
                  first | (exfalso; omega) | exact TGo.seq [some (.ref T), some (.int (iI a)), some (.int (iI b)), some (.int (iI (bfR (dfZ z a b) (nxZ z a b) (bfS (dfZ z a b) (nxZ z a b) k) x ((j + 1))).2.1)), some (.int (iI (k : Int))), some (.int (iI ((((j + 1)) : Nat) : Int))), _, _, _] [] _ (by first | (rw [show (bfR (dfZ z a b) (nxZ z a b) (bfS (dfZ z a b) (nxZ z a b) k) x (j + 1)) = (bfR (dfZ z a b) (nxZ z a b) (bfS (dfZ z a b) (nxZ z a b) k) x j) by rw [bfR, bfC, if_neg (by omega), if_neg hd0, if_neg (by omega)]]; rfl) | (rw [show (bfR (dfZ z a b) (nxZ z a b) (bfS (dfZ z a b) (nxZ z a b) k) x (j + 1)) = ((zu (bfR (dfZ z a b) (nxZ z a b) (bfS (dfZ z a b) (nxZ z a b) k) x j).1.1 (bfR (dfZ z a b) (nxZ z a b) (bfS (dfZ z a b) (nxZ z a b) k) x j).2.1 (nxZ z a b x (j : Int)), zu (bfR (dfZ z a b) (nxZ z a b) (bfS (dfZ z a b) (nxZ z a b) k) x j).1.2.1 (nxZ z a b x (j : Int)) x, zu (bfR (dfZ z a b) (nxZ z a b) (bfS (dfZ z a b) (nxZ z a b) k) x j).1.2.2 (nxZ z a b x (j : Int)) (j : Int)), (bfR (dfZ z a b) (nxZ z a b) (bfS (dfZ z a b) (nxZ z a b) k) x j).2.1 + 1, (bfR (dfZ z a b) (nxZ z a b) (bfS (dfZ z a b) (nxZ z a b) k) x j).2.2) by rw [bfR, bfC, if_neg (by omega), if_neg hd0, if_pos (by omega)]]; rfl)) rfl rfl (ih (j + 1) _ _ _ _ (by omega) (by omega) hz (by
                    first
                    | (have e1 : (bfR (dfZ z a b) (nxZ z a b) (bfS (dfZ z a b) (nxZ z a b) k) x (j + 1)) = (bfR (dfZ z a b) (nxZ z a b) (bfS (dfZ z a b) (nxZ z a b) k) x j) := by rw [bfR, bfC, if_neg (by omega), if_neg hd0, if_neg (by omega)]
                       rw [e1]; exact ⟨hfr, ⟨hv1, hv2, hv3⟩, hfc⟩)
                    | (have e1 : (bfR (dfZ z a b) (nxZ z a b) (bfS (dfZ z a b) (nxZ z a b) k) x (j + 1)) = ((zu (bfR (dfZ z a b) (nxZ z a b) (bfS (dfZ z a b) (nxZ z a b) k) x j).1.1 (bfR (dfZ z a b) (nxZ z a b) (bfS (dfZ z a b) (nxZ z a b) k) x j).2.1 (nxZ z a b x (j : Int)), zu (bfR (dfZ z a b) (nxZ z a b) (bfS (dfZ z a b) (nxZ z a b) k) x j).1.2.1 (nxZ z a b x (j : Int)) x, zu (bfR (dfZ z a b) (nxZ z a b) (bfS (dfZ z a b) (nxZ z a b) k) x j).1.2.2 (nxZ z a b x (j : Int)) (j : Int)), (bfR (dfZ z a b) (nxZ z a b) (bfS (dfZ z a b) (nxZ z a b) k) x j).2.1 + 1, (bfR (dfZ z a b) (nxZ z a b) (bfS (dfZ z a b) (nxZ z a b) k) x j).2.2) := by rw [bfR, bfC, if_neg (by omega), if_neg hd0, if_pos (by omega)]
                       rw [e1]
                       refine ⟨((hfr.i (by simp)).i (by simp)).i (by simp), ⟨fun i h0 h1 => ?_, fun w h0 h1 => ?_, fun w h0 h1 h2 h3 => ?_⟩, hfc⟩
                       · show _ = zu (bfR (dfZ z a b) (nxZ z a b) (bfS (dfZ z a b) (nxZ z a b) k) x j).1.1 (bfR (dfZ z a b) (nxZ z a b) (bfS (dfZ z a b) (nxZ z a b) k) x j).2.1 (nxZ z a b x (j : Int)) i
                         have h1 : i < (bfR (dfZ z a b) (nxZ z a b) (bfS (dfZ z a b) (nxZ z a b) k) x j).2.1 + 1 := h1
                         by_cases e : i = (bfR (dfZ z a b) (nxZ z a b) (bfS (dfZ z a b) (nxZ z a b) k) x j).2.1
                         · rw [e, zu_s]; exact u2_s
                         · rw [zu_n e]; exact (u2_n (Or.inr e)).trans ((u2_n (Or.inl (by omega))).trans ((u2_n (Or.inl (by omega))).trans (hv1 i h0 (by omega))))
                       · show _ = zu (bfR (dfZ z a b) (nxZ z a b) (bfS (dfZ z a b) (nxZ z a b) k) x j).1.2.1 (nxZ z a b x (j : Int)) x w
                         refine (u2_n (Or.inl (by omega))).trans ((u2_n (Or.inl (by omega))).trans ?_)
                         by_cases e : w = (nxZ z a b x (j : Int))
                         · rw [e, zu_s]; exact u2_s
                         · rw [zu_n e]; exact (u2_n (Or.inr e)).trans (hv2 w h0 h1)
                       · show _ = zu (bfR (dfZ z a b) (nxZ z a b) (bfS (dfZ z a b) (nxZ z a b) k) x j).1.2.2 (nxZ z a b x (j : Int)) (j : Int) w
                         have h3 : zu (bfR (dfZ z a b) (nxZ z a b) (bfS (dfZ z a b) (nxZ z a b) k) x j).1.2.1 (nxZ z a b x (j : Int)) x w ≠ -1 := h3
                         refine (u2_n (Or.inl (by omega))).trans ?_
                         by_cases e : w = (nxZ z a b x (j : Int))
                         · rw [e, zu_s]; exact u2_s
                         · rw [zu_n e] at h3 ⊢; exact (u2_n (Or.inr e)).trans ((u2_n (Or.inl (by omega))).trans (hv3 w h0 h1 h2 h3)))))
                · have hlt := (hI.1.step (y := (nxZ z a b x (j : Int))) (c := (j : Int)) ⟨hx36, hI.2⟩ (by omega) (by omega) hfc).2
                  refine TGo.al0 dX10_isParted_197 rfl ?_
                  refine TGo.getS (t := 18) 39 39 (T + 19) (hT 0 (by decide)) rfl fgX10_94_10 dX10_isParted_198 rfl rfl rfl ?_
                  refine TGo.il dX10_isParted_201 rfl ?_
                  refine TGo.al0 dX10_isParted_203 rfl ?_
                  refine TGo.getS (t := 18) 38 38 (T + 18) (hT 0 (by decide)) rfl fgX10_91_10 dX10_isParted_204 rfl rfl rfl ?_
                  refine TGo.il dX10_isParted_207 rfl ?_
                  refine TGo.iald dX10_isParted_209 (hT 18 (by decide)) (by omega) rfl ?_
                  refine TGo.toz x ((hv1 _ (by omega) (by omega)).trans hkx) ?_
                  refine TGo.iast dX10_isParted_210 (hT 19 (by decide)) (by omega) rfl ?_
                  refine TGo.al0 dX10_isParted_211 rfl ?_
                  refine TGo.getS (t := 18) 40 40 (T + 20) (hT 0 (by decide)) rfl fgX10_97_10 dX10_isParted_212 rfl rfl rfl ?_
                  refine TGo.il dX10_isParted_215 rfl ?_
                  refine TGo.il dX10_isParted_217 rfl ?_
                  refine TGo.iast dX10_isParted_219 (hT 20 (by decide)) (by omega) rfl ?_
                  refine TGo.al0 dX10_isParted_220 rfl ?_
                  refine TGo.getS (t := 18) 38 38 (T + 18) (hT 0 (by decide)) rfl fgX10_91_10 dX10_isParted_221 rfl rfl rfl ?_
                  refine TGo.il3 dX10_isParted_224 rfl ?_
                  refine TGo.il dX10_isParted_225 rfl ?_
                  refine TGo.iast dX10_isParted_227 (hT 18 (by decide)) (by omega) rfl ?_
                  refine TGo.iinc dX10_isParted_228 rfl rfl rfl ?_
                  refine TGo.iinc dX10_isParted_231 rfl rfl rfl ?_
                  refine TGo.goto 49 dX10_isParted_234 (by decide) ?_
                  first | (exfalso; omega) | exact TGo.seq [some (.ref T), some (.int (iI a)), some (.int (iI b)), some (.int (iI (bfR (dfZ z a b) (nxZ z a b) (bfS (dfZ z a b) (nxZ z a b) k) x ((j + 1))).2.1)), some (.int (iI (k : Int))), some (.int (iI ((((j + 1)) : Nat) : Int))), _, _, _] [] _ (by first | (rw [show (bfR (dfZ z a b) (nxZ z a b) (bfS (dfZ z a b) (nxZ z a b) k) x (j + 1)) = (bfR (dfZ z a b) (nxZ z a b) (bfS (dfZ z a b) (nxZ z a b) k) x j) by rw [bfR, bfC, if_neg (by omega), if_neg hd0, if_neg (by omega)]]; rfl) | (rw [show (bfR (dfZ z a b) (nxZ z a b) (bfS (dfZ z a b) (nxZ z a b) k) x (j + 1)) = ((zu (bfR (dfZ z a b) (nxZ z a b) (bfS (dfZ z a b) (nxZ z a b) k) x j).1.1 (bfR (dfZ z a b) (nxZ z a b) (bfS (dfZ z a b) (nxZ z a b) k) x j).2.1 (nxZ z a b x (j : Int)), zu (bfR (dfZ z a b) (nxZ z a b) (bfS (dfZ z a b) (nxZ z a b) k) x j).1.2.1 (nxZ z a b x (j : Int)) x, zu (bfR (dfZ z a b) (nxZ z a b) (bfS (dfZ z a b) (nxZ z a b) k) x j).1.2.2 (nxZ z a b x (j : Int)) (j : Int)), (bfR (dfZ z a b) (nxZ z a b) (bfS (dfZ z a b) (nxZ z a b) k) x j).2.1 + 1, (bfR (dfZ z a b) (nxZ z a b) (bfS (dfZ z a b) (nxZ z a b) k) x j).2.2) by rw [bfR, bfC, if_neg (by omega), if_neg hd0, if_pos (by omega)]]; rfl)) rfl rfl (ih (j + 1) _ _ _ _ (by omega) (by omega) (((hz.t 19 rfl).t 20 rfl).t 18 rfl) (by
                    first
                    | (have e1 : (bfR (dfZ z a b) (nxZ z a b) (bfS (dfZ z a b) (nxZ z a b) k) x (j + 1)) = (bfR (dfZ z a b) (nxZ z a b) (bfS (dfZ z a b) (nxZ z a b) k) x j) := by rw [bfR, bfC, if_neg (by omega), if_neg hd0, if_neg (by omega)]
                       rw [e1]; exact ⟨hfr, ⟨hv1, hv2, hv3⟩, hfc⟩)
                    | (have e1 : (bfR (dfZ z a b) (nxZ z a b) (bfS (dfZ z a b) (nxZ z a b) k) x (j + 1)) = ((zu (bfR (dfZ z a b) (nxZ z a b) (bfS (dfZ z a b) (nxZ z a b) k) x j).1.1 (bfR (dfZ z a b) (nxZ z a b) (bfS (dfZ z a b) (nxZ z a b) k) x j).2.1 (nxZ z a b x (j : Int)), zu (bfR (dfZ z a b) (nxZ z a b) (bfS (dfZ z a b) (nxZ z a b) k) x j).1.2.1 (nxZ z a b x (j : Int)) x, zu (bfR (dfZ z a b) (nxZ z a b) (bfS (dfZ z a b) (nxZ z a b) k) x j).1.2.2 (nxZ z a b x (j : Int)) (j : Int)), (bfR (dfZ z a b) (nxZ z a b) (bfS (dfZ z a b) (nxZ z a b) k) x j).2.1 + 1, (bfR (dfZ z a b) (nxZ z a b) (bfS (dfZ z a b) (nxZ z a b) k) x j).2.2) := by rw [bfR, bfC, if_neg (by omega), if_neg hd0, if_pos (by omega)]
                       rw [e1]
                       refine ⟨((hfr.i (by simp)).i (by simp)).i (by simp), ⟨fun i h0 h1 => ?_, fun w h0 h1 => ?_, fun w h0 h1 h2 h3 => ?_⟩, hfc⟩
                       · show _ = zu (bfR (dfZ z a b) (nxZ z a b) (bfS (dfZ z a b) (nxZ z a b) k) x j).1.1 (bfR (dfZ z a b) (nxZ z a b) (bfS (dfZ z a b) (nxZ z a b) k) x j).2.1 (nxZ z a b x (j : Int)) i
                         have h1 : i < (bfR (dfZ z a b) (nxZ z a b) (bfS (dfZ z a b) (nxZ z a b) k) x j).2.1 + 1 := h1
                         by_cases e : i = (bfR (dfZ z a b) (nxZ z a b) (bfS (dfZ z a b) (nxZ z a b) k) x j).2.1
                         · rw [e, zu_s]; exact u2_s
                         · rw [zu_n e]; exact (u2_n (Or.inr e)).trans ((u2_n (Or.inl (by omega))).trans ((u2_n (Or.inl (by omega))).trans (hv1 i h0 (by omega))))
                       · show _ = zu (bfR (dfZ z a b) (nxZ z a b) (bfS (dfZ z a b) (nxZ z a b) k) x j).1.2.1 (nxZ z a b x (j : Int)) x w
                         refine (u2_n (Or.inl (by omega))).trans ((u2_n (Or.inl (by omega))).trans ?_)
                         by_cases e : w = (nxZ z a b x (j : Int))
                         · rw [e, zu_s]; exact u2_s
                         · rw [zu_n e]; exact (u2_n (Or.inr e)).trans (hv2 w h0 h1)
                       · show _ = zu (bfR (dfZ z a b) (nxZ z a b) (bfS (dfZ z a b) (nxZ z a b) k) x j).1.2.2 (nxZ z a b x (j : Int)) (j : Int) w
                         have h3 : zu (bfR (dfZ z a b) (nxZ z a b) (bfS (dfZ z a b) (nxZ z a b) k) x j).1.2.1 (nxZ z a b x (j : Int)) x w ≠ -1 := h3
                         refine (u2_n (Or.inl (by omega))).trans ?_
                         by_cases e : w = (nxZ z a b x (j : Int))
                         · rw [e, zu_s]; exact u2_s
                         · rw [zu_n e] at h3 ⊢; exact (u2_n (Or.inr e)).trans ((u2_n (Or.inl (by omega))).trans (hv3 w h0 h1 h2 h3)))))
          · refine TGo.goto 139 dX10_isParted_123 (by decide) ?_
            have hd1 : dfZ z a b x (j : Int) = 1 := bZ_t (by omega)
            have ef : (bfR (dfZ z a b) (nxZ z a b) (bfS (dfZ z a b) (nxZ z a b) k) x (j + 1)) = ((bfR (dfZ z a b) (nxZ z a b) (bfS (dfZ z a b) (nxZ z a b) k) x j).1, (bfR (dfZ z a b) (nxZ z a b) (bfS (dfZ z a b) (nxZ z a b) k) x j).2.1, x, (j : Int)) := by
              rw [bfR, bfC, if_neg (by omega), if_pos hd1]
            have e36 : (bfS (dfZ z a b) (nxZ z a b) 36) = ((bfR (dfZ z a b) (nxZ z a b) (bfS (dfZ z a b) (nxZ z a b) k) x j).1, (bfR (dfZ z a b) (nxZ z a b) (bfS (dfZ z a b) (nxZ z a b) k) x j).2.1, x, (j : Int)) := by
              have g1 : bfS (dfZ z a b) (nxZ z a b) (k + 1) = bfR (dfZ z a b) (nxZ z a b) (bfS (dfZ z a b) (nxZ z a b) k) x 6 := by rw [bfS, if_neg (by omega), hxk]
              have g2 : bfR (dfZ z a b) (nxZ z a b) (bfS (dfZ z a b) (nxZ z a b) k) x 6 = (bfR (dfZ z a b) (nxZ z a b) (bfS (dfZ z a b) (nxZ z a b) k) x (j + 1)) := bfR_stay (by rw [ef]; show (j : Int) ≠ -1; omega) 6 (by omega)
              have g3 : (bfS (dfZ z a b) (nxZ z a b) (k + 1)).2.2.2 ≠ -1 := by rw [g1, g2, ef]; show (j : Int) ≠ -1; omega
              rw [bfS_stay (Or.inl g3) 36 (by omega), g1, g2, ef]
            obtain ⟨m, q1, q2, q3⟩ := (hI.1.2.2.2.2.1 x hx36.1 hx36.2 hI.2).1
            have hm36 := hI.1.le
            refine TGo.al0 dX10_isParted_139 rfl ?_
            refine TGo.al0 dX10_isParted_140 rfl ?_
            refine TGo.getS (t := 18) 38 38 (T + 18) (hT 0 (by decide)) rfl fgX10_91_10 dX10_isParted_141 rfl rfl rfl ?_
            refine TGo.il dX10_isParted_144 rfl ?_
            refine TGo.iald dX10_isParted_146 (hT 18 (by decide)) (by omega) rfl ?_
            refine TGo.toz x ((hv1 _ (by omega) (by omega)).trans hkx) ?_
            refine TGo.il dX10_isParted_147 rfl ?_
            refine TGo.cN (csV2 (y2 := mX10_findRow) (t := 18) 1 rfl (hT 0 (by decide)) rfl rfl dX10_isParted_149 q2409 q2411 qs88 okX10_findRow npX10_findRow rfl rfl) (kX10_findRow (f := (bfR (dfZ z a b) (nxZ z a b) (bfS (dfZ z a b) (nxZ z a b) k) x j).1.2.1) (bc := (bfR (dfZ z a b) (nxZ z a b) (bfS (dfZ z a b) (nxZ z a b) k) x j).1.2.2) (m := m) hT hz (by omega) q2 (fun i hi => ⟨(q3 i hi).1, (q3 i hi).2.2⟩) (fun i hi => ⟨(hI.1.2.2.1 _ (q3 i hi).1.1 (q3 i hi).1.2).1, (hI.1.2.2.1 _ (q3 i hi).1.1 (q3 i hi).1.2).2, (hI.1.2.2.2.2.1 _ (q3 i hi).1.1 (q3 i hi).1.2 (q3 i hi).2.1).2⟩) (fun i hi => hv2 _ (q3 i hi).1.1 (q3 i hi).1.2) (fun i hi => hv3 _ (q3 i (by omega)).1.1 (q3 i (by omega)).1.2 ((q3 i (by omega)).2.2 hi) (q3 i (by omega)).2.1)) (fun V149 h149 => ?_)
            obtain ⟨hz149, hf149, hn149, hl149, hb149⟩ := h149
            refine TGo.ic1 dX10_isParted_152 ?_
            refine TGo.zret dX10_isParted_153 rfl (by first | exact Or.inl rfl | exact Or.inr rfl | exact bZ_or _ | assumption) ?_
            refine ⟨_, rfl, rfl, rfl, ?_, hz149, hfr.tr (hf149.sub (fun i hi => by simp only [List.mem_cons, List.not_mem_nil, or_false] at hi ⊢; omega)), fun _ => ?_⟩
            · rw [bZ_t]; rw [e36]; show (j : Int) ≠ -1; omega
            · have ep : pnZ (bfR (dfZ z a b) (nxZ z a b) (bfS (dfZ z a b) (nxZ z a b) k) x j).1.2.1 36 x = m := pnZ_eq 36 m x (by omega) q2 (fun i hi => (q3 i (by omega)).2.2 hi)
              rw [e36]
              unfold FOZ
              simp only
              rw [ep]
              exact ⟨hn149, hl149, hb149⟩
      · refine TGo.il dX10_isParted_84 rfl ?_
        refine TGo.goto 110 dX10_isParted_86 (by decide) ?_
        first | (refine TGo.toz (qvZ z a b x (j : Int)) (by rw [hq1 (by omega)]) ?_) | (refine TGo.toz (qvZ z a b x (j : Int)) (by unfold qvZ; rw [if_neg (by omega)]) ?_)
        refine TGo.is dX10_isParted_110 rfl rfl ?_
        refine TGo.il2 dX10_isParted_112 rfl ?_
        refine TGo.icm1 dX10_isParted_113 ?_
        refine TGo.icmp_ne 126 dX10_isParted_114 (by decide) (by omega) (fun h114 => ?_) (fun h114 => ?_)
        · refine TGo.il dX10_isParted_126 rfl ?_
          refine TGo.cF (csS1 (y2 := mX10_wordOf) 1 rfl dX10_isParted_128 q2069 q2070 okX10_wordOf npX10_wordOf rfl rfl) (kX10_wordOf (by omega)) ?_
          refine TGo.il dX10_isParted_131 rfl ?_
          refine TGo.cF (csS1 (y2 := mX10_wordOf) 1 rfl dX10_isParted_133 q2069 q2070 okX10_wordOf npX10_wordOf rfl rfl) (kX10_wordOf (by omega)) ?_
          refine TGo.icmp_eq 154 dX10_isParted_136 (by decide) (by omega) (fun h136 => ?_) (fun h136 => ?_)
          · have hd0 : dfZ z a b x (j : Int) ≠ 1 := fun q => absurd (bZ_1.mp q) (by omega)
            have hnr1 := hnr x (j : Int) hx36 (by omega) hd0
            refine TGo.il dX10_isParted_154 rfl ?_
            refine TGo.icm1 dX10_isParted_156 ?_
            refine TGo.icmp_ne 164 dX10_isParted_157 (by decide) (by omega) (fun h157 => ?_) (fun h157 => ?_)
            · refine TGo.bip 6 dX10_isParted_164 (by decide) ?_
              refine TGo.il dX10_isParted_166 rfl ?_
              refine TGo.cF (csS1 (y2 := mX10_nextOf) 1 rfl dX10_isParted_168 q2087 q2088 okX10_nextOf npX10_nextOf rfl rfl) (kX10_nextOf (by omega)) ?_
              refine TGo.imul dX10_isParted_171 ?_
              refine TGo.il dX10_isParted_172 rfl ?_
              refine TGo.cF (csS1 (y2 := mX10_nextOf) 1 rfl dX10_isParted_174 q2087 q2088 okX10_nextOf npX10_nextOf rfl rfl) (kX10_nextOf (by omega)) ?_
              refine TGo.iadd dX10_isParted_177 ?_
              first | (refine TGo.toz (nxZ z a b x (j : Int)) (by unfold nxZ; rw [if_pos (by assumption)]) ?_) | (refine TGo.toz (nxZ z a b x (j : Int)) (by unfold nxZ; rw [if_neg (by assumption)]) ?_)
              refine TGo.is dX10_isParted_178 rfl rfl ?_
              refine TGo.il dX10_isParted_180 rfl ?_
              refine TGo.icm1 dX10_isParted_182 ?_
              refine TGo.icmp_eq 231 dX10_isParted_183 (by decide) (by omega) (fun h183 => ?_) (fun h183 => ?_)
              · refine TGo.iinc dX10_isParted_231 rfl rfl rfl ?_
                refine TGo.goto 49 dX10_isParted_234 (by decide) ?_
                first | (exfalso; omega) | exact TGo.seq [some (.ref T), some (.int (iI a)), some (.int (iI b)), some (.int (iI (bfR (dfZ z a b) (nxZ z a b) (bfS (dfZ z a b) (nxZ z a b) k) x ((j + 1))).2.1)), some (.int (iI (k : Int))), some (.int (iI ((((j + 1)) : Nat) : Int))), _, _, _] [] _ (by first | (rw [show (bfR (dfZ z a b) (nxZ z a b) (bfS (dfZ z a b) (nxZ z a b) k) x (j + 1)) = (bfR (dfZ z a b) (nxZ z a b) (bfS (dfZ z a b) (nxZ z a b) k) x j) by rw [bfR, bfC, if_neg (by omega), if_neg hd0, if_neg (by omega)]]; rfl) | (rw [show (bfR (dfZ z a b) (nxZ z a b) (bfS (dfZ z a b) (nxZ z a b) k) x (j + 1)) = ((zu (bfR (dfZ z a b) (nxZ z a b) (bfS (dfZ z a b) (nxZ z a b) k) x j).1.1 (bfR (dfZ z a b) (nxZ z a b) (bfS (dfZ z a b) (nxZ z a b) k) x j).2.1 (nxZ z a b x (j : Int)), zu (bfR (dfZ z a b) (nxZ z a b) (bfS (dfZ z a b) (nxZ z a b) k) x j).1.2.1 (nxZ z a b x (j : Int)) x, zu (bfR (dfZ z a b) (nxZ z a b) (bfS (dfZ z a b) (nxZ z a b) k) x j).1.2.2 (nxZ z a b x (j : Int)) (j : Int)), (bfR (dfZ z a b) (nxZ z a b) (bfS (dfZ z a b) (nxZ z a b) k) x j).2.1 + 1, (bfR (dfZ z a b) (nxZ z a b) (bfS (dfZ z a b) (nxZ z a b) k) x j).2.2) by rw [bfR, bfC, if_neg (by omega), if_neg hd0, if_pos (by omega)]]; rfl)) rfl rfl (ih (j + 1) _ _ _ _ (by omega) (by omega) hz (by
                  first
                  | (have e1 : (bfR (dfZ z a b) (nxZ z a b) (bfS (dfZ z a b) (nxZ z a b) k) x (j + 1)) = (bfR (dfZ z a b) (nxZ z a b) (bfS (dfZ z a b) (nxZ z a b) k) x j) := by rw [bfR, bfC, if_neg (by omega), if_neg hd0, if_neg (by omega)]
                     rw [e1]; exact ⟨hfr, ⟨hv1, hv2, hv3⟩, hfc⟩)
                  | (have e1 : (bfR (dfZ z a b) (nxZ z a b) (bfS (dfZ z a b) (nxZ z a b) k) x (j + 1)) = ((zu (bfR (dfZ z a b) (nxZ z a b) (bfS (dfZ z a b) (nxZ z a b) k) x j).1.1 (bfR (dfZ z a b) (nxZ z a b) (bfS (dfZ z a b) (nxZ z a b) k) x j).2.1 (nxZ z a b x (j : Int)), zu (bfR (dfZ z a b) (nxZ z a b) (bfS (dfZ z a b) (nxZ z a b) k) x j).1.2.1 (nxZ z a b x (j : Int)) x, zu (bfR (dfZ z a b) (nxZ z a b) (bfS (dfZ z a b) (nxZ z a b) k) x j).1.2.2 (nxZ z a b x (j : Int)) (j : Int)), (bfR (dfZ z a b) (nxZ z a b) (bfS (dfZ z a b) (nxZ z a b) k) x j).2.1 + 1, (bfR (dfZ z a b) (nxZ z a b) (bfS (dfZ z a b) (nxZ z a b) k) x j).2.2) := by rw [bfR, bfC, if_neg (by omega), if_neg hd0, if_pos (by omega)]
                     rw [e1]
                     refine ⟨((hfr.i (by simp)).i (by simp)).i (by simp), ⟨fun i h0 h1 => ?_, fun w h0 h1 => ?_, fun w h0 h1 h2 h3 => ?_⟩, hfc⟩
                     · show _ = zu (bfR (dfZ z a b) (nxZ z a b) (bfS (dfZ z a b) (nxZ z a b) k) x j).1.1 (bfR (dfZ z a b) (nxZ z a b) (bfS (dfZ z a b) (nxZ z a b) k) x j).2.1 (nxZ z a b x (j : Int)) i
                       have h1 : i < (bfR (dfZ z a b) (nxZ z a b) (bfS (dfZ z a b) (nxZ z a b) k) x j).2.1 + 1 := h1
                       by_cases e : i = (bfR (dfZ z a b) (nxZ z a b) (bfS (dfZ z a b) (nxZ z a b) k) x j).2.1
                       · rw [e, zu_s]; exact u2_s
                       · rw [zu_n e]; exact (u2_n (Or.inr e)).trans ((u2_n (Or.inl (by omega))).trans ((u2_n (Or.inl (by omega))).trans (hv1 i h0 (by omega))))
                     · show _ = zu (bfR (dfZ z a b) (nxZ z a b) (bfS (dfZ z a b) (nxZ z a b) k) x j).1.2.1 (nxZ z a b x (j : Int)) x w
                       refine (u2_n (Or.inl (by omega))).trans ((u2_n (Or.inl (by omega))).trans ?_)
                       by_cases e : w = (nxZ z a b x (j : Int))
                       · rw [e, zu_s]; exact u2_s
                       · rw [zu_n e]; exact (u2_n (Or.inr e)).trans (hv2 w h0 h1)
                     · show _ = zu (bfR (dfZ z a b) (nxZ z a b) (bfS (dfZ z a b) (nxZ z a b) k) x j).1.2.2 (nxZ z a b x (j : Int)) (j : Int) w
                       have h3 : zu (bfR (dfZ z a b) (nxZ z a b) (bfS (dfZ z a b) (nxZ z a b) k) x j).1.2.1 (nxZ z a b x (j : Int)) x w ≠ -1 := h3
                       refine (u2_n (Or.inl (by omega))).trans ?_
                       by_cases e : w = (nxZ z a b x (j : Int))
                       · rw [e, zu_s]; exact u2_s
                       · rw [zu_n e] at h3 ⊢; exact (u2_n (Or.inr e)).trans ((u2_n (Or.inl (by omega))).trans (hv3 w h0 h1 h2 h3)))))
              · have hb1 := hI.1.2.2.1 (nxZ z a b x (j : Int)) (by omega) (by omega)
                refine TGo.al0 dX10_isParted_186 rfl ?_
                refine TGo.getS (t := 18) 39 39 (T + 19) (hT 0 (by decide)) rfl fgX10_94_10 dX10_isParted_187 rfl rfl rfl ?_
                refine TGo.il dX10_isParted_190 rfl ?_
                refine TGo.iald dX10_isParted_192 (hT 19 (by decide)) (by omega) rfl ?_
                refine TGo.toz _ (hv2 _ (by omega) (by omega)) ?_
                refine TGo.icm1 dX10_isParted_193 ?_
                refine TGo.icmp_ne 231 dX10_isParted_194 (by decide) (by omega) (fun h194 => ?_) (fun h194 => ?_)
                · refine TGo.iinc dX10_isParted_231 rfl rfl rfl ?_
                  refine TGo.goto 49 dX10_isParted_234 (by decide) ?_
                  first | (exfalso; omega) | exact TGo.seq [some (.ref T), some (.int (iI a)), some (.int (iI b)), some (.int (iI (bfR (dfZ z a b) (nxZ z a b) (bfS (dfZ z a b) (nxZ z a b) k) x ((j + 1))).2.1)), some (.int (iI (k : Int))), some (.int (iI ((((j + 1)) : Nat) : Int))), _, _, _] [] _ (by first | (rw [show (bfR (dfZ z a b) (nxZ z a b) (bfS (dfZ z a b) (nxZ z a b) k) x (j + 1)) = (bfR (dfZ z a b) (nxZ z a b) (bfS (dfZ z a b) (nxZ z a b) k) x j) by rw [bfR, bfC, if_neg (by omega), if_neg hd0, if_neg (by omega)]]; rfl) | (rw [show (bfR (dfZ z a b) (nxZ z a b) (bfS (dfZ z a b) (nxZ z a b) k) x (j + 1)) = ((zu (bfR (dfZ z a b) (nxZ z a b) (bfS (dfZ z a b) (nxZ z a b) k) x j).1.1 (bfR (dfZ z a b) (nxZ z a b) (bfS (dfZ z a b) (nxZ z a b) k) x j).2.1 (nxZ z a b x (j : Int)), zu (bfR (dfZ z a b) (nxZ z a b) (bfS (dfZ z a b) (nxZ z a b) k) x j).1.2.1 (nxZ z a b x (j : Int)) x, zu (bfR (dfZ z a b) (nxZ z a b) (bfS (dfZ z a b) (nxZ z a b) k) x j).1.2.2 (nxZ z a b x (j : Int)) (j : Int)), (bfR (dfZ z a b) (nxZ z a b) (bfS (dfZ z a b) (nxZ z a b) k) x j).2.1 + 1, (bfR (dfZ z a b) (nxZ z a b) (bfS (dfZ z a b) (nxZ z a b) k) x j).2.2) by rw [bfR, bfC, if_neg (by omega), if_neg hd0, if_pos (by omega)]]; rfl)) rfl rfl (ih (j + 1) _ _ _ _ (by omega) (by omega) hz (by
                    first
                    | (have e1 : (bfR (dfZ z a b) (nxZ z a b) (bfS (dfZ z a b) (nxZ z a b) k) x (j + 1)) = (bfR (dfZ z a b) (nxZ z a b) (bfS (dfZ z a b) (nxZ z a b) k) x j) := by rw [bfR, bfC, if_neg (by omega), if_neg hd0, if_neg (by omega)]
                       rw [e1]; exact ⟨hfr, ⟨hv1, hv2, hv3⟩, hfc⟩)
                    | (have e1 : (bfR (dfZ z a b) (nxZ z a b) (bfS (dfZ z a b) (nxZ z a b) k) x (j + 1)) = ((zu (bfR (dfZ z a b) (nxZ z a b) (bfS (dfZ z a b) (nxZ z a b) k) x j).1.1 (bfR (dfZ z a b) (nxZ z a b) (bfS (dfZ z a b) (nxZ z a b) k) x j).2.1 (nxZ z a b x (j : Int)), zu (bfR (dfZ z a b) (nxZ z a b) (bfS (dfZ z a b) (nxZ z a b) k) x j).1.2.1 (nxZ z a b x (j : Int)) x, zu (bfR (dfZ z a b) (nxZ z a b) (bfS (dfZ z a b) (nxZ z a b) k) x j).1.2.2 (nxZ z a b x (j : Int)) (j : Int)), (bfR (dfZ z a b) (nxZ z a b) (bfS (dfZ z a b) (nxZ z a b) k) x j).2.1 + 1, (bfR (dfZ z a b) (nxZ z a b) (bfS (dfZ z a b) (nxZ z a b) k) x j).2.2) := by rw [bfR, bfC, if_neg (by omega), if_neg hd0, if_pos (by omega)]
                       rw [e1]
                       refine ⟨((hfr.i (by simp)).i (by simp)).i (by simp), ⟨fun i h0 h1 => ?_, fun w h0 h1 => ?_, fun w h0 h1 h2 h3 => ?_⟩, hfc⟩
                       · show _ = zu (bfR (dfZ z a b) (nxZ z a b) (bfS (dfZ z a b) (nxZ z a b) k) x j).1.1 (bfR (dfZ z a b) (nxZ z a b) (bfS (dfZ z a b) (nxZ z a b) k) x j).2.1 (nxZ z a b x (j : Int)) i
                         have h1 : i < (bfR (dfZ z a b) (nxZ z a b) (bfS (dfZ z a b) (nxZ z a b) k) x j).2.1 + 1 := h1
                         by_cases e : i = (bfR (dfZ z a b) (nxZ z a b) (bfS (dfZ z a b) (nxZ z a b) k) x j).2.1
                         · rw [e, zu_s]; exact u2_s
                         · rw [zu_n e]; exact (u2_n (Or.inr e)).trans ((u2_n (Or.inl (by omega))).trans ((u2_n (Or.inl (by omega))).trans (hv1 i h0 (by omega))))
                       · show _ = zu (bfR (dfZ z a b) (nxZ z a b) (bfS (dfZ z a b) (nxZ z a b) k) x j).1.2.1 (nxZ z a b x (j : Int)) x w
                         refine (u2_n (Or.inl (by omega))).trans ((u2_n (Or.inl (by omega))).trans ?_)
                         by_cases e : w = (nxZ z a b x (j : Int))
                         · rw [e, zu_s]; exact u2_s
                         · rw [zu_n e]; exact (u2_n (Or.inr e)).trans (hv2 w h0 h1)
                       · show _ = zu (bfR (dfZ z a b) (nxZ z a b) (bfS (dfZ z a b) (nxZ z a b) k) x j).1.2.2 (nxZ z a b x (j : Int)) (j : Int) w
                         have h3 : zu (bfR (dfZ z a b) (nxZ z a b) (bfS (dfZ z a b) (nxZ z a b) k) x j).1.2.1 (nxZ z a b x (j : Int)) x w ≠ -1 := h3
                         refine (u2_n (Or.inl (by omega))).trans ?_
                         by_cases e : w = (nxZ z a b x (j : Int))
                         · rw [e, zu_s]; exact u2_s
                         · rw [zu_n e] at h3 ⊢; exact (u2_n (Or.inr e)).trans ((u2_n (Or.inl (by omega))).trans (hv3 w h0 h1 h2 h3)))))
                · have hlt := (hI.1.step (y := (nxZ z a b x (j : Int))) (c := (j : Int)) ⟨hx36, hI.2⟩ (by omega) (by omega) hfc).2
                  refine TGo.al0 dX10_isParted_197 rfl ?_
                  refine TGo.getS (t := 18) 39 39 (T + 19) (hT 0 (by decide)) rfl fgX10_94_10 dX10_isParted_198 rfl rfl rfl ?_
                  refine TGo.il dX10_isParted_201 rfl ?_
                  refine TGo.al0 dX10_isParted_203 rfl ?_
                  refine TGo.getS (t := 18) 38 38 (T + 18) (hT 0 (by decide)) rfl fgX10_91_10 dX10_isParted_204 rfl rfl rfl ?_
                  refine TGo.il dX10_isParted_207 rfl ?_
                  refine TGo.iald dX10_isParted_209 (hT 18 (by decide)) (by omega) rfl ?_
                  refine TGo.toz x ((hv1 _ (by omega) (by omega)).trans hkx) ?_
                  refine TGo.iast dX10_isParted_210 (hT 19 (by decide)) (by omega) rfl ?_
                  refine TGo.al0 dX10_isParted_211 rfl ?_
                  refine TGo.getS (t := 18) 40 40 (T + 20) (hT 0 (by decide)) rfl fgX10_97_10 dX10_isParted_212 rfl rfl rfl ?_
                  refine TGo.il dX10_isParted_215 rfl ?_
                  refine TGo.il dX10_isParted_217 rfl ?_
                  refine TGo.iast dX10_isParted_219 (hT 20 (by decide)) (by omega) rfl ?_
                  refine TGo.al0 dX10_isParted_220 rfl ?_
                  refine TGo.getS (t := 18) 38 38 (T + 18) (hT 0 (by decide)) rfl fgX10_91_10 dX10_isParted_221 rfl rfl rfl ?_
                  refine TGo.il3 dX10_isParted_224 rfl ?_
                  refine TGo.il dX10_isParted_225 rfl ?_
                  refine TGo.iast dX10_isParted_227 (hT 18 (by decide)) (by omega) rfl ?_
                  refine TGo.iinc dX10_isParted_228 rfl rfl rfl ?_
                  refine TGo.iinc dX10_isParted_231 rfl rfl rfl ?_
                  refine TGo.goto 49 dX10_isParted_234 (by decide) ?_
                  first | (exfalso; omega) | exact TGo.seq [some (.ref T), some (.int (iI a)), some (.int (iI b)), some (.int (iI (bfR (dfZ z a b) (nxZ z a b) (bfS (dfZ z a b) (nxZ z a b) k) x ((j + 1))).2.1)), some (.int (iI (k : Int))), some (.int (iI ((((j + 1)) : Nat) : Int))), _, _, _] [] _ (by first | (rw [show (bfR (dfZ z a b) (nxZ z a b) (bfS (dfZ z a b) (nxZ z a b) k) x (j + 1)) = (bfR (dfZ z a b) (nxZ z a b) (bfS (dfZ z a b) (nxZ z a b) k) x j) by rw [bfR, bfC, if_neg (by omega), if_neg hd0, if_neg (by omega)]]; rfl) | (rw [show (bfR (dfZ z a b) (nxZ z a b) (bfS (dfZ z a b) (nxZ z a b) k) x (j + 1)) = ((zu (bfR (dfZ z a b) (nxZ z a b) (bfS (dfZ z a b) (nxZ z a b) k) x j).1.1 (bfR (dfZ z a b) (nxZ z a b) (bfS (dfZ z a b) (nxZ z a b) k) x j).2.1 (nxZ z a b x (j : Int)), zu (bfR (dfZ z a b) (nxZ z a b) (bfS (dfZ z a b) (nxZ z a b) k) x j).1.2.1 (nxZ z a b x (j : Int)) x, zu (bfR (dfZ z a b) (nxZ z a b) (bfS (dfZ z a b) (nxZ z a b) k) x j).1.2.2 (nxZ z a b x (j : Int)) (j : Int)), (bfR (dfZ z a b) (nxZ z a b) (bfS (dfZ z a b) (nxZ z a b) k) x j).2.1 + 1, (bfR (dfZ z a b) (nxZ z a b) (bfS (dfZ z a b) (nxZ z a b) k) x j).2.2) by rw [bfR, bfC, if_neg (by omega), if_neg hd0, if_pos (by omega)]]; rfl)) rfl rfl (ih (j + 1) _ _ _ _ (by omega) (by omega) (((hz.t 19 rfl).t 20 rfl).t 18 rfl) (by
                    first
                    | (have e1 : (bfR (dfZ z a b) (nxZ z a b) (bfS (dfZ z a b) (nxZ z a b) k) x (j + 1)) = (bfR (dfZ z a b) (nxZ z a b) (bfS (dfZ z a b) (nxZ z a b) k) x j) := by rw [bfR, bfC, if_neg (by omega), if_neg hd0, if_neg (by omega)]
                       rw [e1]; exact ⟨hfr, ⟨hv1, hv2, hv3⟩, hfc⟩)
                    | (have e1 : (bfR (dfZ z a b) (nxZ z a b) (bfS (dfZ z a b) (nxZ z a b) k) x (j + 1)) = ((zu (bfR (dfZ z a b) (nxZ z a b) (bfS (dfZ z a b) (nxZ z a b) k) x j).1.1 (bfR (dfZ z a b) (nxZ z a b) (bfS (dfZ z a b) (nxZ z a b) k) x j).2.1 (nxZ z a b x (j : Int)), zu (bfR (dfZ z a b) (nxZ z a b) (bfS (dfZ z a b) (nxZ z a b) k) x j).1.2.1 (nxZ z a b x (j : Int)) x, zu (bfR (dfZ z a b) (nxZ z a b) (bfS (dfZ z a b) (nxZ z a b) k) x j).1.2.2 (nxZ z a b x (j : Int)) (j : Int)), (bfR (dfZ z a b) (nxZ z a b) (bfS (dfZ z a b) (nxZ z a b) k) x j).2.1 + 1, (bfR (dfZ z a b) (nxZ z a b) (bfS (dfZ z a b) (nxZ z a b) k) x j).2.2) := by rw [bfR, bfC, if_neg (by omega), if_neg hd0, if_pos (by omega)]
                       rw [e1]
                       refine ⟨((hfr.i (by simp)).i (by simp)).i (by simp), ⟨fun i h0 h1 => ?_, fun w h0 h1 => ?_, fun w h0 h1 h2 h3 => ?_⟩, hfc⟩
                       · show _ = zu (bfR (dfZ z a b) (nxZ z a b) (bfS (dfZ z a b) (nxZ z a b) k) x j).1.1 (bfR (dfZ z a b) (nxZ z a b) (bfS (dfZ z a b) (nxZ z a b) k) x j).2.1 (nxZ z a b x (j : Int)) i
                         have h1 : i < (bfR (dfZ z a b) (nxZ z a b) (bfS (dfZ z a b) (nxZ z a b) k) x j).2.1 + 1 := h1
                         by_cases e : i = (bfR (dfZ z a b) (nxZ z a b) (bfS (dfZ z a b) (nxZ z a b) k) x j).2.1
                         · rw [e, zu_s]; exact u2_s
                         · rw [zu_n e]; exact (u2_n (Or.inr e)).trans ((u2_n (Or.inl (by omega))).trans ((u2_n (Or.inl (by omega))).trans (hv1 i h0 (by omega))))
                       · show _ = zu (bfR (dfZ z a b) (nxZ z a b) (bfS (dfZ z a b) (nxZ z a b) k) x j).1.2.1 (nxZ z a b x (j : Int)) x w
                         refine (u2_n (Or.inl (by omega))).trans ((u2_n (Or.inl (by omega))).trans ?_)
                         by_cases e : w = (nxZ z a b x (j : Int))
                         · rw [e, zu_s]; exact u2_s
                         · rw [zu_n e]; exact (u2_n (Or.inr e)).trans (hv2 w h0 h1)
                       · show _ = zu (bfR (dfZ z a b) (nxZ z a b) (bfS (dfZ z a b) (nxZ z a b) k) x j).1.2.2 (nxZ z a b x (j : Int)) (j : Int) w
                         have h3 : zu (bfR (dfZ z a b) (nxZ z a b) (bfS (dfZ z a b) (nxZ z a b) k) x j).1.2.1 (nxZ z a b x (j : Int)) x w ≠ -1 := h3
                         refine (u2_n (Or.inl (by omega))).trans ?_
                         by_cases e : w = (nxZ z a b x (j : Int))
                         · rw [e, zu_s]; exact u2_s
                         · rw [zu_n e] at h3 ⊢; exact (u2_n (Or.inr e)).trans ((u2_n (Or.inl (by omega))).trans (hv3 w h0 h1 h2 h3)))))
            · refine TGo.icm1 dX10_isParted_160 ?_
              refine TGo.goto 178 dX10_isParted_161 (by decide) ?_
              first | (refine TGo.toz (nxZ z a b x (j : Int)) (by unfold nxZ; rw [if_pos (by assumption)]) ?_) | (refine TGo.toz (nxZ z a b x (j : Int)) (by unfold nxZ; rw [if_neg (by assumption)]) ?_)
              refine TGo.is dX10_isParted_178 rfl rfl ?_
              refine TGo.il dX10_isParted_180 rfl ?_
              refine TGo.icm1 dX10_isParted_182 ?_
              refine TGo.icmp_eq 231 dX10_isParted_183 (by decide) (by omega) (fun h183 => ?_) (fun h183 => ?_)
              · refine TGo.iinc dX10_isParted_231 rfl rfl rfl ?_
                refine TGo.goto 49 dX10_isParted_234 (by decide) ?_
                first | (exfalso; omega) | exact TGo.seq [some (.ref T), some (.int (iI a)), some (.int (iI b)), some (.int (iI (bfR (dfZ z a b) (nxZ z a b) (bfS (dfZ z a b) (nxZ z a b) k) x ((j + 1))).2.1)), some (.int (iI (k : Int))), some (.int (iI ((((j + 1)) : Nat) : Int))), _, _, _] [] _ (by first | (rw [show (bfR (dfZ z a b) (nxZ z a b) (bfS (dfZ z a b) (nxZ z a b) k) x (j + 1)) = (bfR (dfZ z a b) (nxZ z a b) (bfS (dfZ z a b) (nxZ z a b) k) x j) by rw [bfR, bfC, if_neg (by omega), if_neg hd0, if_neg (by omega)]]; rfl) | (rw [show (bfR (dfZ z a b) (nxZ z a b) (bfS (dfZ z a b) (nxZ z a b) k) x (j + 1)) = ((zu (bfR (dfZ z a b) (nxZ z a b) (bfS (dfZ z a b) (nxZ z a b) k) x j).1.1 (bfR (dfZ z a b) (nxZ z a b) (bfS (dfZ z a b) (nxZ z a b) k) x j).2.1 (nxZ z a b x (j : Int)), zu (bfR (dfZ z a b) (nxZ z a b) (bfS (dfZ z a b) (nxZ z a b) k) x j).1.2.1 (nxZ z a b x (j : Int)) x, zu (bfR (dfZ z a b) (nxZ z a b) (bfS (dfZ z a b) (nxZ z a b) k) x j).1.2.2 (nxZ z a b x (j : Int)) (j : Int)), (bfR (dfZ z a b) (nxZ z a b) (bfS (dfZ z a b) (nxZ z a b) k) x j).2.1 + 1, (bfR (dfZ z a b) (nxZ z a b) (bfS (dfZ z a b) (nxZ z a b) k) x j).2.2) by rw [bfR, bfC, if_neg (by omega), if_neg hd0, if_pos (by omega)]]; rfl)) rfl rfl (ih (j + 1) _ _ _ _ (by omega) (by omega) hz (by
                  first
                  | (have e1 : (bfR (dfZ z a b) (nxZ z a b) (bfS (dfZ z a b) (nxZ z a b) k) x (j + 1)) = (bfR (dfZ z a b) (nxZ z a b) (bfS (dfZ z a b) (nxZ z a b) k) x j) := by rw [bfR, bfC, if_neg (by omega), if_neg hd0, if_neg (by omega)]
                     rw [e1]; exact ⟨hfr, ⟨hv1, hv2, hv3⟩, hfc⟩)
                  | (have e1 : (bfR (dfZ z a b) (nxZ z a b) (bfS (dfZ z a b) (nxZ z a b) k) x (j + 1)) = ((zu (bfR (dfZ z a b) (nxZ z a b) (bfS (dfZ z a b) (nxZ z a b) k) x j).1.1 (bfR (dfZ z a b) (nxZ z a b) (bfS (dfZ z a b) (nxZ z a b) k) x j).2.1 (nxZ z a b x (j : Int)), zu (bfR (dfZ z a b) (nxZ z a b) (bfS (dfZ z a b) (nxZ z a b) k) x j).1.2.1 (nxZ z a b x (j : Int)) x, zu (bfR (dfZ z a b) (nxZ z a b) (bfS (dfZ z a b) (nxZ z a b) k) x j).1.2.2 (nxZ z a b x (j : Int)) (j : Int)), (bfR (dfZ z a b) (nxZ z a b) (bfS (dfZ z a b) (nxZ z a b) k) x j).2.1 + 1, (bfR (dfZ z a b) (nxZ z a b) (bfS (dfZ z a b) (nxZ z a b) k) x j).2.2) := by rw [bfR, bfC, if_neg (by omega), if_neg hd0, if_pos (by omega)]
                     rw [e1]
                     refine ⟨((hfr.i (by simp)).i (by simp)).i (by simp), ⟨fun i h0 h1 => ?_, fun w h0 h1 => ?_, fun w h0 h1 h2 h3 => ?_⟩, hfc⟩
                     · show _ = zu (bfR (dfZ z a b) (nxZ z a b) (bfS (dfZ z a b) (nxZ z a b) k) x j).1.1 (bfR (dfZ z a b) (nxZ z a b) (bfS (dfZ z a b) (nxZ z a b) k) x j).2.1 (nxZ z a b x (j : Int)) i
                       have h1 : i < (bfR (dfZ z a b) (nxZ z a b) (bfS (dfZ z a b) (nxZ z a b) k) x j).2.1 + 1 := h1
                       by_cases e : i = (bfR (dfZ z a b) (nxZ z a b) (bfS (dfZ z a b) (nxZ z a b) k) x j).2.1
                       · rw [e, zu_s]; exact u2_s
                       · rw [zu_n e]; exact (u2_n (Or.inr e)).trans ((u2_n (Or.inl (by omega))).trans ((u2_n (Or.inl (by omega))).trans (hv1 i h0 (by omega))))
                     · show _ = zu (bfR (dfZ z a b) (nxZ z a b) (bfS (dfZ z a b) (nxZ z a b) k) x j).1.2.1 (nxZ z a b x (j : Int)) x w
                       refine (u2_n (Or.inl (by omega))).trans ((u2_n (Or.inl (by omega))).trans ?_)
                       by_cases e : w = (nxZ z a b x (j : Int))
                       · rw [e, zu_s]; exact u2_s
                       · rw [zu_n e]; exact (u2_n (Or.inr e)).trans (hv2 w h0 h1)
                     · show _ = zu (bfR (dfZ z a b) (nxZ z a b) (bfS (dfZ z a b) (nxZ z a b) k) x j).1.2.2 (nxZ z a b x (j : Int)) (j : Int) w
                       have h3 : zu (bfR (dfZ z a b) (nxZ z a b) (bfS (dfZ z a b) (nxZ z a b) k) x j).1.2.1 (nxZ z a b x (j : Int)) x w ≠ -1 := h3
                       refine (u2_n (Or.inl (by omega))).trans ?_
                       by_cases e : w = (nxZ z a b x (j : Int))
                       · rw [e, zu_s]; exact u2_s
                       · rw [zu_n e] at h3 ⊢; exact (u2_n (Or.inr e)).trans ((u2_n (Or.inl (by omega))).trans (hv3 w h0 h1 h2 h3)))))
              · have hb1 := hI.1.2.2.1 (nxZ z a b x (j : Int)) (by omega) (by omega)
                refine TGo.al0 dX10_isParted_186 rfl ?_
                refine TGo.getS (t := 18) 39 39 (T + 19) (hT 0 (by decide)) rfl fgX10_94_10 dX10_isParted_187 rfl rfl rfl ?_
                refine TGo.il dX10_isParted_190 rfl ?_
                refine TGo.iald dX10_isParted_192 (hT 19 (by decide)) (by omega) rfl ?_
                refine TGo.toz _ (hv2 _ (by omega) (by omega)) ?_
                refine TGo.icm1 dX10_isParted_193 ?_
                refine TGo.icmp_ne 231 dX10_isParted_194 (by decide) (by omega) (fun h194 => ?_) (fun h194 => ?_)
                · refine TGo.iinc dX10_isParted_231 rfl rfl rfl ?_
                  refine TGo.goto 49 dX10_isParted_234 (by decide) ?_
                  first | (exfalso; omega) | exact TGo.seq [some (.ref T), some (.int (iI a)), some (.int (iI b)), some (.int (iI (bfR (dfZ z a b) (nxZ z a b) (bfS (dfZ z a b) (nxZ z a b) k) x ((j + 1))).2.1)), some (.int (iI (k : Int))), some (.int (iI ((((j + 1)) : Nat) : Int))), _, _, _] [] _ (by first | (rw [show (bfR (dfZ z a b) (nxZ z a b) (bfS (dfZ z a b) (nxZ z a b) k) x (j + 1)) = (bfR (dfZ z a b) (nxZ z a b) (bfS (dfZ z a b) (nxZ z a b) k) x j) by rw [bfR, bfC, if_neg (by omega), if_neg hd0, if_neg (by omega)]]; rfl) | (rw [show (bfR (dfZ z a b) (nxZ z a b) (bfS (dfZ z a b) (nxZ z a b) k) x (j + 1)) = ((zu (bfR (dfZ z a b) (nxZ z a b) (bfS (dfZ z a b) (nxZ z a b) k) x j).1.1 (bfR (dfZ z a b) (nxZ z a b) (bfS (dfZ z a b) (nxZ z a b) k) x j).2.1 (nxZ z a b x (j : Int)), zu (bfR (dfZ z a b) (nxZ z a b) (bfS (dfZ z a b) (nxZ z a b) k) x j).1.2.1 (nxZ z a b x (j : Int)) x, zu (bfR (dfZ z a b) (nxZ z a b) (bfS (dfZ z a b) (nxZ z a b) k) x j).1.2.2 (nxZ z a b x (j : Int)) (j : Int)), (bfR (dfZ z a b) (nxZ z a b) (bfS (dfZ z a b) (nxZ z a b) k) x j).2.1 + 1, (bfR (dfZ z a b) (nxZ z a b) (bfS (dfZ z a b) (nxZ z a b) k) x j).2.2) by rw [bfR, bfC, if_neg (by omega), if_neg hd0, if_pos (by omega)]]; rfl)) rfl rfl (ih (j + 1) _ _ _ _ (by omega) (by omega) hz (by
                    first
                    | (have e1 : (bfR (dfZ z a b) (nxZ z a b) (bfS (dfZ z a b) (nxZ z a b) k) x (j + 1)) = (bfR (dfZ z a b) (nxZ z a b) (bfS (dfZ z a b) (nxZ z a b) k) x j) := by rw [bfR, bfC, if_neg (by omega), if_neg hd0, if_neg (by omega)]
                       rw [e1]; exact ⟨hfr, ⟨hv1, hv2, hv3⟩, hfc⟩)
                    | (have e1 : (bfR (dfZ z a b) (nxZ z a b) (bfS (dfZ z a b) (nxZ z a b) k) x (j + 1)) = ((zu (bfR (dfZ z a b) (nxZ z a b) (bfS (dfZ z a b) (nxZ z a b) k) x j).1.1 (bfR (dfZ z a b) (nxZ z a b) (bfS (dfZ z a b) (nxZ z a b) k) x j).2.1 (nxZ z a b x (j : Int)), zu (bfR (dfZ z a b) (nxZ z a b) (bfS (dfZ z a b) (nxZ z a b) k) x j).1.2.1 (nxZ z a b x (j : Int)) x, zu (bfR (dfZ z a b) (nxZ z a b) (bfS (dfZ z a b) (nxZ z a b) k) x j).1.2.2 (nxZ z a b x (j : Int)) (j : Int)), (bfR (dfZ z a b) (nxZ z a b) (bfS (dfZ z a b) (nxZ z a b) k) x j).2.1 + 1, (bfR (dfZ z a b) (nxZ z a b) (bfS (dfZ z a b) (nxZ z a b) k) x j).2.2) := by rw [bfR, bfC, if_neg (by omega), if_neg hd0, if_pos (by omega)]
                       rw [e1]
                       refine ⟨((hfr.i (by simp)).i (by simp)).i (by simp), ⟨fun i h0 h1 => ?_, fun w h0 h1 => ?_, fun w h0 h1 h2 h3 => ?_⟩, hfc⟩
                       · show _ = zu (bfR (dfZ z a b) (nxZ z a b) (bfS (dfZ z a b) (nxZ z a b) k) x j).1.1 (bfR (dfZ z a b) (nxZ z a b) (bfS (dfZ z a b) (nxZ z a b) k) x j).2.1 (nxZ z a b x (j : Int)) i
                         have h1 : i < (bfR (dfZ z a b) (nxZ z a b) (bfS (dfZ z a b) (nxZ z a b) k) x j).2.1 + 1 := h1
                         by_cases e : i = (bfR (dfZ z a b) (nxZ z a b) (bfS (dfZ z a b) (nxZ z a b) k) x j).2.1
                         · rw [e, zu_s]; exact u2_s
                         · rw [zu_n e]; exact (u2_n (Or.inr e)).trans ((u2_n (Or.inl (by omega))).trans ((u2_n (Or.inl (by omega))).trans (hv1 i h0 (by omega))))
                       · show _ = zu (bfR (dfZ z a b) (nxZ z a b) (bfS (dfZ z a b) (nxZ z a b) k) x j).1.2.1 (nxZ z a b x (j : Int)) x w
                         refine (u2_n (Or.inl (by omega))).trans ((u2_n (Or.inl (by omega))).trans ?_)
                         by_cases e : w = (nxZ z a b x (j : Int))
                         · rw [e, zu_s]; exact u2_s
                         · rw [zu_n e]; exact (u2_n (Or.inr e)).trans (hv2 w h0 h1)
                       · show _ = zu (bfR (dfZ z a b) (nxZ z a b) (bfS (dfZ z a b) (nxZ z a b) k) x j).1.2.2 (nxZ z a b x (j : Int)) (j : Int) w
                         have h3 : zu (bfR (dfZ z a b) (nxZ z a b) (bfS (dfZ z a b) (nxZ z a b) k) x j).1.2.1 (nxZ z a b x (j : Int)) x w ≠ -1 := h3
                         refine (u2_n (Or.inl (by omega))).trans ?_
                         by_cases e : w = (nxZ z a b x (j : Int))
                         · rw [e, zu_s]; exact u2_s
                         · rw [zu_n e] at h3 ⊢; exact (u2_n (Or.inr e)).trans ((u2_n (Or.inl (by omega))).trans (hv3 w h0 h1 h2 h3)))))
                · have hlt := (hI.1.step (y := (nxZ z a b x (j : Int))) (c := (j : Int)) ⟨hx36, hI.2⟩ (by omega) (by omega) hfc).2
                  refine TGo.al0 dX10_isParted_197 rfl ?_
                  refine TGo.getS (t := 18) 39 39 (T + 19) (hT 0 (by decide)) rfl fgX10_94_10 dX10_isParted_198 rfl rfl rfl ?_
                  refine TGo.il dX10_isParted_201 rfl ?_
                  refine TGo.al0 dX10_isParted_203 rfl ?_
                  refine TGo.getS (t := 18) 38 38 (T + 18) (hT 0 (by decide)) rfl fgX10_91_10 dX10_isParted_204 rfl rfl rfl ?_
                  refine TGo.il dX10_isParted_207 rfl ?_
                  refine TGo.iald dX10_isParted_209 (hT 18 (by decide)) (by omega) rfl ?_
                  refine TGo.toz x ((hv1 _ (by omega) (by omega)).trans hkx) ?_
                  refine TGo.iast dX10_isParted_210 (hT 19 (by decide)) (by omega) rfl ?_
                  refine TGo.al0 dX10_isParted_211 rfl ?_
                  refine TGo.getS (t := 18) 40 40 (T + 20) (hT 0 (by decide)) rfl fgX10_97_10 dX10_isParted_212 rfl rfl rfl ?_
                  refine TGo.il dX10_isParted_215 rfl ?_
                  refine TGo.il dX10_isParted_217 rfl ?_
                  refine TGo.iast dX10_isParted_219 (hT 20 (by decide)) (by omega) rfl ?_
                  refine TGo.al0 dX10_isParted_220 rfl ?_
                  refine TGo.getS (t := 18) 38 38 (T + 18) (hT 0 (by decide)) rfl fgX10_91_10 dX10_isParted_221 rfl rfl rfl ?_
                  refine TGo.il3 dX10_isParted_224 rfl ?_
                  refine TGo.il dX10_isParted_225 rfl ?_
                  refine TGo.iast dX10_isParted_227 (hT 18 (by decide)) (by omega) rfl ?_
                  refine TGo.iinc dX10_isParted_228 rfl rfl rfl ?_
                  refine TGo.iinc dX10_isParted_231 rfl rfl rfl ?_
                  refine TGo.goto 49 dX10_isParted_234 (by decide) ?_
                  first | (exfalso; omega) | exact TGo.seq [some (.ref T), some (.int (iI a)), some (.int (iI b)), some (.int (iI (bfR (dfZ z a b) (nxZ z a b) (bfS (dfZ z a b) (nxZ z a b) k) x ((j + 1))).2.1)), some (.int (iI (k : Int))), some (.int (iI ((((j + 1)) : Nat) : Int))), _, _, _] [] _ (by first | (rw [show (bfR (dfZ z a b) (nxZ z a b) (bfS (dfZ z a b) (nxZ z a b) k) x (j + 1)) = (bfR (dfZ z a b) (nxZ z a b) (bfS (dfZ z a b) (nxZ z a b) k) x j) by rw [bfR, bfC, if_neg (by omega), if_neg hd0, if_neg (by omega)]]; rfl) | (rw [show (bfR (dfZ z a b) (nxZ z a b) (bfS (dfZ z a b) (nxZ z a b) k) x (j + 1)) = ((zu (bfR (dfZ z a b) (nxZ z a b) (bfS (dfZ z a b) (nxZ z a b) k) x j).1.1 (bfR (dfZ z a b) (nxZ z a b) (bfS (dfZ z a b) (nxZ z a b) k) x j).2.1 (nxZ z a b x (j : Int)), zu (bfR (dfZ z a b) (nxZ z a b) (bfS (dfZ z a b) (nxZ z a b) k) x j).1.2.1 (nxZ z a b x (j : Int)) x, zu (bfR (dfZ z a b) (nxZ z a b) (bfS (dfZ z a b) (nxZ z a b) k) x j).1.2.2 (nxZ z a b x (j : Int)) (j : Int)), (bfR (dfZ z a b) (nxZ z a b) (bfS (dfZ z a b) (nxZ z a b) k) x j).2.1 + 1, (bfR (dfZ z a b) (nxZ z a b) (bfS (dfZ z a b) (nxZ z a b) k) x j).2.2) by rw [bfR, bfC, if_neg (by omega), if_neg hd0, if_pos (by omega)]]; rfl)) rfl rfl (ih (j + 1) _ _ _ _ (by omega) (by omega) (((hz.t 19 rfl).t 20 rfl).t 18 rfl) (by
                    first
                    | (have e1 : (bfR (dfZ z a b) (nxZ z a b) (bfS (dfZ z a b) (nxZ z a b) k) x (j + 1)) = (bfR (dfZ z a b) (nxZ z a b) (bfS (dfZ z a b) (nxZ z a b) k) x j) := by rw [bfR, bfC, if_neg (by omega), if_neg hd0, if_neg (by omega)]
                       rw [e1]; exact ⟨hfr, ⟨hv1, hv2, hv3⟩, hfc⟩)
                    | (have e1 : (bfR (dfZ z a b) (nxZ z a b) (bfS (dfZ z a b) (nxZ z a b) k) x (j + 1)) = ((zu (bfR (dfZ z a b) (nxZ z a b) (bfS (dfZ z a b) (nxZ z a b) k) x j).1.1 (bfR (dfZ z a b) (nxZ z a b) (bfS (dfZ z a b) (nxZ z a b) k) x j).2.1 (nxZ z a b x (j : Int)), zu (bfR (dfZ z a b) (nxZ z a b) (bfS (dfZ z a b) (nxZ z a b) k) x j).1.2.1 (nxZ z a b x (j : Int)) x, zu (bfR (dfZ z a b) (nxZ z a b) (bfS (dfZ z a b) (nxZ z a b) k) x j).1.2.2 (nxZ z a b x (j : Int)) (j : Int)), (bfR (dfZ z a b) (nxZ z a b) (bfS (dfZ z a b) (nxZ z a b) k) x j).2.1 + 1, (bfR (dfZ z a b) (nxZ z a b) (bfS (dfZ z a b) (nxZ z a b) k) x j).2.2) := by rw [bfR, bfC, if_neg (by omega), if_neg hd0, if_pos (by omega)]
                       rw [e1]
                       refine ⟨((hfr.i (by simp)).i (by simp)).i (by simp), ⟨fun i h0 h1 => ?_, fun w h0 h1 => ?_, fun w h0 h1 h2 h3 => ?_⟩, hfc⟩
                       · show _ = zu (bfR (dfZ z a b) (nxZ z a b) (bfS (dfZ z a b) (nxZ z a b) k) x j).1.1 (bfR (dfZ z a b) (nxZ z a b) (bfS (dfZ z a b) (nxZ z a b) k) x j).2.1 (nxZ z a b x (j : Int)) i
                         have h1 : i < (bfR (dfZ z a b) (nxZ z a b) (bfS (dfZ z a b) (nxZ z a b) k) x j).2.1 + 1 := h1
                         by_cases e : i = (bfR (dfZ z a b) (nxZ z a b) (bfS (dfZ z a b) (nxZ z a b) k) x j).2.1
                         · rw [e, zu_s]; exact u2_s
                         · rw [zu_n e]; exact (u2_n (Or.inr e)).trans ((u2_n (Or.inl (by omega))).trans ((u2_n (Or.inl (by omega))).trans (hv1 i h0 (by omega))))
                       · show _ = zu (bfR (dfZ z a b) (nxZ z a b) (bfS (dfZ z a b) (nxZ z a b) k) x j).1.2.1 (nxZ z a b x (j : Int)) x w
                         refine (u2_n (Or.inl (by omega))).trans ((u2_n (Or.inl (by omega))).trans ?_)
                         by_cases e : w = (nxZ z a b x (j : Int))
                         · rw [e, zu_s]; exact u2_s
                         · rw [zu_n e]; exact (u2_n (Or.inr e)).trans (hv2 w h0 h1)
                       · show _ = zu (bfR (dfZ z a b) (nxZ z a b) (bfS (dfZ z a b) (nxZ z a b) k) x j).1.2.2 (nxZ z a b x (j : Int)) (j : Int) w
                         have h3 : zu (bfR (dfZ z a b) (nxZ z a b) (bfS (dfZ z a b) (nxZ z a b) k) x j).1.2.1 (nxZ z a b x (j : Int)) x w ≠ -1 := h3
                         refine (u2_n (Or.inl (by omega))).trans ?_
                         by_cases e : w = (nxZ z a b x (j : Int))
                         · rw [e, zu_s]; exact u2_s
                         · rw [zu_n e] at h3 ⊢; exact (u2_n (Or.inr e)).trans ((u2_n (Or.inl (by omega))).trans (hv3 w h0 h1 h2 h3)))))
          · have hd1 : dfZ z a b x (j : Int) = 1 := bZ_t (by omega)
            have ef : (bfR (dfZ z a b) (nxZ z a b) (bfS (dfZ z a b) (nxZ z a b) k) x (j + 1)) = ((bfR (dfZ z a b) (nxZ z a b) (bfS (dfZ z a b) (nxZ z a b) k) x j).1, (bfR (dfZ z a b) (nxZ z a b) (bfS (dfZ z a b) (nxZ z a b) k) x j).2.1, x, (j : Int)) := by
              rw [bfR, bfC, if_neg (by omega), if_pos hd1]
            have e36 : (bfS (dfZ z a b) (nxZ z a b) 36) = ((bfR (dfZ z a b) (nxZ z a b) (bfS (dfZ z a b) (nxZ z a b) k) x j).1, (bfR (dfZ z a b) (nxZ z a b) (bfS (dfZ z a b) (nxZ z a b) k) x j).2.1, x, (j : Int)) := by
              have g1 : bfS (dfZ z a b) (nxZ z a b) (k + 1) = bfR (dfZ z a b) (nxZ z a b) (bfS (dfZ z a b) (nxZ z a b) k) x 6 := by rw [bfS, if_neg (by omega), hxk]
              have g2 : bfR (dfZ z a b) (nxZ z a b) (bfS (dfZ z a b) (nxZ z a b) k) x 6 = (bfR (dfZ z a b) (nxZ z a b) (bfS (dfZ z a b) (nxZ z a b) k) x (j + 1)) := bfR_stay (by rw [ef]; show (j : Int) ≠ -1; omega) 6 (by omega)
              have g3 : (bfS (dfZ z a b) (nxZ z a b) (k + 1)).2.2.2 ≠ -1 := by rw [g1, g2, ef]; show (j : Int) ≠ -1; omega
              rw [bfS_stay (Or.inl g3) 36 (by omega), g1, g2, ef]
            obtain ⟨m, q1, q2, q3⟩ := (hI.1.2.2.2.2.1 x hx36.1 hx36.2 hI.2).1
            have hm36 := hI.1.le
            refine TGo.al0 dX10_isParted_139 rfl ?_
            refine TGo.al0 dX10_isParted_140 rfl ?_
            refine TGo.getS (t := 18) 38 38 (T + 18) (hT 0 (by decide)) rfl fgX10_91_10 dX10_isParted_141 rfl rfl rfl ?_
            refine TGo.il dX10_isParted_144 rfl ?_
            refine TGo.iald dX10_isParted_146 (hT 18 (by decide)) (by omega) rfl ?_
            refine TGo.toz x ((hv1 _ (by omega) (by omega)).trans hkx) ?_
            refine TGo.il dX10_isParted_147 rfl ?_
            refine TGo.cN (csV2 (y2 := mX10_findRow) (t := 18) 1 rfl (hT 0 (by decide)) rfl rfl dX10_isParted_149 q2409 q2411 qs88 okX10_findRow npX10_findRow rfl rfl) (kX10_findRow (f := (bfR (dfZ z a b) (nxZ z a b) (bfS (dfZ z a b) (nxZ z a b) k) x j).1.2.1) (bc := (bfR (dfZ z a b) (nxZ z a b) (bfS (dfZ z a b) (nxZ z a b) k) x j).1.2.2) (m := m) hT hz (by omega) q2 (fun i hi => ⟨(q3 i hi).1, (q3 i hi).2.2⟩) (fun i hi => ⟨(hI.1.2.2.1 _ (q3 i hi).1.1 (q3 i hi).1.2).1, (hI.1.2.2.1 _ (q3 i hi).1.1 (q3 i hi).1.2).2, (hI.1.2.2.2.2.1 _ (q3 i hi).1.1 (q3 i hi).1.2 (q3 i hi).2.1).2⟩) (fun i hi => hv2 _ (q3 i hi).1.1 (q3 i hi).1.2) (fun i hi => hv3 _ (q3 i (by omega)).1.1 (q3 i (by omega)).1.2 ((q3 i (by omega)).2.2 hi) (q3 i (by omega)).2.1)) (fun V149 h149 => ?_)
            obtain ⟨hz149, hf149, hn149, hl149, hb149⟩ := h149
            refine TGo.ic1 dX10_isParted_152 ?_
            refine TGo.zret dX10_isParted_153 rfl (by first | exact Or.inl rfl | exact Or.inr rfl | exact bZ_or _ | assumption) ?_
            refine ⟨_, rfl, rfl, rfl, ?_, hz149, hfr.tr (hf149.sub (fun i hi => by simp only [List.mem_cons, List.not_mem_nil, or_false] at hi ⊢; omega)), fun _ => ?_⟩
            · rw [bZ_t]; rw [e36]; show (j : Int) ≠ -1; omega
            · have ep : pnZ (bfR (dfZ z a b) (nxZ z a b) (bfS (dfZ z a b) (nxZ z a b) k) x j).1.2.1 36 x = m := pnZ_eq 36 m x (by omega) q2 (fun i hi => (q3 i (by omega)).2.2 hi)
              rw [e36]
              unfold FOZ
              simp only
              rw [ep]
              exact ⟨hn149, hl149, hb149⟩
        · refine TGo.il dX10_isParted_117 rfl ?_
          refine TGo.icm1 dX10_isParted_119 ?_
          refine TGo.icmp_ne 154 dX10_isParted_120 (by decide) (by omega) (fun h120 => ?_) (fun h120 => ?_)
          · have hd0 : dfZ z a b x (j : Int) ≠ 1 := fun q => absurd (bZ_1.mp q) (by omega)
            have hnr1 := hnr x (j : Int) hx36 (by omega) hd0
            refine TGo.il dX10_isParted_154 rfl ?_
            refine TGo.icm1 dX10_isParted_156 ?_
            refine TGo.icmp_ne 164 dX10_isParted_157 (by decide) (by omega) (fun h157 => ?_) (fun h157 => ?_)
            · refine TGo.bip 6 dX10_isParted_164 (by decide) ?_
              refine TGo.il dX10_isParted_166 rfl ?_
              refine TGo.cF (csS1 (y2 := mX10_nextOf) 1 rfl dX10_isParted_168 q2087 q2088 okX10_nextOf npX10_nextOf rfl rfl) (kX10_nextOf (by omega)) ?_
              refine TGo.imul dX10_isParted_171 ?_
              refine TGo.il dX10_isParted_172 rfl ?_
              refine TGo.cF (csS1 (y2 := mX10_nextOf) 1 rfl dX10_isParted_174 q2087 q2088 okX10_nextOf npX10_nextOf rfl rfl) (kX10_nextOf (by omega)) ?_
              refine TGo.iadd dX10_isParted_177 ?_
              first | (refine TGo.toz (nxZ z a b x (j : Int)) (by unfold nxZ; rw [if_pos (by assumption)]) ?_) | (refine TGo.toz (nxZ z a b x (j : Int)) (by unfold nxZ; rw [if_neg (by assumption)]) ?_)
              refine TGo.is dX10_isParted_178 rfl rfl ?_
              refine TGo.il dX10_isParted_180 rfl ?_
              refine TGo.icm1 dX10_isParted_182 ?_
              refine TGo.icmp_eq 231 dX10_isParted_183 (by decide) (by omega) (fun h183 => ?_) (fun h183 => ?_)
              · refine TGo.iinc dX10_isParted_231 rfl rfl rfl ?_
                refine TGo.goto 49 dX10_isParted_234 (by decide) ?_
                first | (exfalso; omega) | exact TGo.seq [some (.ref T), some (.int (iI a)), some (.int (iI b)), some (.int (iI (bfR (dfZ z a b) (nxZ z a b) (bfS (dfZ z a b) (nxZ z a b) k) x ((j + 1))).2.1)), some (.int (iI (k : Int))), some (.int (iI ((((j + 1)) : Nat) : Int))), _, _, _] [] _ (by first | (rw [show (bfR (dfZ z a b) (nxZ z a b) (bfS (dfZ z a b) (nxZ z a b) k) x (j + 1)) = (bfR (dfZ z a b) (nxZ z a b) (bfS (dfZ z a b) (nxZ z a b) k) x j) by rw [bfR, bfC, if_neg (by omega), if_neg hd0, if_neg (by omega)]]; rfl) | (rw [show (bfR (dfZ z a b) (nxZ z a b) (bfS (dfZ z a b) (nxZ z a b) k) x (j + 1)) = ((zu (bfR (dfZ z a b) (nxZ z a b) (bfS (dfZ z a b) (nxZ z a b) k) x j).1.1 (bfR (dfZ z a b) (nxZ z a b) (bfS (dfZ z a b) (nxZ z a b) k) x j).2.1 (nxZ z a b x (j : Int)), zu (bfR (dfZ z a b) (nxZ z a b) (bfS (dfZ z a b) (nxZ z a b) k) x j).1.2.1 (nxZ z a b x (j : Int)) x, zu (bfR (dfZ z a b) (nxZ z a b) (bfS (dfZ z a b) (nxZ z a b) k) x j).1.2.2 (nxZ z a b x (j : Int)) (j : Int)), (bfR (dfZ z a b) (nxZ z a b) (bfS (dfZ z a b) (nxZ z a b) k) x j).2.1 + 1, (bfR (dfZ z a b) (nxZ z a b) (bfS (dfZ z a b) (nxZ z a b) k) x j).2.2) by rw [bfR, bfC, if_neg (by omega), if_neg hd0, if_pos (by omega)]]; rfl)) rfl rfl (ih (j + 1) _ _ _ _ (by omega) (by omega) hz (by
                  first
                  | (have e1 : (bfR (dfZ z a b) (nxZ z a b) (bfS (dfZ z a b) (nxZ z a b) k) x (j + 1)) = (bfR (dfZ z a b) (nxZ z a b) (bfS (dfZ z a b) (nxZ z a b) k) x j) := by rw [bfR, bfC, if_neg (by omega), if_neg hd0, if_neg (by omega)]
                     rw [e1]; exact ⟨hfr, ⟨hv1, hv2, hv3⟩, hfc⟩)
                  | (have e1 : (bfR (dfZ z a b) (nxZ z a b) (bfS (dfZ z a b) (nxZ z a b) k) x (j + 1)) = ((zu (bfR (dfZ z a b) (nxZ z a b) (bfS (dfZ z a b) (nxZ z a b) k) x j).1.1 (bfR (dfZ z a b) (nxZ z a b) (bfS (dfZ z a b) (nxZ z a b) k) x j).2.1 (nxZ z a b x (j : Int)), zu (bfR (dfZ z a b) (nxZ z a b) (bfS (dfZ z a b) (nxZ z a b) k) x j).1.2.1 (nxZ z a b x (j : Int)) x, zu (bfR (dfZ z a b) (nxZ z a b) (bfS (dfZ z a b) (nxZ z a b) k) x j).1.2.2 (nxZ z a b x (j : Int)) (j : Int)), (bfR (dfZ z a b) (nxZ z a b) (bfS (dfZ z a b) (nxZ z a b) k) x j).2.1 + 1, (bfR (dfZ z a b) (nxZ z a b) (bfS (dfZ z a b) (nxZ z a b) k) x j).2.2) := by rw [bfR, bfC, if_neg (by omega), if_neg hd0, if_pos (by omega)]
                     rw [e1]
                     refine ⟨((hfr.i (by simp)).i (by simp)).i (by simp), ⟨fun i h0 h1 => ?_, fun w h0 h1 => ?_, fun w h0 h1 h2 h3 => ?_⟩, hfc⟩
                     · show _ = zu (bfR (dfZ z a b) (nxZ z a b) (bfS (dfZ z a b) (nxZ z a b) k) x j).1.1 (bfR (dfZ z a b) (nxZ z a b) (bfS (dfZ z a b) (nxZ z a b) k) x j).2.1 (nxZ z a b x (j : Int)) i
                       have h1 : i < (bfR (dfZ z a b) (nxZ z a b) (bfS (dfZ z a b) (nxZ z a b) k) x j).2.1 + 1 := h1
                       by_cases e : i = (bfR (dfZ z a b) (nxZ z a b) (bfS (dfZ z a b) (nxZ z a b) k) x j).2.1
                       · rw [e, zu_s]; exact u2_s
                       · rw [zu_n e]; exact (u2_n (Or.inr e)).trans ((u2_n (Or.inl (by omega))).trans ((u2_n (Or.inl (by omega))).trans (hv1 i h0 (by omega))))
                     · show _ = zu (bfR (dfZ z a b) (nxZ z a b) (bfS (dfZ z a b) (nxZ z a b) k) x j).1.2.1 (nxZ z a b x (j : Int)) x w
                       refine (u2_n (Or.inl (by omega))).trans ((u2_n (Or.inl (by omega))).trans ?_)
                       by_cases e : w = (nxZ z a b x (j : Int))
                       · rw [e, zu_s]; exact u2_s
                       · rw [zu_n e]; exact (u2_n (Or.inr e)).trans (hv2 w h0 h1)
                     · show _ = zu (bfR (dfZ z a b) (nxZ z a b) (bfS (dfZ z a b) (nxZ z a b) k) x j).1.2.2 (nxZ z a b x (j : Int)) (j : Int) w
                       have h3 : zu (bfR (dfZ z a b) (nxZ z a b) (bfS (dfZ z a b) (nxZ z a b) k) x j).1.2.1 (nxZ z a b x (j : Int)) x w ≠ -1 := h3
                       refine (u2_n (Or.inl (by omega))).trans ?_
                       by_cases e : w = (nxZ z a b x (j : Int))
                       · rw [e, zu_s]; exact u2_s
                       · rw [zu_n e] at h3 ⊢; exact (u2_n (Or.inr e)).trans ((u2_n (Or.inl (by omega))).trans (hv3 w h0 h1 h2 h3)))))
              · have hb1 := hI.1.2.2.1 (nxZ z a b x (j : Int)) (by omega) (by omega)
                refine TGo.al0 dX10_isParted_186 rfl ?_
                refine TGo.getS (t := 18) 39 39 (T + 19) (hT 0 (by decide)) rfl fgX10_94_10 dX10_isParted_187 rfl rfl rfl ?_
                refine TGo.il dX10_isParted_190 rfl ?_
                refine TGo.iald dX10_isParted_192 (hT 19 (by decide)) (by omega) rfl ?_
                refine TGo.toz _ (hv2 _ (by omega) (by omega)) ?_
                refine TGo.icm1 dX10_isParted_193 ?_
                refine TGo.icmp_ne 231 dX10_isParted_194 (by decide) (by omega) (fun h194 => ?_) (fun h194 => ?_)
                · refine TGo.iinc dX10_isParted_231 rfl rfl rfl ?_
                  refine TGo.goto 49 dX10_isParted_234 (by decide) ?_
                  first | (exfalso; omega) | exact TGo.seq [some (.ref T), some (.int (iI a)), some (.int (iI b)), some (.int (iI (bfR (dfZ z a b) (nxZ z a b) (bfS (dfZ z a b) (nxZ z a b) k) x ((j + 1))).2.1)), some (.int (iI (k : Int))), some (.int (iI ((((j + 1)) : Nat) : Int))), _, _, _] [] _ (by first | (rw [show (bfR (dfZ z a b) (nxZ z a b) (bfS (dfZ z a b) (nxZ z a b) k) x (j + 1)) = (bfR (dfZ z a b) (nxZ z a b) (bfS (dfZ z a b) (nxZ z a b) k) x j) by rw [bfR, bfC, if_neg (by omega), if_neg hd0, if_neg (by omega)]]; rfl) | (rw [show (bfR (dfZ z a b) (nxZ z a b) (bfS (dfZ z a b) (nxZ z a b) k) x (j + 1)) = ((zu (bfR (dfZ z a b) (nxZ z a b) (bfS (dfZ z a b) (nxZ z a b) k) x j).1.1 (bfR (dfZ z a b) (nxZ z a b) (bfS (dfZ z a b) (nxZ z a b) k) x j).2.1 (nxZ z a b x (j : Int)), zu (bfR (dfZ z a b) (nxZ z a b) (bfS (dfZ z a b) (nxZ z a b) k) x j).1.2.1 (nxZ z a b x (j : Int)) x, zu (bfR (dfZ z a b) (nxZ z a b) (bfS (dfZ z a b) (nxZ z a b) k) x j).1.2.2 (nxZ z a b x (j : Int)) (j : Int)), (bfR (dfZ z a b) (nxZ z a b) (bfS (dfZ z a b) (nxZ z a b) k) x j).2.1 + 1, (bfR (dfZ z a b) (nxZ z a b) (bfS (dfZ z a b) (nxZ z a b) k) x j).2.2) by rw [bfR, bfC, if_neg (by omega), if_neg hd0, if_pos (by omega)]]; rfl)) rfl rfl (ih (j + 1) _ _ _ _ (by omega) (by omega) hz (by
                    first
                    | (have e1 : (bfR (dfZ z a b) (nxZ z a b) (bfS (dfZ z a b) (nxZ z a b) k) x (j + 1)) = (bfR (dfZ z a b) (nxZ z a b) (bfS (dfZ z a b) (nxZ z a b) k) x j) := by rw [bfR, bfC, if_neg (by omega), if_neg hd0, if_neg (by omega)]
                       rw [e1]; exact ⟨hfr, ⟨hv1, hv2, hv3⟩, hfc⟩)
                    | (have e1 : (bfR (dfZ z a b) (nxZ z a b) (bfS (dfZ z a b) (nxZ z a b) k) x (j + 1)) = ((zu (bfR (dfZ z a b) (nxZ z a b) (bfS (dfZ z a b) (nxZ z a b) k) x j).1.1 (bfR (dfZ z a b) (nxZ z a b) (bfS (dfZ z a b) (nxZ z a b) k) x j).2.1 (nxZ z a b x (j : Int)), zu (bfR (dfZ z a b) (nxZ z a b) (bfS (dfZ z a b) (nxZ z a b) k) x j).1.2.1 (nxZ z a b x (j : Int)) x, zu (bfR (dfZ z a b) (nxZ z a b) (bfS (dfZ z a b) (nxZ z a b) k) x j).1.2.2 (nxZ z a b x (j : Int)) (j : Int)), (bfR (dfZ z a b) (nxZ z a b) (bfS (dfZ z a b) (nxZ z a b) k) x j).2.1 + 1, (bfR (dfZ z a b) (nxZ z a b) (bfS (dfZ z a b) (nxZ z a b) k) x j).2.2) := by rw [bfR, bfC, if_neg (by omega), if_neg hd0, if_pos (by omega)]
                       rw [e1]
                       refine ⟨((hfr.i (by simp)).i (by simp)).i (by simp), ⟨fun i h0 h1 => ?_, fun w h0 h1 => ?_, fun w h0 h1 h2 h3 => ?_⟩, hfc⟩
                       · show _ = zu (bfR (dfZ z a b) (nxZ z a b) (bfS (dfZ z a b) (nxZ z a b) k) x j).1.1 (bfR (dfZ z a b) (nxZ z a b) (bfS (dfZ z a b) (nxZ z a b) k) x j).2.1 (nxZ z a b x (j : Int)) i
                         have h1 : i < (bfR (dfZ z a b) (nxZ z a b) (bfS (dfZ z a b) (nxZ z a b) k) x j).2.1 + 1 := h1
                         by_cases e : i = (bfR (dfZ z a b) (nxZ z a b) (bfS (dfZ z a b) (nxZ z a b) k) x j).2.1
                         · rw [e, zu_s]; exact u2_s
                         · rw [zu_n e]; exact (u2_n (Or.inr e)).trans ((u2_n (Or.inl (by omega))).trans ((u2_n (Or.inl (by omega))).trans (hv1 i h0 (by omega))))
                       · show _ = zu (bfR (dfZ z a b) (nxZ z a b) (bfS (dfZ z a b) (nxZ z a b) k) x j).1.2.1 (nxZ z a b x (j : Int)) x w
                         refine (u2_n (Or.inl (by omega))).trans ((u2_n (Or.inl (by omega))).trans ?_)
                         by_cases e : w = (nxZ z a b x (j : Int))
                         · rw [e, zu_s]; exact u2_s
                         · rw [zu_n e]; exact (u2_n (Or.inr e)).trans (hv2 w h0 h1)
                       · show _ = zu (bfR (dfZ z a b) (nxZ z a b) (bfS (dfZ z a b) (nxZ z a b) k) x j).1.2.2 (nxZ z a b x (j : Int)) (j : Int) w
                         have h3 : zu (bfR (dfZ z a b) (nxZ z a b) (bfS (dfZ z a b) (nxZ z a b) k) x j).1.2.1 (nxZ z a b x (j : Int)) x w ≠ -1 := h3
                         refine (u2_n (Or.inl (by omega))).trans ?_
                         by_cases e : w = (nxZ z a b x (j : Int))
                         · rw [e, zu_s]; exact u2_s
                         · rw [zu_n e] at h3 ⊢; exact (u2_n (Or.inr e)).trans ((u2_n (Or.inl (by omega))).trans (hv3 w h0 h1 h2 h3)))))
                · have hlt := (hI.1.step (y := (nxZ z a b x (j : Int))) (c := (j : Int)) ⟨hx36, hI.2⟩ (by omega) (by omega) hfc).2
                  refine TGo.al0 dX10_isParted_197 rfl ?_
                  refine TGo.getS (t := 18) 39 39 (T + 19) (hT 0 (by decide)) rfl fgX10_94_10 dX10_isParted_198 rfl rfl rfl ?_
                  refine TGo.il dX10_isParted_201 rfl ?_
                  refine TGo.al0 dX10_isParted_203 rfl ?_
                  refine TGo.getS (t := 18) 38 38 (T + 18) (hT 0 (by decide)) rfl fgX10_91_10 dX10_isParted_204 rfl rfl rfl ?_
                  refine TGo.il dX10_isParted_207 rfl ?_
                  refine TGo.iald dX10_isParted_209 (hT 18 (by decide)) (by omega) rfl ?_
                  refine TGo.toz x ((hv1 _ (by omega) (by omega)).trans hkx) ?_
                  refine TGo.iast dX10_isParted_210 (hT 19 (by decide)) (by omega) rfl ?_
                  refine TGo.al0 dX10_isParted_211 rfl ?_
                  refine TGo.getS (t := 18) 40 40 (T + 20) (hT 0 (by decide)) rfl fgX10_97_10 dX10_isParted_212 rfl rfl rfl ?_
                  refine TGo.il dX10_isParted_215 rfl ?_
                  refine TGo.il dX10_isParted_217 rfl ?_
                  refine TGo.iast dX10_isParted_219 (hT 20 (by decide)) (by omega) rfl ?_
                  refine TGo.al0 dX10_isParted_220 rfl ?_
                  refine TGo.getS (t := 18) 38 38 (T + 18) (hT 0 (by decide)) rfl fgX10_91_10 dX10_isParted_221 rfl rfl rfl ?_
                  refine TGo.il3 dX10_isParted_224 rfl ?_
                  refine TGo.il dX10_isParted_225 rfl ?_
                  refine TGo.iast dX10_isParted_227 (hT 18 (by decide)) (by omega) rfl ?_
                  refine TGo.iinc dX10_isParted_228 rfl rfl rfl ?_
                  refine TGo.iinc dX10_isParted_231 rfl rfl rfl ?_
                  refine TGo.goto 49 dX10_isParted_234 (by decide) ?_
                  first | (exfalso; omega) | exact TGo.seq [some (.ref T), some (.int (iI a)), some (.int (iI b)), some (.int (iI (bfR (dfZ z a b) (nxZ z a b) (bfS (dfZ z a b) (nxZ z a b) k) x ((j + 1))).2.1)), some (.int (iI (k : Int))), some (.int (iI ((((j + 1)) : Nat) : Int))), _, _, _] [] _ (by first | (rw [show (bfR (dfZ z a b) (nxZ z a b) (bfS (dfZ z a b) (nxZ z a b) k) x (j + 1)) = (bfR (dfZ z a b) (nxZ z a b) (bfS (dfZ z a b) (nxZ z a b) k) x j) by rw [bfR, bfC, if_neg (by omega), if_neg hd0, if_neg (by omega)]]; rfl) | (rw [show (bfR (dfZ z a b) (nxZ z a b) (bfS (dfZ z a b) (nxZ z a b) k) x (j + 1)) = ((zu (bfR (dfZ z a b) (nxZ z a b) (bfS (dfZ z a b) (nxZ z a b) k) x j).1.1 (bfR (dfZ z a b) (nxZ z a b) (bfS (dfZ z a b) (nxZ z a b) k) x j).2.1 (nxZ z a b x (j : Int)), zu (bfR (dfZ z a b) (nxZ z a b) (bfS (dfZ z a b) (nxZ z a b) k) x j).1.2.1 (nxZ z a b x (j : Int)) x, zu (bfR (dfZ z a b) (nxZ z a b) (bfS (dfZ z a b) (nxZ z a b) k) x j).1.2.2 (nxZ z a b x (j : Int)) (j : Int)), (bfR (dfZ z a b) (nxZ z a b) (bfS (dfZ z a b) (nxZ z a b) k) x j).2.1 + 1, (bfR (dfZ z a b) (nxZ z a b) (bfS (dfZ z a b) (nxZ z a b) k) x j).2.2) by rw [bfR, bfC, if_neg (by omega), if_neg hd0, if_pos (by omega)]]; rfl)) rfl rfl (ih (j + 1) _ _ _ _ (by omega) (by omega) (((hz.t 19 rfl).t 20 rfl).t 18 rfl) (by
                    first
                    | (have e1 : (bfR (dfZ z a b) (nxZ z a b) (bfS (dfZ z a b) (nxZ z a b) k) x (j + 1)) = (bfR (dfZ z a b) (nxZ z a b) (bfS (dfZ z a b) (nxZ z a b) k) x j) := by rw [bfR, bfC, if_neg (by omega), if_neg hd0, if_neg (by omega)]
                       rw [e1]; exact ⟨hfr, ⟨hv1, hv2, hv3⟩, hfc⟩)
                    | (have e1 : (bfR (dfZ z a b) (nxZ z a b) (bfS (dfZ z a b) (nxZ z a b) k) x (j + 1)) = ((zu (bfR (dfZ z a b) (nxZ z a b) (bfS (dfZ z a b) (nxZ z a b) k) x j).1.1 (bfR (dfZ z a b) (nxZ z a b) (bfS (dfZ z a b) (nxZ z a b) k) x j).2.1 (nxZ z a b x (j : Int)), zu (bfR (dfZ z a b) (nxZ z a b) (bfS (dfZ z a b) (nxZ z a b) k) x j).1.2.1 (nxZ z a b x (j : Int)) x, zu (bfR (dfZ z a b) (nxZ z a b) (bfS (dfZ z a b) (nxZ z a b) k) x j).1.2.2 (nxZ z a b x (j : Int)) (j : Int)), (bfR (dfZ z a b) (nxZ z a b) (bfS (dfZ z a b) (nxZ z a b) k) x j).2.1 + 1, (bfR (dfZ z a b) (nxZ z a b) (bfS (dfZ z a b) (nxZ z a b) k) x j).2.2) := by rw [bfR, bfC, if_neg (by omega), if_neg hd0, if_pos (by omega)]
                       rw [e1]
                       refine ⟨((hfr.i (by simp)).i (by simp)).i (by simp), ⟨fun i h0 h1 => ?_, fun w h0 h1 => ?_, fun w h0 h1 h2 h3 => ?_⟩, hfc⟩
                       · show _ = zu (bfR (dfZ z a b) (nxZ z a b) (bfS (dfZ z a b) (nxZ z a b) k) x j).1.1 (bfR (dfZ z a b) (nxZ z a b) (bfS (dfZ z a b) (nxZ z a b) k) x j).2.1 (nxZ z a b x (j : Int)) i
                         have h1 : i < (bfR (dfZ z a b) (nxZ z a b) (bfS (dfZ z a b) (nxZ z a b) k) x j).2.1 + 1 := h1
                         by_cases e : i = (bfR (dfZ z a b) (nxZ z a b) (bfS (dfZ z a b) (nxZ z a b) k) x j).2.1
                         · rw [e, zu_s]; exact u2_s
                         · rw [zu_n e]; exact (u2_n (Or.inr e)).trans ((u2_n (Or.inl (by omega))).trans ((u2_n (Or.inl (by omega))).trans (hv1 i h0 (by omega))))
                       · show _ = zu (bfR (dfZ z a b) (nxZ z a b) (bfS (dfZ z a b) (nxZ z a b) k) x j).1.2.1 (nxZ z a b x (j : Int)) x w
                         refine (u2_n (Or.inl (by omega))).trans ((u2_n (Or.inl (by omega))).trans ?_)
                         by_cases e : w = (nxZ z a b x (j : Int))
                         · rw [e, zu_s]; exact u2_s
                         · rw [zu_n e]; exact (u2_n (Or.inr e)).trans (hv2 w h0 h1)
                       · show _ = zu (bfR (dfZ z a b) (nxZ z a b) (bfS (dfZ z a b) (nxZ z a b) k) x j).1.2.2 (nxZ z a b x (j : Int)) (j : Int) w
                         have h3 : zu (bfR (dfZ z a b) (nxZ z a b) (bfS (dfZ z a b) (nxZ z a b) k) x j).1.2.1 (nxZ z a b x (j : Int)) x w ≠ -1 := h3
                         refine (u2_n (Or.inl (by omega))).trans ?_
                         by_cases e : w = (nxZ z a b x (j : Int))
                         · rw [e, zu_s]; exact u2_s
                         · rw [zu_n e] at h3 ⊢; exact (u2_n (Or.inr e)).trans ((u2_n (Or.inl (by omega))).trans (hv3 w h0 h1 h2 h3)))))
            · refine TGo.icm1 dX10_isParted_160 ?_
              refine TGo.goto 178 dX10_isParted_161 (by decide) ?_
              first | (refine TGo.toz (nxZ z a b x (j : Int)) (by unfold nxZ; rw [if_pos (by assumption)]) ?_) | (refine TGo.toz (nxZ z a b x (j : Int)) (by unfold nxZ; rw [if_neg (by assumption)]) ?_)
              refine TGo.is dX10_isParted_178 rfl rfl ?_
              refine TGo.il dX10_isParted_180 rfl ?_
              refine TGo.icm1 dX10_isParted_182 ?_
              refine TGo.icmp_eq 231 dX10_isParted_183 (by decide) (by omega) (fun h183 => ?_) (fun h183 => ?_)
              · refine TGo.iinc dX10_isParted_231 rfl rfl rfl ?_
                refine TGo.goto 49 dX10_isParted_234 (by decide) ?_
                first | (exfalso; omega) | exact TGo.seq [some (.ref T), some (.int (iI a)), some (.int (iI b)), some (.int (iI (bfR (dfZ z a b) (nxZ z a b) (bfS (dfZ z a b) (nxZ z a b) k) x ((j + 1))).2.1)), some (.int (iI (k : Int))), some (.int (iI ((((j + 1)) : Nat) : Int))), _, _, _] [] _ (by first | (rw [show (bfR (dfZ z a b) (nxZ z a b) (bfS (dfZ z a b) (nxZ z a b) k) x (j + 1)) = (bfR (dfZ z a b) (nxZ z a b) (bfS (dfZ z a b) (nxZ z a b) k) x j) by rw [bfR, bfC, if_neg (by omega), if_neg hd0, if_neg (by omega)]]; rfl) | (rw [show (bfR (dfZ z a b) (nxZ z a b) (bfS (dfZ z a b) (nxZ z a b) k) x (j + 1)) = ((zu (bfR (dfZ z a b) (nxZ z a b) (bfS (dfZ z a b) (nxZ z a b) k) x j).1.1 (bfR (dfZ z a b) (nxZ z a b) (bfS (dfZ z a b) (nxZ z a b) k) x j).2.1 (nxZ z a b x (j : Int)), zu (bfR (dfZ z a b) (nxZ z a b) (bfS (dfZ z a b) (nxZ z a b) k) x j).1.2.1 (nxZ z a b x (j : Int)) x, zu (bfR (dfZ z a b) (nxZ z a b) (bfS (dfZ z a b) (nxZ z a b) k) x j).1.2.2 (nxZ z a b x (j : Int)) (j : Int)), (bfR (dfZ z a b) (nxZ z a b) (bfS (dfZ z a b) (nxZ z a b) k) x j).2.1 + 1, (bfR (dfZ z a b) (nxZ z a b) (bfS (dfZ z a b) (nxZ z a b) k) x j).2.2) by rw [bfR, bfC, if_neg (by omega), if_neg hd0, if_pos (by omega)]]; rfl)) rfl rfl (ih (j + 1) _ _ _ _ (by omega) (by omega) hz (by
                  first
                  | (have e1 : (bfR (dfZ z a b) (nxZ z a b) (bfS (dfZ z a b) (nxZ z a b) k) x (j + 1)) = (bfR (dfZ z a b) (nxZ z a b) (bfS (dfZ z a b) (nxZ z a b) k) x j) := by rw [bfR, bfC, if_neg (by omega), if_neg hd0, if_neg (by omega)]
                     rw [e1]; exact ⟨hfr, ⟨hv1, hv2, hv3⟩, hfc⟩)
                  | (have e1 : (bfR (dfZ z a b) (nxZ z a b) (bfS (dfZ z a b) (nxZ z a b) k) x (j + 1)) = ((zu (bfR (dfZ z a b) (nxZ z a b) (bfS (dfZ z a b) (nxZ z a b) k) x j).1.1 (bfR (dfZ z a b) (nxZ z a b) (bfS (dfZ z a b) (nxZ z a b) k) x j).2.1 (nxZ z a b x (j : Int)), zu (bfR (dfZ z a b) (nxZ z a b) (bfS (dfZ z a b) (nxZ z a b) k) x j).1.2.1 (nxZ z a b x (j : Int)) x, zu (bfR (dfZ z a b) (nxZ z a b) (bfS (dfZ z a b) (nxZ z a b) k) x j).1.2.2 (nxZ z a b x (j : Int)) (j : Int)), (bfR (dfZ z a b) (nxZ z a b) (bfS (dfZ z a b) (nxZ z a b) k) x j).2.1 + 1, (bfR (dfZ z a b) (nxZ z a b) (bfS (dfZ z a b) (nxZ z a b) k) x j).2.2) := by rw [bfR, bfC, if_neg (by omega), if_neg hd0, if_pos (by omega)]
                     rw [e1]
                     refine ⟨((hfr.i (by simp)).i (by simp)).i (by simp), ⟨fun i h0 h1 => ?_, fun w h0 h1 => ?_, fun w h0 h1 h2 h3 => ?_⟩, hfc⟩
                     · show _ = zu (bfR (dfZ z a b) (nxZ z a b) (bfS (dfZ z a b) (nxZ z a b) k) x j).1.1 (bfR (dfZ z a b) (nxZ z a b) (bfS (dfZ z a b) (nxZ z a b) k) x j).2.1 (nxZ z a b x (j : Int)) i
                       have h1 : i < (bfR (dfZ z a b) (nxZ z a b) (bfS (dfZ z a b) (nxZ z a b) k) x j).2.1 + 1 := h1
                       by_cases e : i = (bfR (dfZ z a b) (nxZ z a b) (bfS (dfZ z a b) (nxZ z a b) k) x j).2.1
                       · rw [e, zu_s]; exact u2_s
                       · rw [zu_n e]; exact (u2_n (Or.inr e)).trans ((u2_n (Or.inl (by omega))).trans ((u2_n (Or.inl (by omega))).trans (hv1 i h0 (by omega))))
                     · show _ = zu (bfR (dfZ z a b) (nxZ z a b) (bfS (dfZ z a b) (nxZ z a b) k) x j).1.2.1 (nxZ z a b x (j : Int)) x w
                       refine (u2_n (Or.inl (by omega))).trans ((u2_n (Or.inl (by omega))).trans ?_)
                       by_cases e : w = (nxZ z a b x (j : Int))
                       · rw [e, zu_s]; exact u2_s
                       · rw [zu_n e]; exact (u2_n (Or.inr e)).trans (hv2 w h0 h1)
                     · show _ = zu (bfR (dfZ z a b) (nxZ z a b) (bfS (dfZ z a b) (nxZ z a b) k) x j).1.2.2 (nxZ z a b x (j : Int)) (j : Int) w
                       have h3 : zu (bfR (dfZ z a b) (nxZ z a b) (bfS (dfZ z a b) (nxZ z a b) k) x j).1.2.1 (nxZ z a b x (j : Int)) x w ≠ -1 := h3
                       refine (u2_n (Or.inl (by omega))).trans ?_
                       by_cases e : w = (nxZ z a b x (j : Int))
                       · rw [e, zu_s]; exact u2_s
                       · rw [zu_n e] at h3 ⊢; exact (u2_n (Or.inr e)).trans ((u2_n (Or.inl (by omega))).trans (hv3 w h0 h1 h2 h3)))))
              · have hb1 := hI.1.2.2.1 (nxZ z a b x (j : Int)) (by omega) (by omega)
                refine TGo.al0 dX10_isParted_186 rfl ?_
                refine TGo.getS (t := 18) 39 39 (T + 19) (hT 0 (by decide)) rfl fgX10_94_10 dX10_isParted_187 rfl rfl rfl ?_
                refine TGo.il dX10_isParted_190 rfl ?_
                refine TGo.iald dX10_isParted_192 (hT 19 (by decide)) (by omega) rfl ?_
                refine TGo.toz _ (hv2 _ (by omega) (by omega)) ?_
                refine TGo.icm1 dX10_isParted_193 ?_
                refine TGo.icmp_ne 231 dX10_isParted_194 (by decide) (by omega) (fun h194 => ?_) (fun h194 => ?_)
                · refine TGo.iinc dX10_isParted_231 rfl rfl rfl ?_
                  refine TGo.goto 49 dX10_isParted_234 (by decide) ?_
                  first | (exfalso; omega) | exact TGo.seq [some (.ref T), some (.int (iI a)), some (.int (iI b)), some (.int (iI (bfR (dfZ z a b) (nxZ z a b) (bfS (dfZ z a b) (nxZ z a b) k) x ((j + 1))).2.1)), some (.int (iI (k : Int))), some (.int (iI ((((j + 1)) : Nat) : Int))), _, _, _] [] _ (by first | (rw [show (bfR (dfZ z a b) (nxZ z a b) (bfS (dfZ z a b) (nxZ z a b) k) x (j + 1)) = (bfR (dfZ z a b) (nxZ z a b) (bfS (dfZ z a b) (nxZ z a b) k) x j) by rw [bfR, bfC, if_neg (by omega), if_neg hd0, if_neg (by omega)]]; rfl) | (rw [show (bfR (dfZ z a b) (nxZ z a b) (bfS (dfZ z a b) (nxZ z a b) k) x (j + 1)) = ((zu (bfR (dfZ z a b) (nxZ z a b) (bfS (dfZ z a b) (nxZ z a b) k) x j).1.1 (bfR (dfZ z a b) (nxZ z a b) (bfS (dfZ z a b) (nxZ z a b) k) x j).2.1 (nxZ z a b x (j : Int)), zu (bfR (dfZ z a b) (nxZ z a b) (bfS (dfZ z a b) (nxZ z a b) k) x j).1.2.1 (nxZ z a b x (j : Int)) x, zu (bfR (dfZ z a b) (nxZ z a b) (bfS (dfZ z a b) (nxZ z a b) k) x j).1.2.2 (nxZ z a b x (j : Int)) (j : Int)), (bfR (dfZ z a b) (nxZ z a b) (bfS (dfZ z a b) (nxZ z a b) k) x j).2.1 + 1, (bfR (dfZ z a b) (nxZ z a b) (bfS (dfZ z a b) (nxZ z a b) k) x j).2.2) by rw [bfR, bfC, if_neg (by omega), if_neg hd0, if_pos (by omega)]]; rfl)) rfl rfl (ih (j + 1) _ _ _ _ (by omega) (by omega) hz (by
                    first
                    | (have e1 : (bfR (dfZ z a b) (nxZ z a b) (bfS (dfZ z a b) (nxZ z a b) k) x (j + 1)) = (bfR (dfZ z a b) (nxZ z a b) (bfS (dfZ z a b) (nxZ z a b) k) x j) := by rw [bfR, bfC, if_neg (by omega), if_neg hd0, if_neg (by omega)]
                       rw [e1]; exact ⟨hfr, ⟨hv1, hv2, hv3⟩, hfc⟩)
                    | (have e1 : (bfR (dfZ z a b) (nxZ z a b) (bfS (dfZ z a b) (nxZ z a b) k) x (j + 1)) = ((zu (bfR (dfZ z a b) (nxZ z a b) (bfS (dfZ z a b) (nxZ z a b) k) x j).1.1 (bfR (dfZ z a b) (nxZ z a b) (bfS (dfZ z a b) (nxZ z a b) k) x j).2.1 (nxZ z a b x (j : Int)), zu (bfR (dfZ z a b) (nxZ z a b) (bfS (dfZ z a b) (nxZ z a b) k) x j).1.2.1 (nxZ z a b x (j : Int)) x, zu (bfR (dfZ z a b) (nxZ z a b) (bfS (dfZ z a b) (nxZ z a b) k) x j).1.2.2 (nxZ z a b x (j : Int)) (j : Int)), (bfR (dfZ z a b) (nxZ z a b) (bfS (dfZ z a b) (nxZ z a b) k) x j).2.1 + 1, (bfR (dfZ z a b) (nxZ z a b) (bfS (dfZ z a b) (nxZ z a b) k) x j).2.2) := by rw [bfR, bfC, if_neg (by omega), if_neg hd0, if_pos (by omega)]
                       rw [e1]
                       refine ⟨((hfr.i (by simp)).i (by simp)).i (by simp), ⟨fun i h0 h1 => ?_, fun w h0 h1 => ?_, fun w h0 h1 h2 h3 => ?_⟩, hfc⟩
                       · show _ = zu (bfR (dfZ z a b) (nxZ z a b) (bfS (dfZ z a b) (nxZ z a b) k) x j).1.1 (bfR (dfZ z a b) (nxZ z a b) (bfS (dfZ z a b) (nxZ z a b) k) x j).2.1 (nxZ z a b x (j : Int)) i
                         have h1 : i < (bfR (dfZ z a b) (nxZ z a b) (bfS (dfZ z a b) (nxZ z a b) k) x j).2.1 + 1 := h1
                         by_cases e : i = (bfR (dfZ z a b) (nxZ z a b) (bfS (dfZ z a b) (nxZ z a b) k) x j).2.1
                         · rw [e, zu_s]; exact u2_s
                         · rw [zu_n e]; exact (u2_n (Or.inr e)).trans ((u2_n (Or.inl (by omega))).trans ((u2_n (Or.inl (by omega))).trans (hv1 i h0 (by omega))))
                       · show _ = zu (bfR (dfZ z a b) (nxZ z a b) (bfS (dfZ z a b) (nxZ z a b) k) x j).1.2.1 (nxZ z a b x (j : Int)) x w
                         refine (u2_n (Or.inl (by omega))).trans ((u2_n (Or.inl (by omega))).trans ?_)
                         by_cases e : w = (nxZ z a b x (j : Int))
                         · rw [e, zu_s]; exact u2_s
                         · rw [zu_n e]; exact (u2_n (Or.inr e)).trans (hv2 w h0 h1)
                       · show _ = zu (bfR (dfZ z a b) (nxZ z a b) (bfS (dfZ z a b) (nxZ z a b) k) x j).1.2.2 (nxZ z a b x (j : Int)) (j : Int) w
                         have h3 : zu (bfR (dfZ z a b) (nxZ z a b) (bfS (dfZ z a b) (nxZ z a b) k) x j).1.2.1 (nxZ z a b x (j : Int)) x w ≠ -1 := h3
                         refine (u2_n (Or.inl (by omega))).trans ?_
                         by_cases e : w = (nxZ z a b x (j : Int))
                         · rw [e, zu_s]; exact u2_s
                         · rw [zu_n e] at h3 ⊢; exact (u2_n (Or.inr e)).trans ((u2_n (Or.inl (by omega))).trans (hv3 w h0 h1 h2 h3)))))
                · have hlt := (hI.1.step (y := (nxZ z a b x (j : Int))) (c := (j : Int)) ⟨hx36, hI.2⟩ (by omega) (by omega) hfc).2
                  refine TGo.al0 dX10_isParted_197 rfl ?_
                  refine TGo.getS (t := 18) 39 39 (T + 19) (hT 0 (by decide)) rfl fgX10_94_10 dX10_isParted_198 rfl rfl rfl ?_
                  refine TGo.il dX10_isParted_201 rfl ?_
                  refine TGo.al0 dX10_isParted_203 rfl ?_
                  refine TGo.getS (t := 18) 38 38 (T + 18) (hT 0 (by decide)) rfl fgX10_91_10 dX10_isParted_204 rfl rfl rfl ?_
                  refine TGo.il dX10_isParted_207 rfl ?_
                  refine TGo.iald dX10_isParted_209 (hT 18 (by decide)) (by omega) rfl ?_
                  refine TGo.toz x ((hv1 _ (by omega) (by omega)).trans hkx) ?_
                  refine TGo.iast dX10_isParted_210 (hT 19 (by decide)) (by omega) rfl ?_
                  refine TGo.al0 dX10_isParted_211 rfl ?_
                  refine TGo.getS (t := 18) 40 40 (T + 20) (hT 0 (by decide)) rfl fgX10_97_10 dX10_isParted_212 rfl rfl rfl ?_
                  refine TGo.il dX10_isParted_215 rfl ?_
                  refine TGo.il dX10_isParted_217 rfl ?_
                  refine TGo.iast dX10_isParted_219 (hT 20 (by decide)) (by omega) rfl ?_
                  refine TGo.al0 dX10_isParted_220 rfl ?_
                  refine TGo.getS (t := 18) 38 38 (T + 18) (hT 0 (by decide)) rfl fgX10_91_10 dX10_isParted_221 rfl rfl rfl ?_
                  refine TGo.il3 dX10_isParted_224 rfl ?_
                  refine TGo.il dX10_isParted_225 rfl ?_
                  refine TGo.iast dX10_isParted_227 (hT 18 (by decide)) (by omega) rfl ?_
                  refine TGo.iinc dX10_isParted_228 rfl rfl rfl ?_
                  refine TGo.iinc dX10_isParted_231 rfl rfl rfl ?_
                  refine TGo.goto 49 dX10_isParted_234 (by decide) ?_
                  first | (exfalso; omega) | exact TGo.seq [some (.ref T), some (.int (iI a)), some (.int (iI b)), some (.int (iI (bfR (dfZ z a b) (nxZ z a b) (bfS (dfZ z a b) (nxZ z a b) k) x ((j + 1))).2.1)), some (.int (iI (k : Int))), some (.int (iI ((((j + 1)) : Nat) : Int))), _, _, _] [] _ (by first | (rw [show (bfR (dfZ z a b) (nxZ z a b) (bfS (dfZ z a b) (nxZ z a b) k) x (j + 1)) = (bfR (dfZ z a b) (nxZ z a b) (bfS (dfZ z a b) (nxZ z a b) k) x j) by rw [bfR, bfC, if_neg (by omega), if_neg hd0, if_neg (by omega)]]; rfl) | (rw [show (bfR (dfZ z a b) (nxZ z a b) (bfS (dfZ z a b) (nxZ z a b) k) x (j + 1)) = ((zu (bfR (dfZ z a b) (nxZ z a b) (bfS (dfZ z a b) (nxZ z a b) k) x j).1.1 (bfR (dfZ z a b) (nxZ z a b) (bfS (dfZ z a b) (nxZ z a b) k) x j).2.1 (nxZ z a b x (j : Int)), zu (bfR (dfZ z a b) (nxZ z a b) (bfS (dfZ z a b) (nxZ z a b) k) x j).1.2.1 (nxZ z a b x (j : Int)) x, zu (bfR (dfZ z a b) (nxZ z a b) (bfS (dfZ z a b) (nxZ z a b) k) x j).1.2.2 (nxZ z a b x (j : Int)) (j : Int)), (bfR (dfZ z a b) (nxZ z a b) (bfS (dfZ z a b) (nxZ z a b) k) x j).2.1 + 1, (bfR (dfZ z a b) (nxZ z a b) (bfS (dfZ z a b) (nxZ z a b) k) x j).2.2) by rw [bfR, bfC, if_neg (by omega), if_neg hd0, if_pos (by omega)]]; rfl)) rfl rfl (ih (j + 1) _ _ _ _ (by omega) (by omega) (((hz.t 19 rfl).t 20 rfl).t 18 rfl) (by
                    first
                    | (have e1 : (bfR (dfZ z a b) (nxZ z a b) (bfS (dfZ z a b) (nxZ z a b) k) x (j + 1)) = (bfR (dfZ z a b) (nxZ z a b) (bfS (dfZ z a b) (nxZ z a b) k) x j) := by rw [bfR, bfC, if_neg (by omega), if_neg hd0, if_neg (by omega)]
                       rw [e1]; exact ⟨hfr, ⟨hv1, hv2, hv3⟩, hfc⟩)
                    | (have e1 : (bfR (dfZ z a b) (nxZ z a b) (bfS (dfZ z a b) (nxZ z a b) k) x (j + 1)) = ((zu (bfR (dfZ z a b) (nxZ z a b) (bfS (dfZ z a b) (nxZ z a b) k) x j).1.1 (bfR (dfZ z a b) (nxZ z a b) (bfS (dfZ z a b) (nxZ z a b) k) x j).2.1 (nxZ z a b x (j : Int)), zu (bfR (dfZ z a b) (nxZ z a b) (bfS (dfZ z a b) (nxZ z a b) k) x j).1.2.1 (nxZ z a b x (j : Int)) x, zu (bfR (dfZ z a b) (nxZ z a b) (bfS (dfZ z a b) (nxZ z a b) k) x j).1.2.2 (nxZ z a b x (j : Int)) (j : Int)), (bfR (dfZ z a b) (nxZ z a b) (bfS (dfZ z a b) (nxZ z a b) k) x j).2.1 + 1, (bfR (dfZ z a b) (nxZ z a b) (bfS (dfZ z a b) (nxZ z a b) k) x j).2.2) := by rw [bfR, bfC, if_neg (by omega), if_neg hd0, if_pos (by omega)]
                       rw [e1]
                       refine ⟨((hfr.i (by simp)).i (by simp)).i (by simp), ⟨fun i h0 h1 => ?_, fun w h0 h1 => ?_, fun w h0 h1 h2 h3 => ?_⟩, hfc⟩
                       · show _ = zu (bfR (dfZ z a b) (nxZ z a b) (bfS (dfZ z a b) (nxZ z a b) k) x j).1.1 (bfR (dfZ z a b) (nxZ z a b) (bfS (dfZ z a b) (nxZ z a b) k) x j).2.1 (nxZ z a b x (j : Int)) i
                         have h1 : i < (bfR (dfZ z a b) (nxZ z a b) (bfS (dfZ z a b) (nxZ z a b) k) x j).2.1 + 1 := h1
                         by_cases e : i = (bfR (dfZ z a b) (nxZ z a b) (bfS (dfZ z a b) (nxZ z a b) k) x j).2.1
                         · rw [e, zu_s]; exact u2_s
                         · rw [zu_n e]; exact (u2_n (Or.inr e)).trans ((u2_n (Or.inl (by omega))).trans ((u2_n (Or.inl (by omega))).trans (hv1 i h0 (by omega))))
                       · show _ = zu (bfR (dfZ z a b) (nxZ z a b) (bfS (dfZ z a b) (nxZ z a b) k) x j).1.2.1 (nxZ z a b x (j : Int)) x w
                         refine (u2_n (Or.inl (by omega))).trans ((u2_n (Or.inl (by omega))).trans ?_)
                         by_cases e : w = (nxZ z a b x (j : Int))
                         · rw [e, zu_s]; exact u2_s
                         · rw [zu_n e]; exact (u2_n (Or.inr e)).trans (hv2 w h0 h1)
                       · show _ = zu (bfR (dfZ z a b) (nxZ z a b) (bfS (dfZ z a b) (nxZ z a b) k) x j).1.2.2 (nxZ z a b x (j : Int)) (j : Int) w
                         have h3 : zu (bfR (dfZ z a b) (nxZ z a b) (bfS (dfZ z a b) (nxZ z a b) k) x j).1.2.1 (nxZ z a b x (j : Int)) x w ≠ -1 := h3
                         refine (u2_n (Or.inl (by omega))).trans ?_
                         by_cases e : w = (nxZ z a b x (j : Int))
                         · rw [e, zu_s]; exact u2_s
                         · rw [zu_n e] at h3 ⊢; exact (u2_n (Or.inr e)).trans ((u2_n (Or.inl (by omega))).trans (hv3 w h0 h1 h2 h3)))))
          · refine TGo.goto 139 dX10_isParted_123 (by decide) ?_
            have hd1 : dfZ z a b x (j : Int) = 1 := bZ_t (by omega)
            have ef : (bfR (dfZ z a b) (nxZ z a b) (bfS (dfZ z a b) (nxZ z a b) k) x (j + 1)) = ((bfR (dfZ z a b) (nxZ z a b) (bfS (dfZ z a b) (nxZ z a b) k) x j).1, (bfR (dfZ z a b) (nxZ z a b) (bfS (dfZ z a b) (nxZ z a b) k) x j).2.1, x, (j : Int)) := by
              rw [bfR, bfC, if_neg (by omega), if_pos hd1]
            have e36 : (bfS (dfZ z a b) (nxZ z a b) 36) = ((bfR (dfZ z a b) (nxZ z a b) (bfS (dfZ z a b) (nxZ z a b) k) x j).1, (bfR (dfZ z a b) (nxZ z a b) (bfS (dfZ z a b) (nxZ z a b) k) x j).2.1, x, (j : Int)) := by
              have g1 : bfS (dfZ z a b) (nxZ z a b) (k + 1) = bfR (dfZ z a b) (nxZ z a b) (bfS (dfZ z a b) (nxZ z a b) k) x 6 := by rw [bfS, if_neg (by omega), hxk]
              have g2 : bfR (dfZ z a b) (nxZ z a b) (bfS (dfZ z a b) (nxZ z a b) k) x 6 = (bfR (dfZ z a b) (nxZ z a b) (bfS (dfZ z a b) (nxZ z a b) k) x (j + 1)) := bfR_stay (by rw [ef]; show (j : Int) ≠ -1; omega) 6 (by omega)
              have g3 : (bfS (dfZ z a b) (nxZ z a b) (k + 1)).2.2.2 ≠ -1 := by rw [g1, g2, ef]; show (j : Int) ≠ -1; omega
              rw [bfS_stay (Or.inl g3) 36 (by omega), g1, g2, ef]
            obtain ⟨m, q1, q2, q3⟩ := (hI.1.2.2.2.2.1 x hx36.1 hx36.2 hI.2).1
            have hm36 := hI.1.le
            refine TGo.al0 dX10_isParted_139 rfl ?_
            refine TGo.al0 dX10_isParted_140 rfl ?_
            refine TGo.getS (t := 18) 38 38 (T + 18) (hT 0 (by decide)) rfl fgX10_91_10 dX10_isParted_141 rfl rfl rfl ?_
            refine TGo.il dX10_isParted_144 rfl ?_
            refine TGo.iald dX10_isParted_146 (hT 18 (by decide)) (by omega) rfl ?_
            refine TGo.toz x ((hv1 _ (by omega) (by omega)).trans hkx) ?_
            refine TGo.il dX10_isParted_147 rfl ?_
            refine TGo.cN (csV2 (y2 := mX10_findRow) (t := 18) 1 rfl (hT 0 (by decide)) rfl rfl dX10_isParted_149 q2409 q2411 qs88 okX10_findRow npX10_findRow rfl rfl) (kX10_findRow (f := (bfR (dfZ z a b) (nxZ z a b) (bfS (dfZ z a b) (nxZ z a b) k) x j).1.2.1) (bc := (bfR (dfZ z a b) (nxZ z a b) (bfS (dfZ z a b) (nxZ z a b) k) x j).1.2.2) (m := m) hT hz (by omega) q2 (fun i hi => ⟨(q3 i hi).1, (q3 i hi).2.2⟩) (fun i hi => ⟨(hI.1.2.2.1 _ (q3 i hi).1.1 (q3 i hi).1.2).1, (hI.1.2.2.1 _ (q3 i hi).1.1 (q3 i hi).1.2).2, (hI.1.2.2.2.2.1 _ (q3 i hi).1.1 (q3 i hi).1.2 (q3 i hi).2.1).2⟩) (fun i hi => hv2 _ (q3 i hi).1.1 (q3 i hi).1.2) (fun i hi => hv3 _ (q3 i (by omega)).1.1 (q3 i (by omega)).1.2 ((q3 i (by omega)).2.2 hi) (q3 i (by omega)).2.1)) (fun V149 h149 => ?_)
            obtain ⟨hz149, hf149, hn149, hl149, hb149⟩ := h149
            refine TGo.ic1 dX10_isParted_152 ?_
            refine TGo.zret dX10_isParted_153 rfl (by first | exact Or.inl rfl | exact Or.inr rfl | exact bZ_or _ | assumption) ?_
            refine ⟨_, rfl, rfl, rfl, ?_, hz149, hfr.tr (hf149.sub (fun i hi => by simp only [List.mem_cons, List.not_mem_nil, or_false] at hi ⊢; omega)), fun _ => ?_⟩
            · rw [bZ_t]; rw [e36]; show (j : Int) ≠ -1; omega
            · have ep : pnZ (bfR (dfZ z a b) (nxZ z a b) (bfS (dfZ z a b) (nxZ z a b) k) x j).1.2.1 36 x = m := pnZ_eq 36 m x (by omega) q2 (fun i hi => (q3 i (by omega)).2.2 hi)
              rw [e36]
              unfold FOZ
              simp only
              rw [ep]
              exact ⟨hn149, hl149, hb149⟩
set_option maxHeartbeats 4000000 in
theorem lX10_isParted {E : ET} {sh : SHT} {nn : Nat × Nat} {T : Nat} {z : ZT} {a b : Int} {V0 : VT} (hT : MSh T sh) (W : RWZ (z.2 3)) (ha : 0 ≤ a ∧ a < z.2 3 2) (hb : -1 ≤ b ∧ b < z.2 3 2) : ∀ (n j : Nat) (V : VT) (y5 y6 y7 y8 : Option Value), 36 - j < n → j ≤ 36 → PE T V z → (Fr [T, T + 18, T + 19, T + 20, T + 21] V0 V ∧ BVZ T V (bfS (dfZ z a b) (nxZ z a b) j) ∧ (bfS (dfZ z a b) (nxZ z a b) j).2.2.2 = -1) → TGo E mX10_isParted 2 40 [some (.ref T), some (.int (iI a)), some (.int (iI b)), some (.int (iI (bfS (dfZ z a b) (nxZ z a b) (j)).2.1)), some (.int (iI (((j) : Nat) : Int))), y5, y6, y7, y8] [] sh nn V (fun o sh' nn' V' => ∃ v, o = .inl (some v) ∧ sh' = sh ∧ nn' = nn ∧ (fun v V' => v = .int (iI (bZ ((bfS (dfZ z a b) (nxZ z a b) 36).2.2.2 ≠ -1))) ∧ PE T V' z ∧ Fr [T, T + 18, T + 19, T + 20, T + 21] V0 V' ∧ ((bfS (dfZ z a b) (nxZ z a b) 36).2.2.2 ≠ -1 → FOZ T V' (bfS (dfZ z a b) (nxZ z a b) 36))) v V') := by
  intro n
  induction n with
  | zero => intro j V y5 y6 y7 y8 h; omega
  | succ n ih =>
    intro j V y5 y6 y7 y8 hn hj hz hx
    have w2 := W.1.2.2.1
    have hnr := nxZ_r W ha hb
    have hS := bfS_ok hnr j
    have hle := hS.le
    have hge := hS.1.1
    refine TGo.il dX10_isParted_40 rfl ?_
    refine TGo.il3 dX10_isParted_42 rfl ?_
    refine TGo.icmp_ge 243 dX10_isParted_43 (by decide) (by omega) (fun h43 => ?_) (fun h43 => ?_)
    · refine TGo.ic0 dX10_isParted_243 ?_
      refine TGo.zret dX10_isParted_244 rfl (by first | exact Or.inl rfl | exact Or.inr rfl | exact bZ_or _ | assumption) ?_
      have e36 : (bfS (dfZ z a b) (nxZ z a b) 36) = bfS (dfZ z a b) (nxZ z a b) j := bfS_stay (Or.inr (by omega)) 36 hj
      refine ⟨_, rfl, rfl, rfl, ?_, hz, hx.1, fun q => absurd hx.2.2 (by rw [← e36]; exact q)⟩
      rw [bZ_f]; rw [e36]; exact fun q => q hx.2.2
    · refine TGo.ic0 dX10_isParted_46 ?_
      refine TGo.is dX10_isParted_47 rfl rfl ?_
      refine TGo.seq [some (.ref T), some (.int (iI a)), some (.int (iI b)), some (.int (iI (bfR (dfZ z a b) (nxZ z a b) (bfS (dfZ z a b) (nxZ z a b) j) ((bfS (dfZ z a b) (nxZ z a b) j).1.1 (j : Int)) 0).2.1)), some (.int (iI (j : Int))), some (.int (iI (((0 : Nat) : Int)))), y6, y7, y8] [] _ rfl rfl rfl (iX10_isParted (k := j) hT W ha hb (by omega) (by omega) hx.2.2 rfl (fun V1 z5 z6 z7 z8 hz1 hf1 hv1 hc1 => ih (j + 1) V1 z5 z6 z7 z8 (by omega) (by omega) hz1 ⟨hf1, hv1, hc1⟩) 7 0 _ _ _ _ (by omega) (by omega) hz hx)
set_option maxHeartbeats 4000000 in
theorem zX10_isParted {E : ET} {sh : SHT} {nn : Nat × Nat} {T : Nat} {z : ZT} {a b : Int} {V0 : VT} (hT : MSh T sh) (W : RWZ (z.2 3)) (ha : 0 ≤ a ∧ a < z.2 3 2) (hb : -1 ≤ b ∧ b < z.2 3 2) : ∀ (n j : Nat) (V : VT), 36 - j < n → j ≤ 36 → PE T V z → (Fr [T, T + 18, T + 19, T + 20, T + 21] V0 V ∧ ∀ w, 0 ≤ w → w < (j : Int) → V.1 (T + 19) w = -1) → TGo E mX10_isParted 2 2 [some (.ref T), some (.int (iI a)), some (.int (iI b)), some (.int (iI (((j) : Nat) : Int))), none, none, none, none, none] [] sh nn V (fun o sh' nn' V' => ∃ v, o = .inl (some v) ∧ sh' = sh ∧ nn' = nn ∧ (fun v V' => v = .int (iI (bZ ((bfS (dfZ z a b) (nxZ z a b) 36).2.2.2 ≠ -1))) ∧ PE T V' z ∧ Fr [T, T + 18, T + 19, T + 20, T + 21] V0 V' ∧ ((bfS (dfZ z a b) (nxZ z a b) 36).2.2.2 ≠ -1 → FOZ T V' (bfS (dfZ z a b) (nxZ z a b) 36))) v V') := by
  intro n
  induction n with
  | zero => intro j V h; omega
  | succ n ih =>
    intro j V hn hj hz hx
    refine TGo.il3 dX10_isParted_2 rfl ?_
    refine TGo.bip 36 dX10_isParted_3 (by decide) ?_
    refine TGo.icmp_ge 21 dX10_isParted_5 (by decide) (by omega) (fun h5 => ?_) (fun h5 => ?_)
    · refine TGo.al0 dX10_isParted_21 rfl ?_
      refine TGo.getS (t := 18) 38 38 (T + 18) (hT 0 (by decide)) rfl fgX10_91_10 dX10_isParted_22 rfl rfl rfl ?_
      refine TGo.ic0 dX10_isParted_25 ?_
      refine TGo.ic0 dX10_isParted_26 ?_
      refine TGo.iast dX10_isParted_27 (hT 18 (by decide)) (by omega) rfl ?_
      refine TGo.al0 dX10_isParted_28 rfl ?_
      refine TGo.getS (t := 18) 39 39 (T + 19) (hT 0 (by decide)) rfl fgX10_94_10 dX10_isParted_29 rfl rfl rfl ?_
      refine TGo.ic0 dX10_isParted_32 ?_
      refine TGo.ic0 dX10_isParted_33 ?_
      refine TGo.iast dX10_isParted_34 (hT 19 (by decide)) (by omega) rfl ?_
      refine TGo.ic1 dX10_isParted_35 ?_
      refine TGo.is3 dX10_isParted_36 rfl rfl ?_
      refine TGo.ic0 dX10_isParted_37 ?_
      refine TGo.is dX10_isParted_38 rfl rfl ?_
      obtain rfl : j = 36 := by omega
      refine TGo.seq [some (.ref T), some (.int (iI a)), some (.int (iI b)), some (.int (iI (bfS (dfZ z a b) (nxZ z a b) (0)).2.1)), some (.int (iI (((0) : Nat) : Int))), _, none, none, none] [] _ rfl rfl rfl (lX10_isParted hT W ha hb 37 0 _ _ _ _ _ (by omega) (by omega) ((hz.t 18 rfl).t 19 rfl) ⟨(hx.1.i (by simp)).i (by simp), ⟨fun i h0 h1 => ?_, fun w h0 h1 => ?_, fun w h0 h1 h2 h3 => ?_⟩, rfl⟩)
      · have h1 : i < 1 := h1
        obtain rfl : i = 0 := by omega
        exact (u2_n (Or.inl (by omega))).trans u2_s
      · show _ = if w = 0 then (0 : Int) else -1
        by_cases e : w = 0
        · rw [e]; exact u2_s.trans (if_pos rfl).symm
        · rw [if_neg e]; exact (u2_n (Or.inr e)).trans ((u2_n (Or.inl (by omega))).trans (hx.2 w h0 (by omega)))
      · have h3 : (if w = 0 then (0 : Int) else -1) ≠ -1 := h3
        rw [if_neg h2] at h3; exact absurd rfl h3
    · refine TGo.al0 dX10_isParted_8 rfl ?_
      refine TGo.getS (t := 18) 39 39 (T + 19) (hT 0 (by decide)) rfl fgX10_94_10 dX10_isParted_9 rfl rfl rfl ?_
      refine TGo.il3 dX10_isParted_12 rfl ?_
      refine TGo.icm1 dX10_isParted_13 ?_
      refine TGo.iast dX10_isParted_14 (hT 19 (by decide)) (by omega) rfl ?_
      refine TGo.iinc dX10_isParted_15 rfl rfl rfl ?_
      refine TGo.goto 2 dX10_isParted_18 (by decide) ?_
      exact TGo.seq [some (.ref T), some (.int (iI a)), some (.int (iI b)), some (.int (iI ((((j + 1)) : Nat) : Int))), none, none, none, none, none] [] _ (rfl) rfl rfl (ih (j + 1) _ (by omega) (by omega) (hz.t 19 rfl) ⟨hx.1.i (by simp), fun r h0 h1 => by
        by_cases e : r = (j : Int)
        · rw [e]; exact u2_s
        · exact (u2_n (Or.inr e)).trans (hx.2 r h0 (by omega))⟩)
set_option maxHeartbeats 4000000 in
theorem kX10_isParted {E : ET} {sh : SHT} {nn : Nat × Nat} {V : VT} {T : Nat} {z : ZT} {a b : Int} (hT : MSh T sh) (hz : PE T V z) (W : RWZ (z.2 3)) (ha : 0 ≤ a ∧ a < z.2 3 2) (hb : -1 ≤ b ∧ b < z.2 3 2) : TS E mX10_isParted 2 [.ref T, .int (iI a), .int (iI b)] sh nn V (fun v V' => v = .int (iI (bZ ((bfS (dfZ z a b) (nxZ z a b) 36).2.2.2 ≠ -1))) ∧ PE T V' z ∧ Fr [T, T + 18, T + 19, T + 20, T + 21] V V' ∧ ((bfS (dfZ z a b) (nxZ z a b) 36).2.2.2 ≠ -1 → FOZ T V' (bfS (dfZ z a b) (nxZ z a b) 36))) := by
  refine TC.intro [some (.ref T), some (.int (iI a)), some (.int (iI b)), none, none, none, none, none, none] rfl ?_
  refine TGo.ic0 dX10_isParted_0 ?_
  refine TGo.is3 dX10_isParted_1 rfl rfl ?_
  exact zX10_isParted (V0 := V) hT W ha hb 37 0 _ (by omega) (by omega) hz ⟨Fr.rf, fun w h0 h1 => by omega⟩
/-- the i-th cue of the row that was found; how many (-1) -/
def ofRZ (S : BT) (i : Int) : Int := if S.2.2.2 = -1 then -1 else if i = -1 then (pnZ S.1.2.1 36 S.2.2.1 : Int) + 1 else if 0 ≤ i ∧ i ≤ (pnZ S.1.2.1 36 S.2.2.1 : Int) then (if i = (pnZ S.1.2.1 36 S.2.2.1 : Int) then S.2.2.2 else S.1.2.2 (itZ S.1.2.1 S.2.2.1 (pnZ S.1.2.1 36 S.2.2.1 - 1 - i.toNat))) else -1
theorem pnZ_le (f : Int → Int) : ∀ (n : Nat) (x : Int), pnZ f n x ≤ n := by
  intro n
  induction n with
  | zero => intro x; exact Nat.le_refl _
  | succ n ih => intro x; rw [pnZ]; have := ih (f x); split <;> omega
set_option maxHeartbeats 4000000 in
theorem kX10_ofRow {E : ET} {sh : SHT} {nn : Nat × Nat} {V : VT} {T : Nat} {z : ZT} {S : BT} {i : Int} (hT : MSh T sh) (hz : PE T V z) (hS : S.2.2.2 ≠ -1 → FOZ T V S) (hi : R32 i) : TF E mX10_ofRow 2 [.ref T, .int (iI (bZ (S.2.2.2 ≠ -1))), .int (iI i)] sh nn V (.int (iI (ofRZ S i))) := by
  have hpn := pnZ_le S.1.2.1 36 S.2.2.1
  refine TC.intro [some (.ref T), some (.int (iI (bZ (S.2.2.2 ≠ -1)))), some (.int (iI i))] rfl ?_
  refine TGo.il1 dX10_ofRow_0 rfl ?_
  refine TGo.ifb_ne 8 dX10_ofRow_1 (by decide) (fun h1 => ?_) (fun h1 => ?_)
  · obtain ⟨s1, s2, s3⟩ := hS h1
    refine TGo.il2 dX10_ofRow_8 rfl ?_
    refine TGo.icm1 dX10_ofRow_9 ?_
    refine TGo.icmp_ne 20 dX10_ofRow_10 (by decide) (by omega) (fun h10 => ?_) (fun h10 => ?_)
    · refine TGo.il2 dX10_ofRow_20 rfl ?_
      refine TGo.i2l dX10_ofRow_21 (by omega) ?_
      refine TGo.lc0 dX10_ofRow_22 ?_
      refine TGo.al0 dX10_ofRow_23 rfl ?_
      refine TGo.getI (t := 18) 42 42 (hT 0 (by decide)) rfl fgX10_489_10 dX10_ofRow_24 rfl rfl rfl ?_
      refine TGo.toz _ s1 ?_
      refine TGo.i2l dX10_ofRow_27 (by omega) ?_
      refine TGo.lc1 dX10_ofRow_28 ?_
      refine TGo.lsub dX10_ofRow_29 ?_
      refine TGo.cF (csS3 (y2 := mX10_in) 1 rfl dX10_ofRow_30 q2032 q2033 okX10_in npX10_in rfl rfl) (kX10_in (by omega) (by omega) (by omega)) ?_
      refine TGo.ifb_eq 52 dX10_ofRow_33 (by decide) (fun h33 => ?_) (fun h33 => ?_)
      · refine TGo.icm1 dX10_ofRow_52 ?_
        refine TGo.iret dX10_ofRow_53 rfl ?_
        refine leafF ?_
        unfold ofRZ
        first
        | (rw [if_pos (by first | assumption | (exact Classical.not_not.mp (by assumption)))])
        | (rw [if_neg h1, if_pos (show i = -1 by omega)])
        | (rw [if_neg h1, if_neg (show ¬ i = -1 by omega), if_pos (show 0 ≤ i ∧ i ≤ (pnZ S.1.2.1 36 S.2.2.1 : Int) by omega)])
        | (rw [if_neg h1, if_neg (show ¬ i = -1 by omega), if_neg (show ¬ (0 ≤ i ∧ i ≤ (pnZ S.1.2.1 36 S.2.2.1 : Int)) by omega)])
      · refine TGo.al0 dX10_ofRow_36 rfl ?_
        refine TGo.getS (t := 18) 41 41 (T + 21) (hT 0 (by decide)) rfl fgX10_100_10 dX10_ofRow_37 rfl rfl rfl ?_
        refine TGo.al0 dX10_ofRow_40 rfl ?_
        refine TGo.getI (t := 18) 42 42 (hT 0 (by decide)) rfl fgX10_489_10 dX10_ofRow_41 rfl rfl rfl ?_
        refine TGo.toz _ s1 ?_
        refine TGo.ic1 dX10_ofRow_44 ?_
        refine TGo.isub dX10_ofRow_45 ?_
        refine TGo.il2 dX10_ofRow_46 rfl ?_
        refine TGo.isub dX10_ofRow_47 ?_
        refine TGo.iald dX10_ofRow_48 (hT 21 (by decide)) (by omega) rfl ?_
        have e9 : V.1 (T + 21) ((pnZ S.1.2.1 36 S.2.2.1 : Int) + 1 - 1 - i) = (if i = (pnZ S.1.2.1 36 S.2.2.1 : Int) then S.2.2.2 else S.1.2.2 (itZ S.1.2.1 S.2.2.1 (pnZ S.1.2.1 36 S.2.2.1 - 1 - i.toNat))) := by
          by_cases e : i = (pnZ S.1.2.1 36 S.2.2.1 : Int)
          · rw [if_pos e, e, show (pnZ S.1.2.1 36 S.2.2.1 : Int) + 1 - 1 - (pnZ S.1.2.1 36 S.2.2.1 : Int) = 0 by omega]; exact s2
          · rw [if_neg e, ← s3 _ (by omega)]; exact congrArg _ (by omega)
        refine TGo.toz _ e9 ?_
        refine TGo.goto 53 dX10_ofRow_49 (by decide) ?_
        refine TGo.iret dX10_ofRow_53 rfl ?_
        refine leafF ?_
        unfold ofRZ
        first
        | (rw [if_pos (by first | assumption | (exact Classical.not_not.mp (by assumption)))])
        | (rw [if_neg h1, if_pos (show i = -1 by omega)])
        | (rw [if_neg h1, if_neg (show ¬ i = -1 by omega), if_pos (show 0 ≤ i ∧ i ≤ (pnZ S.1.2.1 36 S.2.2.1 : Int) by omega)])
        | (rw [if_neg h1, if_neg (show ¬ i = -1 by omega), if_neg (show ¬ (0 ≤ i ∧ i ≤ (pnZ S.1.2.1 36 S.2.2.1 : Int)) by omega)])
    · refine TGo.al0 dX10_ofRow_13 rfl ?_
      refine TGo.getI (t := 18) 42 42 (hT 0 (by decide)) rfl fgX10_489_10 dX10_ofRow_14 rfl rfl rfl ?_
      refine TGo.toz _ s1 ?_
      refine TGo.goto 53 dX10_ofRow_17 (by decide) ?_
      refine TGo.iret dX10_ofRow_53 rfl ?_
      refine leafF ?_
      unfold ofRZ
      first
      | (rw [if_pos (by first | assumption | (exact Classical.not_not.mp (by assumption)))])
      | (rw [if_neg h1, if_pos (show i = -1 by omega)])
      | (rw [if_neg h1, if_neg (show ¬ i = -1 by omega), if_pos (show 0 ≤ i ∧ i ≤ (pnZ S.1.2.1 36 S.2.2.1 : Int) by omega)])
      | (rw [if_neg h1, if_neg (show ¬ i = -1 by omega), if_neg (show ¬ (0 ≤ i ∧ i ≤ (pnZ S.1.2.1 36 S.2.2.1 : Int)) by omega)])
  · refine TGo.icm1 dX10_ofRow_4 ?_
    refine TGo.goto 53 dX10_ofRow_5 (by decide) ?_
    refine TGo.iret dX10_ofRow_53 rfl ?_
    refine leafF ?_
    unfold ofRZ
    first
    | (rw [if_pos (by first | assumption | (exact Classical.not_not.mp (by assumption)))])
    | (rw [if_neg h1, if_pos (show i = -1 by omega)])
    | (rw [if_neg h1, if_neg (show ¬ i = -1 by omega), if_pos (show 0 ≤ i ∧ i ≤ (pnZ S.1.2.1 36 S.2.2.1 : Int) by omega)])
    | (rw [if_neg h1, if_neg (show ¬ i = -1 by omega), if_neg (show ¬ (0 ≤ i ∧ i ≤ (pnZ S.1.2.1 36 S.2.2.1 : Int)) by omega)])
def zp_apart (z : ZT) (a b i : Int) : Int × ZT :=
  if ¬ ((0 ≤ a ∧ a < z.2 3 2) ∧ 0 ≤ b ∧ b < z.2 3 2) then (-1, z) else (ofRZ (bfS (dfZ z a b) (nxZ z a b) 36) i, z)
set_option maxHeartbeats 4000000 in
theorem kX10_apart {E : ET} {sh : SHT} {nn : Nat × Nat} {V : VT} {T : Nat} {z : ZT} {a b i : Int} (hT : MSh T sh) (hz : PE T V z) (W : RWZ (z.2 3)) (ra : R32 a) (rb : R32 b) (ri : R32 i) : TC E mX10_apart 3 [.ref T, .int (iI a), .int (iI b), .int (iI i)] sh nn V (ZP T sh nn (zp_apart z a b i)) := by
  have w2 := W.1.2.2.1
  refine TC.intro [some (.ref T), some (.int (iI a)), some (.int (iI b)), some (.int (iI i))] rfl ?_
  refine TGo.al0 dX10_apart_0 rfl ?_
  refine TGo.ic0 dX10_apart_1 ?_
  refine TGo.putI (t := 18) 0 0 (hT 0 (by decide)) rfl fpX10_163_10 dX10_apart_2 rfl rfl rfl ?_
  refine TGo.al0 dX10_apart_5 rfl ?_
  refine TGo.il1 dX10_apart_6 rfl ?_
  refine TGo.cF (csV1 (y2 := mX10_isVersion) (t := 18) 2 rfl (hT 0 (by decide)) rfl rfl dX10_apart_7 q2364 q2366 qs83 okX10_isVersion npX10_isVersion rfl rfl) (kX10_isVersion hT (hz.s rfl) w2 (by omega)) ?_
  refine TGo.ifb_eq 35 dX10_apart_10 (by decide) (fun h10 => ?_) (fun h10 => ?_)
  · refine TGo.icm1 dX10_apart_35 ?_
    refine TGo.iret dX10_apart_36 rfl ?_
    first
    | (exfalso; omega)
    | (refine leafZ (hz.s rfl) ?_
       unfold zp_apart
       (repeat (first | rw [if_pos (by first | rfl | assumption | omega)] | rw [if_neg (by first | decide | assumption | omega)]))
       (try first | rfl | rw [bZ_t (by first | assumption | omega)] | rw [bZ_f (by first | assumption | omega)]))
  · refine TGo.al0 dX10_apart_13 rfl ?_
    refine TGo.il2 dX10_apart_14 rfl ?_
    refine TGo.cF (csV1 (y2 := mX10_isVersion) (t := 18) 2 rfl (hT 0 (by decide)) rfl rfl dX10_apart_15 q2364 q2366 qs83 okX10_isVersion npX10_isVersion rfl rfl) (kX10_isVersion hT (hz.s rfl) w2 (by omega)) ?_
    refine TGo.ifb_eq 35 dX10_apart_18 (by decide) (fun h18 => ?_) (fun h18 => ?_)
    · refine TGo.icm1 dX10_apart_35 ?_
      refine TGo.iret dX10_apart_36 rfl ?_
      first
      | (exfalso; omega)
      | (refine leafZ (hz.s rfl) ?_
         unfold zp_apart
         (repeat (first | rw [if_pos (by first | rfl | assumption | omega)] | rw [if_neg (by first | decide | assumption | omega)]))
         (try first | rfl | rw [bZ_t (by first | assumption | omega)] | rw [bZ_f (by first | assumption | omega)]))
    · refine TGo.al0 dX10_apart_21 rfl ?_
      refine TGo.al0 dX10_apart_22 rfl ?_
      refine TGo.il1 dX10_apart_23 rfl ?_
      refine TGo.il2 dX10_apart_24 rfl ?_
      refine TGo.cS (csV2 (y2 := mX10_isParted) (t := 18) 2 rfl (hT 0 (by decide)) rfl rfl dX10_apart_25 q2405 q2407 qs87 okX10_isParted npX10_isParted rfl rfl) (kX10_isParted hT (hz.s rfl) W (by omega) (by omega)) (fun v25 V25 h25 => ?_)
      obtain ⟨rfl, hz25, hf25, hr25⟩ := h25
      refine TGo.il3 dX10_apart_28 rfl ?_
      refine TGo.cF (csV2 (y2 := mX10_ofRow) (t := 18) 2 rfl (hT 0 (by decide)) rfl rfl dX10_apart_29 q2413 q2415 qs89 okX10_ofRow npX10_ofRow rfl rfl) (kX10_ofRow (S := (bfS (dfZ z a b) (nxZ z a b) 36)) hT hz25 hr25 (by omega)) ?_
      refine TGo.goto 36 dX10_apart_32 (by decide) ?_
      refine TGo.iret dX10_apart_36 rfl ?_
      first
      | (exfalso; omega)
      | (refine leafZ hz25 ?_
         unfold zp_apart
         (repeat (first | rw [if_pos (by first | rfl | assumption | omega)] | rw [if_neg (by first | decide | assumption | omega)]))
         (try first | rfl | rw [bZ_t (by first | assumption | omega)] | rw [bZ_f (by first | assumption | omega)]))
def zp_trap (z : ZT) (a i : Int) : Int × ZT :=
  if ¬ (0 ≤ a ∧ a < z.2 3 2) then (-1, z) else (ofRZ (bfS (dfZ z a (-1)) (nxZ z a (-1)) 36) i, z)
set_option maxHeartbeats 4000000 in
theorem kX10_trap {E : ET} {sh : SHT} {nn : Nat × Nat} {V : VT} {T : Nat} {z : ZT} {a i : Int} (hT : MSh T sh) (hz : PE T V z) (W : RWZ (z.2 3)) (ra : R32 a) (ri : R32 i) : TC E mX10_trap 3 [.ref T, .int (iI a), .int (iI i)] sh nn V (ZP T sh nn (zp_trap z a i)) := by
  have w2 := W.1.2.2.1
  refine TC.intro [some (.ref T), some (.int (iI a)), some (.int (iI i))] rfl ?_
  refine TGo.al0 dX10_trap_0 rfl ?_
  refine TGo.ic0 dX10_trap_1 ?_
  refine TGo.putI (t := 18) 0 0 (hT 0 (by decide)) rfl fpX10_163_10 dX10_trap_2 rfl rfl rfl ?_
  refine TGo.al0 dX10_trap_5 rfl ?_
  refine TGo.il1 dX10_trap_6 rfl ?_
  refine TGo.cF (csV1 (y2 := mX10_isVersion) (t := 18) 2 rfl (hT 0 (by decide)) rfl rfl dX10_trap_7 q2364 q2366 qs83 okX10_isVersion npX10_isVersion rfl rfl) (kX10_isVersion hT (hz.s rfl) w2 (by omega)) ?_
  refine TGo.ifb_eq 27 dX10_trap_10 (by decide) (fun h10 => ?_) (fun h10 => ?_)
  · refine TGo.icm1 dX10_trap_27 ?_
    refine TGo.iret dX10_trap_28 rfl ?_
    first
    | (exfalso; omega)
    | (refine leafZ (hz.s rfl) ?_
       unfold zp_trap
       (repeat (first | rw [if_pos (by first | rfl | assumption | omega)] | rw [if_neg (by first | decide | assumption | omega)]))
       (try first | rfl | rw [bZ_t (by first | assumption | omega)] | rw [bZ_f (by first | assumption | omega)]))
  · refine TGo.al0 dX10_trap_13 rfl ?_
    refine TGo.al0 dX10_trap_14 rfl ?_
    refine TGo.il1 dX10_trap_15 rfl ?_
    refine TGo.icm1 dX10_trap_16 ?_
    refine TGo.cS (csV2 (y2 := mX10_isParted) (t := 18) 2 rfl (hT 0 (by decide)) rfl rfl dX10_trap_17 q2405 q2407 qs87 okX10_isParted npX10_isParted rfl rfl) (kX10_isParted hT (hz.s rfl) W (by omega) (by omega)) (fun v17 V17 h17 => ?_)
    obtain ⟨rfl, hz17, hf17, hr17⟩ := h17
    refine TGo.il2 dX10_trap_20 rfl ?_
    refine TGo.cF (csV2 (y2 := mX10_ofRow) (t := 18) 2 rfl (hT 0 (by decide)) rfl rfl dX10_trap_21 q2413 q2415 qs89 okX10_ofRow npX10_ofRow rfl rfl) (kX10_ofRow (S := (bfS (dfZ z a (-1)) (nxZ z a (-1)) 36)) hT hz17 hr17 (by omega)) ?_
    refine TGo.goto 28 dX10_trap_24 (by decide) ?_
    refine TGo.iret dX10_trap_28 rfl ?_
    first
    | (exfalso; omega)
    | (refine leafZ hz17 ?_
       unfold zp_trap
       (repeat (first | rw [if_pos (by first | rfl | assumption | omega)] | rw [if_neg (by first | decide | assumption | omega)]))
       (try first | rfl | rw [bZ_t (by first | assumption | omega)] | rw [bZ_f (by first | assumption | omega)]))
