/-! THE MODEL: the parser's steps -/
set_option maxRecDepth 100000
def emZ (z : ZT) (a b : Int) : ZT := zi (za (za z 19 (z.1 18) a) 20 (z.1 18) b) 18 (z.1 18 + 1)
def puZ (z : ZT) (a b : Int) : ZT := zi (za (za z 22 (z.1 24) a) 23 (z.1 24) b) 24 (z.1 24 + 1)
def muZ (z : ZT) (b : Int) : ZT := if z.1 14 = 0 then (if b = 0 then zi (zi z 14 1) 13 (z.1 9) else neZ z) else z
/-- one sign off the pile -/
def po1 (z : ZT) : ZT := if z.2 22 (z.1 24 - 1) = 29 ∨ z.2 22 (z.1 24 - 1) = 30 then za (zi z 24 (z.1 24 - 1)) 20 (z.2 23 (z.1 24 - 1)) (z.1 18) else emZ (zi z 24 (z.1 24 - 1)) (z.2 22 (z.1 24 - 1)) 0
def seF (l : Int) : Nat → ZT → ZT
  | 0, z => z
  | n + 1, z => if 0 < z.1 24 ∧ l ≤ bdZ (z.2 22 (z.1 24 - 1)) then seF l n (po1 z) else z
def seZ (l : Int) (z : ZT) : ZT := seF l (z.1 24).toNat z
/-- the token is where it is said to be -/
def TKO (z : ZT) : Prop := (z.1 10, z.1 11, z.1 12) = tkZ (z.2 7) (z.1 8) (z.1 9) ∧ 0 ≤ z.1 9 ∧ z.1 9 ≤ z.1 8
/-- the pile and the code are in order, within m -/
def SPZ (z : ZT) (m : Int) : Prop := (0 ≤ z.1 18 ∧ 0 ≤ z.1 24 ∧ z.1 18 + z.1 24 ≤ m) ∧ ∀ i, 0 ≤ i → i < z.1 24 → (20 ≤ z.2 22 i ∧ z.2 22 i ≤ 32) ∧ 0 ≤ z.2 23 i ∧ z.2 23 i < 400
/-- the parser is in order -/
def YW (z : ZT) (m : Int) : Prop := TPZ z ∧ TKO z ∧ (z.1 14 = 0 ∨ z.1 14 = 1) ∧ SPZ z m ∧ (0 ≤ z.1 21 ∧ z.1 21 ≤ 50) ∧ (-m ≤ z.1 25 ∧ z.1 25 ≤ 8) ∧ 0 ≤ z.1 16 ∧ z.1 16 ≤ 12
theorem YW.mono {z : ZT} {m m' : Int} (h : YW z m) (e : m ≤ m') : YW z m' := ⟨h.1, h.2.1, h.2.2.1, ⟨⟨h.2.2.2.1.1.1, h.2.2.2.1.1.2.1, Int.le_trans h.2.2.2.1.1.2.2 e⟩, h.2.2.2.1.2⟩, h.2.2.2.2.1, ⟨by have := h.2.2.2.2.2.1.1; omega, h.2.2.2.2.2.1.2⟩, h.2.2.2.2.2.2⟩
theorem skF_b (P : Int → Int) (t : Int) : ∀ (n : Nat) (i : Int), i ≤ t → i ≤ skF P t n i ∧ skF P t n i ≤ t := by
  intro n
  induction n with
  | zero => intro i h; exact ⟨Int.le_refl _, h⟩
  | succ n ih =>
    intro i h
    show i ≤ (if i < t ∧ P i = 32 then skF P t n (i + 1) else i) ∧ (if i < t ∧ P i = 32 then skF P t n (i + 1) else i) ≤ t
    split
    · have := ih (i + 1) (by omega); omega
    · omega
theorem skZ_b {P : Int → Int} {t i : Int} (h : i ≤ t) : i ≤ skZ P t i ∧ skZ P t i ≤ t := skF_b P t _ i h
theorem woF_b (P : Int → Int) (t f : Int) : ∀ (n : Nat) (i w : Int), i ≤ t → i ≤ (woF P t f n i w).1 ∧ (woF P t f n i w).1 ≤ t := by
  intro n
  induction n with
  | zero => intro i w h; exact ⟨Int.le_refl _, h⟩
  | succ n ih =>
    intro i w h
    show i ≤ (if i < t ∧ smA (P i) then woF P t f n (i + 1) _ else (i, w)).1 ∧ (if i < t ∧ smA (P i) then woF P t f n (i + 1) _ else (i, w)).1 ≤ t
    split
    · have := ih (i + 1) (if i - f < 10 then w * 32 + P i - 96 else -1) (by omega); omega
    · exact ⟨Int.le_refl _, h⟩
theorem woF_w (P : Int → Int) (t f : Int) : ∀ (n : Nat) (i w : Int) (k : Nat), (k ≤ 10 → i = f + k ∧ 0 ≤ w ∧ w < (32 : Int) ^ k) → (10 < k → f + 10 < i ∧ w = -1) → -1 ≤ (woF P t f n i w).2 ∧ (woF P t f n i w).2 ≤ (32 : Int) ^ 10 := by
  intro n
  have base : ∀ (w : Int) (k : Nat), k ≤ 10 → 0 ≤ w → w < (32 : Int) ^ k → -1 ≤ w ∧ w ≤ (32 : Int) ^ 10 := by
    intro w k hk h0 h1
    have : (32 : Int) ^ k ≤ 32 ^ 10 := by
      rcases (show k = 0 ∨ k = 1 ∨ k = 2 ∨ k = 3 ∨ k = 4 ∨ k = 5 ∨ k = 6 ∨ k = 7 ∨ k = 8 ∨ k = 9 ∨ k = 10 by omega) with e | e | e | e | e | e | e | e | e | e | e <;> (subst e; decide)
    omega
  induction n with
  | zero =>
    intro i w k h1 h2
    by_cases hk : k ≤ 10
    · exact base w k hk (h1 hk).2.1 (h1 hk).2.2
    · have := h2 (by omega); show -1 ≤ w ∧ w ≤ _; rw [this.2]; decide
  | succ n ih =>
    intro i w k h1 h2
    show -1 ≤ (if i < t ∧ smA (P i) then woF P t f n (i + 1) (if i - f < 10 then w * 32 + P i - 96 else -1) else (i, w)).2 ∧ (if i < t ∧ smA (P i) then woF P t f n (i + 1) (if i - f < 10 then w * 32 + P i - 96 else -1) else (i, w)).2 ≤ _
    split
    · rename_i hc
      by_cases hk : k < 10
      · obtain ⟨q1, q2, q3⟩ := h1 (by omega)
        rw [if_pos (by omega)]
        refine ih (i + 1) _ (k + 1) (fun _ => ⟨by omega, by omega, ?_⟩) (fun h => absurd h (by omega))
        rw [Int.pow_succ]
        have := hc.2
        unfold smA at this
        omega
      · have hf : ¬ i - f < 10 := by
          by_cases e : k ≤ 10
          · have := (h1 e).1; omega
          · have := (h2 (by omega)).1; omega
        rw [if_neg hf]
        refine ih (i + 1) _ 11 (fun h => absurd h (by decide)) (fun _ => ⟨?_, rfl⟩)
        by_cases e : k ≤ 10
        · have := (h1 e).1; omega
        · have := (h2 (by omega)).1; omega
    · by_cases hk : k ≤ 10
      · exact base w k hk (h1 hk).2.1 (h1 hk).2.2
      · have := h2 (by omega); show -1 ≤ w ∧ w ≤ _; rw [this.2]; decide
theorem dgF_b (P : Int → Int) (t : Int) : ∀ (n : Nat) (i w : Int), i ≤ t → (0 ≤ w ∧ w ≤ 10000009) → (i ≤ (dgF P t n i w).1 ∧ (dgF P t n i w).1 ≤ t) ∧ 0 ≤ (dgF P t n i w).2 ∧ (dgF P t n i w).2 ≤ 10000009 := by
  intro n
  induction n with
  | zero => intro i w h hw; exact ⟨⟨Int.le_refl _, h⟩, hw⟩
  | succ n ih =>
    intro i w h hw
    show (i ≤ (if i < t ∧ dgA (P i) then dgF P t n (i + 1) (if 1000000 < w then w else w * 10 + P i - 48) else (i, w)).1 ∧ (if i < t ∧ dgA (P i) then dgF P t n (i + 1) (if 1000000 < w then w else w * 10 + P i - 48) else (i, w)).1 ≤ t) ∧ 0 ≤ (if i < t ∧ dgA (P i) then dgF P t n (i + 1) (if 1000000 < w then w else w * 10 + P i - 48) else (i, w)).2 ∧ (if i < t ∧ dgA (P i) then dgF P t n (i + 1) (if 1000000 < w then w else w * 10 + P i - 48) else (i, w)).2 ≤ 10000009
    split
    · rename_i hc
      have hc2 := hc.2
      unfold dgA at hc2
      have := ih (i + 1) (if 1000000 < w then w else w * 10 + P i - 48) (by omega) (by split <;> omega)
      omega
    · exact ⟨⟨Int.le_refl _, h⟩, hw⟩
theorem tk_mk {f t a s w : Int} (h1 : f ≤ a ∧ a ≤ t) (h2 : s ≠ 0 → f + 1 ≤ a ∧ f < t) (h3 : 0 ≤ s ∧ s ≤ 3) (h4 : -1 ≤ w ∧ w ≤ 1125899906842624) (h5 : s = 1 → 26 < w → f + 2 ≤ a) : ((f ≤ (a, s, w).1 ∧ (a, s, w).1 ≤ t) ∧ ((a, s, w).2.1 ≠ 0 → f + 1 ≤ (a, s, w).1 ∧ f < t)) ∧ (0 ≤ (a, s, w).2.1 ∧ (a, s, w).2.1 ≤ 3) ∧ (-1 ≤ (a, s, w).2.2 ∧ (a, s, w).2.2 ≤ 1125899906842624) ∧ ((a, s, w).2.1 = 1 → 26 < (a, s, w).2.2 → f + 2 ≤ (a, s, w).1) := ⟨⟨h1, h2⟩, h3, h4, h5⟩
/-- a token: bounds -/
theorem tkZ_b {P : Int → Int} {t f : Int} (h : f ≤ t) (hb : ∀ i, 0 ≤ P i ∧ P i ≤ 255) : ((f ≤ (tkZ P t f).1 ∧ (tkZ P t f).1 ≤ t) ∧ ((tkZ P t f).2.1 ≠ 0 → f + 1 ≤ (tkZ P t f).1 ∧ f < t)) ∧ (0 ≤ (tkZ P t f).2.1 ∧ (tkZ P t f).2.1 ≤ 3) ∧ (-1 ≤ (tkZ P t f).2.2 ∧ (tkZ P t f).2.2 ≤ 1125899906842624) ∧ ((tkZ P t f).2.1 = 1 → 26 < (tkZ P t f).2.2 → f + 2 ≤ (tkZ P t f).1) := by
  have hf := hb f
  by_cases h1 : f = t
  · have e : tkZ P t f = (f, 0, 0) := if_pos h1
    rw [e]
    exact tk_mk ⟨Int.le_refl _, h⟩ (fun h => absurd rfl h) (by omega) (by omega) (fun h => absurd h (by decide))
  · by_cases h2 : smA (P f)
    · have e : tkZ P t f = ((woZ P t f f 0).1, 1, (woZ P t f f 0).2) := (if_neg h1).trans (if_pos h2)
      have e2 : woZ P t f f 0 = woZ P t f (f + 1) (P f - 96) := by
        rw [woZ_eq, if_pos ⟨by omega, h2⟩, if_pos (by omega)]
        congr 1; omega
      have b1 := woF_b P t f (t - (f + 1)).toNat (f + 1) (P f - 96) (by omega)
      have b2 := woF_w P t f (t - (f + 1)).toNat (f + 1) (P f - 96) 1 (fun _ => by unfold smA at h2; constructor <;> omega) (fun h => absurd h (by decide))
      have b3 : 26 < (woZ P t f (f + 1) (P f - 96)).2 → f + 2 ≤ (woZ P t f (f + 1) (P f - 96)).1 := by
        intro hw
        by_cases c : f + 1 < t ∧ smA (P (f + 1))
        · rw [woZ_eq, if_pos c]
          have := (woF_b P t f (t - (f + 1 + 1)).toNat (f + 1 + 1) (if f + 1 - f < 10 then (P f - 96) * 32 + P (f + 1) - 96 else -1) (by omega)).1
          show f + 2 ≤ (woF P t f (t - (f + 1 + 1)).toNat (f + 1 + 1) _).1
          omega
        · rw [woZ_eq, if_neg c] at hw
          unfold smA at h2
          exfalso
          have : 26 < P f - 96 := hw
          omega
      rw [e, e2]
      exact tk_mk ⟨by have := b1.1; show f ≤ (woF P t f (t - (f + 1)).toNat (f + 1) (P f - 96)).1; omega, b1.2⟩ (fun _ => ⟨b1.1, by omega⟩) (by omega) b2 (fun _ => b3)
    · by_cases h3 : dgA (P f)
      · have e : tkZ P t f = ((dgZ P t f 0).1, 2, (dgZ P t f 0).2) := (if_neg h1).trans ((if_neg h2).trans (if_pos h3))
        have e2 : dgZ P t f 0 = dgZ P t (f + 1) (P f - 48) := by
          rw [dgZ_eq, if_pos ⟨by omega, h3⟩, if_neg (by decide)]
          congr 1; omega
        have b1 := dgF_b P t (t - (f + 1)).toNat (f + 1) (P f - 48) (by omega) (by unfold dgA at h3; omega)
        rw [e, e2]
        exact tk_mk ⟨by have := b1.1.1; show f ≤ (dgF P t (t - (f + 1)).toNat (f + 1) (P f - 48)).1; omega, b1.1.2⟩ (fun _ => ⟨b1.1.1, by omega⟩) (by omega) ⟨by have := b1.2.1; show -1 ≤ (dgF P t (t - (f + 1)).toNat (f + 1) (P f - 48)).2; omega, by have := b1.2.2; show (dgF P t (t - (f + 1)).toNat (f + 1) (P f - 48)).2 ≤ _; omega⟩ (fun h => absurd h (by decide))
      · have e : tkZ P t f = (f + 1, 3, P f) := (if_neg h1).trans ((if_neg h2).trans (if_neg h3))
        rw [e]
        exact tk_mk ⟨by omega, by omega⟩ (fun _ => ⟨Int.le_refl _, by omega⟩) (by omega) (by omega) (fun h => absurd h (by decide))
/-- the token's bounds, in the parser -/
theorem TKO.b {z : ZT} (h : TKO z) (Y : TPZ z) : ((z.1 9 ≤ z.1 10 ∧ z.1 10 ≤ z.1 8) ∧ (z.1 11 ≠ 0 → z.1 9 + 1 ≤ z.1 10 ∧ z.1 9 < z.1 8)) ∧ (0 ≤ z.1 11 ∧ z.1 11 ≤ 3) ∧ (-1 ≤ z.1 12 ∧ z.1 12 ≤ 1125899906842624) ∧ (z.1 11 = 1 → 26 < z.1 12 → z.1 9 + 2 ≤ z.1 10) := by
  have b := tkZ_b h.2.2 Y.2
  rw [← h.1] at b
  exact b
theorem neZ_o {z : ZT} {k : Int} (h : (k == 9 || k == 10 || k == 11 || k == 12) = false) : (neZ z).1 k = z.1 k := by
  have h : ((k ≠ 9 ∧ k ≠ 10) ∧ k ≠ 11) ∧ k ≠ 12 := by simpa using h
  show (if k = 12 then _ else if k = 11 then _ else if k = 10 then _ else if k = 9 then _ else z.1 k) = _
  rw [if_neg h.2, if_neg h.1.2, if_neg h.1.1.2, if_neg h.1.1.1]
theorem neZ_9 {z : ZT} : (neZ z).1 9 = skZ (z.2 7) (z.1 8) (z.1 10) := rfl
theorem neZ_t {z : ZT} (h : z.1 10 ≤ z.1 8) (h0 : 0 ≤ z.1 10) : TKO (neZ z) := by
  have b := skZ_b (P := z.2 7) h
  exact ⟨rfl, by show 0 ≤ skZ (z.2 7) (z.1 8) (z.1 10); omega, b.2⟩
theorem YW.nx {z : ZT} {m : Int} (h : YW z m) : YW (neZ z) m := by
  have b := h.2.1.b h.1
  have := h.2.1.2
  exact ⟨h.1, neZ_t b.1.1.2 (by omega), h.2.2.1, h.2.2.2⟩
theorem YW.nx9 {z : ZT} {m : Int} (h : YW z m) : z.1 9 ≤ (neZ z).1 9 ∧ (z.1 11 ≠ 0 → z.1 9 + 1 ≤ (neZ z).1 9) ∧ (z.1 11 = 1 → 26 < z.1 12 → z.1 9 + 2 ≤ (neZ z).1 9) ∧ (neZ z).1 9 ≤ z.1 8 := by
  have b := h.2.1.b h.1
  have s := skZ_b (P := z.2 7) b.1.1.2
  rw [neZ_9]
  refine ⟨by omega, fun e => ?_, fun e1 e2 => ?_, s.2⟩
  · have := (b.1.2 e).1; omega
  · have := b.2.2.2 e1 e2; omega
theorem muZ_ok {z : ZT} {b : Int} (h : (muZ z b).1 14 = 0) : z.1 14 = 0 ∧ b ≠ 0 ∧ muZ z b = neZ z := by
  unfold muZ at h ⊢
  by_cases h1 : z.1 14 = 0
  · by_cases h2 : b = 0
    · rw [if_pos h1, if_pos h2] at h
      exact absurd (show (1 : Int) = 0 from h) (by decide)
    · rw [if_pos h1, if_neg h2]; exact ⟨h1, h2, rfl⟩
  · rw [if_neg h1] at h; exact absurd h h1
theorem YW.mu {z : ZT} {m b : Int} (h : YW z m) : YW (muZ z b) m := by
  unfold muZ
  split
  · split
    · exact ⟨h.1, h.2.1, Or.inr rfl, h.2.2.2⟩
    · exact h.nx
  · exact h
theorem YW.mu9 {z : ZT} {m b : Int} (h : YW z m) : z.1 9 ≤ (muZ z b).1 9 := by
  have := h.nx9.1
  unfold muZ
  split
  · split
    · exact Int.le_refl _
    · exact this
  · exact Int.le_refl _
theorem SPZ.em {z : ZT} {m a b : Int} (h : SPZ z m) (hm : m ≤ 400) : SPZ (emZ z a b) (m + 1) := by
  obtain ⟨h1, h2⟩ := h
  exact ⟨⟨by show 0 ≤ z.1 18 + 1; omega, h1.2.1, by show z.1 18 + 1 + z.1 24 ≤ m + 1; omega⟩, h2⟩
theorem SPZ.pu {z : ZT} {m a b : Int} (h : SPZ z m) (ha : 20 ≤ a ∧ a ≤ 32) (hb : 0 ≤ b ∧ b < 400) : SPZ (puZ z a b) (m + 1) := by
  obtain ⟨h1, h2⟩ := h
  refine ⟨⟨h1.1, by show 0 ≤ z.1 24 + 1; omega, by show z.1 18 + (z.1 24 + 1) ≤ m + 1; omega⟩, fun i q1 q2 => ?_⟩
  have q3 : i < z.1 24 + 1 := q2
  by_cases e : i = z.1 24
  · subst e
    have e1 : (puZ z a b).2 22 (z.1 24) = a := by
      show u2 (u2 z.2 22 (z.1 24) a) 23 (z.1 24) b 22 (z.1 24) = a
      rw [u2_n (Or.inl (by decide)), u2_s]
    have e2 : (puZ z a b).2 23 (z.1 24) = b := u2_s
    rw [e1, e2]; exact ⟨ha, hb⟩
  · have e1 : (puZ z a b).2 22 i = z.2 22 i := by
      show u2 (u2 z.2 22 (z.1 24) a) 23 (z.1 24) b 22 i = _
      rw [u2_n (Or.inl (by decide)), u2_n (Or.inr e)]
    have e2 : (puZ z a b).2 23 i = z.2 23 i := by
      show u2 (u2 z.2 22 (z.1 24) a) 23 (z.1 24) b 23 i = _
      rw [u2_n (Or.inr e), u2_n (Or.inl (by decide))]
    rw [e1, e2]; exact h2 i q1 (by omega)
theorem po1_1 {z : ZT} {k : Int} (h : (k == 18 || k == 24) = false) : (po1 z).1 k = z.1 k := by
  have h : k ≠ 18 ∧ k ≠ 24 := by simpa using h
  unfold po1
  split
  · show (if k = 24 then _ else z.1 k) = _
    rw [if_neg h.2]
  · show (if k = 18 then _ else if k = 24 then _ else z.1 k) = _
    rw [if_neg h.1, if_neg h.2]
theorem po1_24 {z : ZT} : (po1 z).1 24 = z.1 24 - 1 := by
  unfold po1
  split <;> rfl
theorem po1_2 {z : ZT} {k : Nat} (h : (k == 19 || k == 20) = false) : (po1 z).2 k = z.2 k := by
  have h : k ≠ 19 ∧ k ≠ 20 := by simpa using h
  unfold po1
  split
  · funext i; exact u2_n (Or.inl h.2)
  · funext i; exact (u2_n (Or.inl h.2)).trans (u2_n (Or.inl h.1))
theorem po1_18 {z : ZT} : z.1 18 ≤ (po1 z).1 18 ∧ (po1 z).1 18 ≤ z.1 18 + 1 := by
  unfold po1
  split
  · show z.1 18 ≤ z.1 18 ∧ z.1 18 ≤ z.1 18 + 1; omega
  · show z.1 18 ≤ z.1 18 + 1 ∧ z.1 18 + 1 ≤ z.1 18 + 1; omega
theorem SPZ.po {z : ZT} {m : Int} (h : SPZ z m) (hp : 0 < z.1 24) : SPZ (po1 z) m := by
  obtain ⟨h1, h2⟩ := h
  have a := @po1_18 z
  refine ⟨⟨by omega, by rw [po1_24]; omega, by rw [po1_24]; omega⟩, fun i q1 q2 => ?_⟩
  rw [po1_24] at q2
  rw [po1_2 rfl, po1_2 rfl]
  exact h2 i q1 (by omega)
theorem seF_1 (l : Int) {k : Int} (h : (k == 18 || k == 24) = false) : ∀ (n : Nat) (z : ZT), (seF l n z).1 k = z.1 k := by
  intro n
  induction n with
  | zero => intro z; rfl
  | succ n ih =>
    intro z
    show (if 0 < z.1 24 ∧ l ≤ bdZ (z.2 22 (z.1 24 - 1)) then seF l n (po1 z) else z).1 k = _
    split
    · rw [ih, po1_1 h]
    · rfl
theorem seF_2 (l : Int) {k : Nat} (h : (k == 19 || k == 20) = false) : ∀ (n : Nat) (z : ZT), (seF l n z).2 k = z.2 k := by
  intro n
  induction n with
  | zero => intro z; rfl
  | succ n ih =>
    intro z
    show (if 0 < z.1 24 ∧ l ≤ bdZ (z.2 22 (z.1 24 - 1)) then seF l n (po1 z) else z).2 k = _
    split
    · rw [ih, po1_2 h]
    · rfl
theorem seF_p (l : Int) {m : Int} : ∀ (n : Nat) (z : ZT), SPZ z m → SPZ (seF l n z) m := by
  intro n
  induction n with
  | zero => intro z h; exact h
  | succ n ih =>
    intro z h
    show SPZ (if 0 < z.1 24 ∧ l ≤ bdZ (z.2 22 (z.1 24 - 1)) then seF l n (po1 z) else z) m
    split
    · rename_i hc; exact ih _ (h.po hc.1)
    · exact h
/-- a bracket stays on the pile -/
theorem seF_b (l : Int) (hl : 1 ≤ l) {i : Int} : ∀ (n : Nat) (z : ZT), i < z.1 24 → 31 ≤ z.2 22 i → i < (seF l n z).1 24 := by
  intro n
  induction n with
  | zero => intro z h _; exact h
  | succ n ih =>
    intro z h hb
    show i < (if 0 < z.1 24 ∧ l ≤ bdZ (z.2 22 (z.1 24 - 1)) then seF l n (po1 z) else z).1 24
    split
    · rename_i hc
      refine ih _ ?_ (by rw [po1_2 rfl]; exact hb)
      rw [po1_24]
      have : i ≠ z.1 24 - 1 := fun e => by
        rw [← e] at hc
        have := hc.2
        unfold bdZ at this
        rw [if_neg (by omega)] at this
        omega
      omega
    · exact h
theorem TPZ.o {z z' : ZT} (h : TPZ z) (e1 : z'.1 8 = z.1 8) (e2 : z'.2 7 = z.2 7) : TPZ z' := by
  unfold TPZ; rw [e1, e2]; exact h
theorem YW.se {z : ZT} {m l : Int} (h : YW z m) : YW (seZ l z) m := by
  have e : ∀ k, (k == 18 || k == 24) = false → (seZ l z).1 k = z.1 k := fun k hk => seF_1 l hk _ z
  have e7 : (seZ l z).2 7 = z.2 7 := seF_2 l rfl _ z
  refine ⟨h.1.o (e 8 rfl) e7, ?_, ?_, seF_p l _ z h.2.2.2.1, ?_⟩
  · unfold TKO; rw [e 10 rfl, e 11 rfl, e 12 rfl, e 8 rfl, e 9 rfl, e7]; exact h.2.1
  · rw [e 14 rfl]; exact h.2.2.1
  · rw [e 21 rfl, e 25 rfl, e 16 rfl]; exact h.2.2.2.2
theorem seZ_1 {l k : Int} {z : ZT} (h : (k == 18 || k == 24) = false) : (seZ l z).1 k = z.1 k := seF_1 l h _ z
theorem YW.em {z : ZT} {m a b : Int} (h : YW z m) (hm : m ≤ 400) : YW (emZ z a b) (m + 1) := ⟨h.1, h.2.1, h.2.2.1, h.2.2.2.1.em hm, h.2.2.2.2.1, ⟨by have := h.2.2.2.2.2.1.1; show -(m + 1) ≤ z.1 25; omega, h.2.2.2.2.2.1.2⟩, h.2.2.2.2.2.2⟩
theorem YW.pu {z : ZT} {m a b : Int} (h : YW z m) (ha : 20 ≤ a ∧ a ≤ 32) (hb : 0 ≤ b ∧ b < 400) : YW (puZ z a b) (m + 1) := ⟨h.1, h.2.1, h.2.2.1, h.2.2.2.1.pu ha hb, h.2.2.2.2.1, ⟨by have := h.2.2.2.2.2.1.1; show -(m + 1) ≤ z.1 25; omega, h.2.2.2.2.2.1.2⟩, h.2.2.2.2.2.2⟩
theorem inZ_b {P : Int → Int} : ∀ {k : Nat}, inZ P k ≠ -1 → ∃ i : Int, (0 ≤ i ∧ i < k) ∧ P i = inZ P k ∧ 31 ≤ P i := by
  intro k
  induction k with
  | zero => intro h; exact absurd rfl h
  | succ k ih =>
    intro h
    by_cases e : P (k : Int) < 31
    · have e2 : inZ P (k + 1) = inZ P k := if_pos e
      rw [e2] at h ⊢
      obtain ⟨i, q1, q2⟩ := ih h
      exact ⟨i, by omega, q2⟩
    · have e2 : inZ P (k + 1) = P (k : Int) := if_neg e
      rw [e2]
      exact ⟨k, by omega, rfl, by omega⟩
/-- one more -/
def opZ1 (m : ZT) (op : Int) : ZT := if m.1 14 = 0 then puZ (zi m 25 (m.1 25 + 1)) op 0 else m
def opZ (z : ZT) (op : Int) : ZT := opZ1 (muZ z (bZ (z.1 25 < 8))) op
def leZ1 (m : ZT) (op ag : Int) : ZT := if m.1 14 = 0 then zi (emZ m op ag) 21 (m.1 21 + 1) else m
def leZ (z : ZT) (b op ag : Int) : ZT := leZ1 (muZ z (bZ (b ≠ 0 ∧ z.1 21 < 50))) op ag
def itsZ (z : ZT) : Int := if z.1 15 = 0 then paZ mW (z.1 11) (z.1 12) 8 else paZ mPW (z.1 11) (z.1 12) 6
abbrev diZ (z : ZT) : Prop := z.1 11 = 2 ∧ z.1 12 ≤ 1000
abbrev wdA (z : ZT) (w : Int) : Prop := z.1 11 = 1 ∧ z.1 12 = w
abbrev sgA (z : ZT) (c : Int) : Prop := z.1 11 = 3 ∧ z.1 12 = c
def rpZ (z : ZT) : Int × ZT := if sgA z 91 then (1, opZ z 32) else (3, leZ z (bZ (itsZ z ≠ -1 ∨ diZ z)) (if itsZ z = -1 then 0 else itsZ z) (if diZ z then z.1 12 else 0))
def plZ (z : ZT) : Int × ZT := if wdA z 14836 then (0, neZ (puZ z 28 0)) else if sgA z 40 then (0, opZ z 31) else rpZ z
def sgZ (z : ZT) : Int := if sgA z 43 then 20 else if sgA z 45 then 21 else if sgA z 42 then 22 else if sgA z 47 then 23 else if sgA z 37 then 24 else -1
def nnZ (z : ZT) : Int := inZ (z.2 22) (z.1 24).toNat
def icF (P : Int → Int) : Nat → Int
  | 0 => 0
  | k + 1 => if 20 ≤ P (k : Int) ∧ P (k : Int) ≤ 24 then icF P k else bZ (25 ≤ P (k : Int) ∧ P (k : Int) ≤ 27)
def icZ (z : ZT) : Int := icF (z.2 22) (z.1 24).toNat
def clZ1 (s : ZT) : ZT := zi (zi s 24 (s.1 24 - 1)) 25 (s.1 25 - 1)
def clZ (l : Int) (m : ZT) : ZT := if m.1 14 = 0 then clZ1 (seZ l m) else m
def cmZ (z : ZT) : Int := if sgA z 60 then 25 else if sgA z 62 then 26 else 27
def cpZ1 (m : ZT) (op : Int) : ZT := if m.1 14 = 0 then puZ (seZ 5 m) op 0 else m
def bsZ (z : ZT) (test : Int) : Int × ZT := if sgZ z ≠ -1 then (1, neZ (puZ (seZ (bdZ (sgZ z)) z) (sgZ z) 0)) else if nnZ z = 32 then (3, clZ 5 (muZ z (bZ (sgA z 93)))) else if nnZ z = -1 ∧ test = 0 then (4, z) else if icZ z = 1 then (2, z) else (1, cpZ1 (muZ z (bZ (cmZ z ≠ 27 ∨ sgA z 61))) (cmZ z))
def anZ (s : ZT) (a : Int) : ZT := neZ (emZ (puZ s a (s.1 18)) a 0)
def btZ (z : ZT) : Int × ZT := if wdA z 1476 then (0, anZ (seZ 2 z) 29) else if wdA z 498 then (0, anZ (seZ 1 z) 30) else if nnZ z = -1 then (4, z) else (2, clZ 1 (muZ z (bZ (sgA z 41))))
def xsZ (test tu : Int) (z : ZT) : Int × ZT := if tu = 0 then plZ z else if tu = 1 then rpZ z else if tu = 3 then bsZ z test else btZ z
def rxF (test : Int) : Nat → Int → ZT → ZT
  | 0, _, z => z
  | n + 1, tu, z => if z.1 14 = 0 ∧ tu ≠ 4 then rxF test n (xsZ test tu z).1 (xsZ test tu z).2 else z
def exZ (test : Int) (z : ZT) : ZT := seZ 1 (rxF test 1000 (if test = 0 then 1 else 0) (zi (zi z 24 0) 25 0))
set_option maxHeartbeats 4000000 in
theorem kX10_emit {E : ET} {sh : SHT} {nn : Nat × Nat} {V : VT} {T : Nat} {z : ZT} {a b : Int} (hT : MSh T sh) (hz : PZ T V z) (hc : 0 ≤ z.1 18 ∧ z.1 18 < 400) : TN E mX10_emit 1 [.ref T, .int (iI a), .int (iI b)] sh nn V (fun V1 => PZ T V1 (emZ z a b)) := by
  refine TC.intro [some (.ref T), some (.int (iI a)), some (.int (iI b))] rfl ?_
  refine TGo.al0 dX10_emit_0 rfl ?_
  refine TGo.getS (t := 18) 19 19 (T + 7) (hT 0 (by decide)) rfl fgX10_33_10 dX10_emit_1 rfl rfl rfl ?_
  refine TGo.al0 dX10_emit_4 rfl ?_
  refine TGo.getI (t := 18) 18 18 (hT 0 (by decide)) rfl fgX10_288_10 dX10_emit_5 rfl rfl rfl ?_
  refine TGo.toz _ (hz.1 18 rfl) ?_
  refine TGo.il1 dX10_emit_8 rfl ?_
  refine TGo.iast dX10_emit_9 (hT 7 (by decide)) (by omega) rfl ?_
  refine TGo.al0 dX10_emit_10 rfl ?_
  refine TGo.getS (t := 18) 20 20 (T + 8) (hT 0 (by decide)) rfl fgX10_36_10 dX10_emit_11 rfl rfl rfl ?_
  refine TGo.al0 dX10_emit_14 rfl ?_
  refine TGo.getI (t := 18) 18 18 (hT 0 (by decide)) rfl fgX10_288_10 dX10_emit_15 rfl rfl rfl ?_
  refine TGo.toz _ ((u2_n (Or.inl (by omega))).trans (hz.1 18 rfl)) ?_
  refine TGo.il2 dX10_emit_18 rfl ?_
  refine TGo.iast dX10_emit_19 (hT 8 (by decide)) (by omega) rfl ?_
  refine TGo.al0 dX10_emit_20 rfl ?_
  refine TGo.dup dX10_emit_21 rfl ?_
  refine TGo.getI (t := 18) 18 18 (hT 0 (by decide)) rfl fgX10_288_10 dX10_emit_22 rfl rfl rfl ?_
  refine TGo.toz _ ((u2_n (Or.inl (by omega))).trans ((u2_n (Or.inl (by omega))).trans (hz.1 18 rfl))) ?_
  refine TGo.ic1 dX10_emit_25 ?_
  refine TGo.iadd dX10_emit_26 ?_
  refine TGo.putI (t := 18) 18 18 (hT 0 (by decide)) rfl fpX10_288_10 dX10_emit_27 rfl rfl rfl ?_
  refine TGo.vret dX10_emit_30 rfl ?_
  first
  | (exfalso; omega)
  | (refine ⟨rfl, rfl, rfl, PZ.eq (((hz.a 19 rfl rfl).a 20 rfl rfl).i rfl) ?_⟩
     (repeat (first | rw [if_pos (by first | rfl | assumption | omega)] | rw [if_neg (by first | decide | assumption | omega)]))
     (try first | rfl))
set_option maxHeartbeats 4000000 in
theorem kX10_push {E : ET} {sh : SHT} {nn : Nat × Nat} {V : VT} {T : Nat} {z : ZT} {a b : Int} (hT : MSh T sh) (hz : PZ T V z) (hc : 0 ≤ z.1 24 ∧ z.1 24 < 400) : TN E mX10_push 1 [.ref T, .int (iI a), .int (iI b)] sh nn V (fun V1 => PZ T V1 (puZ z a b)) := by
  refine TC.intro [some (.ref T), some (.int (iI a)), some (.int (iI b))] rfl ?_
  refine TGo.al0 dX10_push_0 rfl ?_
  refine TGo.getS (t := 18) 22 22 (T + 9) (hT 0 (by decide)) rfl fgX10_39_10 dX10_push_1 rfl rfl rfl ?_
  refine TGo.al0 dX10_push_4 rfl ?_
  refine TGo.getI (t := 18) 24 24 (hT 0 (by decide)) rfl fgX10_291_10 dX10_push_5 rfl rfl rfl ?_
  refine TGo.toz _ (hz.1 24 rfl) ?_
  refine TGo.il1 dX10_push_8 rfl ?_
  refine TGo.iast dX10_push_9 (hT 9 (by decide)) (by omega) rfl ?_
  refine TGo.al0 dX10_push_10 rfl ?_
  refine TGo.getS (t := 18) 23 23 (T + 10) (hT 0 (by decide)) rfl fgX10_42_10 dX10_push_11 rfl rfl rfl ?_
  refine TGo.al0 dX10_push_14 rfl ?_
  refine TGo.getI (t := 18) 24 24 (hT 0 (by decide)) rfl fgX10_291_10 dX10_push_15 rfl rfl rfl ?_
  refine TGo.toz _ ((u2_n (Or.inl (by omega))).trans (hz.1 24 rfl)) ?_
  refine TGo.il2 dX10_push_18 rfl ?_
  refine TGo.iast dX10_push_19 (hT 10 (by decide)) (by omega) rfl ?_
  refine TGo.al0 dX10_push_20 rfl ?_
  refine TGo.dup dX10_push_21 rfl ?_
  refine TGo.getI (t := 18) 24 24 (hT 0 (by decide)) rfl fgX10_291_10 dX10_push_22 rfl rfl rfl ?_
  refine TGo.toz _ ((u2_n (Or.inl (by omega))).trans ((u2_n (Or.inl (by omega))).trans (hz.1 24 rfl))) ?_
  refine TGo.ic1 dX10_push_25 ?_
  refine TGo.iadd dX10_push_26 ?_
  refine TGo.putI (t := 18) 24 24 (hT 0 (by decide)) rfl fpX10_291_10 dX10_push_27 rfl rfl rfl ?_
  refine TGo.vret dX10_push_30 rfl ?_
  first
  | (exfalso; omega)
  | (refine ⟨rfl, rfl, rfl, PZ.eq (((hz.a 22 rfl rfl).a 23 rfl rfl).i rfl) ?_⟩
     (repeat (first | rw [if_pos (by first | rfl | assumption | omega)] | rw [if_neg (by first | decide | assumption | omega)]))
     (try first | rfl))
set_option maxHeartbeats 4000000 in
theorem kX10_must {E : ET} {sh : SHT} {nn : Nat × Nat} {V : VT} {T : Nat} {z : ZT} {m : Int} {b : Int} (hT : MSh T sh) (hz : PZ T V z) (Y : YW z m) (hb : b = 0 ∨ b = 1) : TN E mX10_must 3 [.ref T, .int (iI b)] sh nn V (fun V1 => PZ T V1 (muZ z b)) := by
  have hYb := Y.2.2.1
  have hYt := Y.2.1.b Y.1
  have hYf := Y.2.1.2
  refine TC.intro [some (.ref T), some (.int (iI b))] rfl ?_
  refine TGo.al0 dX10_must_0 rfl ?_
  refine TGo.getI (t := 18) 14 14 (hT 0 (by decide)) rfl fgX10_249_10 dX10_must_1 rfl rfl rfl ?_
  refine TGo.toz _ (hz.1 14 rfl) ?_
  refine TGo.if_ne 24 dX10_must_4 (by decide) (by omega) (fun h4 => ?_) (fun h4 => ?_)
  · refine TGo.al0 dX10_must_24 rfl ?_
    refine TGo.getI (t := 18) 14 14 (hT 0 (by decide)) rfl fgX10_249_10 dX10_must_25 rfl rfl rfl ?_
    refine TGo.toz _ (hz.1 14 rfl) ?_
    refine TGo.if_ne 35 dX10_must_28 (by decide) (by omega) (fun h28 => ?_) (fun h28 => ?_)
    · refine TGo.vret dX10_must_35 rfl ?_
      first
      | (exfalso; omega)
      | (refine ⟨rfl, rfl, rfl, PZ.eq hz ?_⟩
         unfold muZ
         (repeat (first | rw [if_pos (by first | rfl | assumption | omega)] | rw [if_neg (by first | decide | assumption | omega)]))
         (try first | rfl))
    · refine TGo.al0 dX10_must_31 rfl ?_
      refine TGo.cN (csV0 (y2 := mX10_next) (t := 18) 2 rfl (hT 0 (by decide)) rfl rfl dX10_must_32 q2170 q2172 qs51 okX10_next npX10_next rfl rfl) (kX10_next hT hz Y.1 (by omega)) (fun V32 hz32 => ?_)
      refine TGo.vret dX10_must_35 rfl ?_
      first
      | (exfalso; omega)
      | (refine ⟨rfl, rfl, rfl, PZ.eq hz32 ?_⟩
         unfold muZ
         (repeat (first | rw [if_pos (by first | rfl | assumption | omega)] | rw [if_neg (by first | decide | assumption | omega)]))
         (try first | rfl))
  · refine TGo.il1 dX10_must_7 rfl ?_
    refine TGo.if_ne 24 dX10_must_8 (by decide) (by omega) (fun h8 => ?_) (fun h8 => ?_)
    · refine TGo.al0 dX10_must_24 rfl ?_
      refine TGo.getI (t := 18) 14 14 (hT 0 (by decide)) rfl fgX10_249_10 dX10_must_25 rfl rfl rfl ?_
      refine TGo.toz _ (hz.1 14 rfl) ?_
      refine TGo.if_ne 35 dX10_must_28 (by decide) (by omega) (fun h28 => ?_) (fun h28 => ?_)
      · refine TGo.vret dX10_must_35 rfl ?_
        first
        | (exfalso; omega)
        | (refine ⟨rfl, rfl, rfl, PZ.eq hz ?_⟩
           unfold muZ
           (repeat (first | rw [if_pos (by first | rfl | assumption | omega)] | rw [if_neg (by first | decide | assumption | omega)]))
           (try first | rfl))
      · refine TGo.al0 dX10_must_31 rfl ?_
        refine TGo.cN (csV0 (y2 := mX10_next) (t := 18) 2 rfl (hT 0 (by decide)) rfl rfl dX10_must_32 q2170 q2172 qs51 okX10_next npX10_next rfl rfl) (kX10_next hT hz Y.1 (by omega)) (fun V32 hz32 => ?_)
        refine TGo.vret dX10_must_35 rfl ?_
        first
        | (exfalso; omega)
        | (refine ⟨rfl, rfl, rfl, PZ.eq hz32 ?_⟩
           unfold muZ
           (repeat (first | rw [if_pos (by first | rfl | assumption | omega)] | rw [if_neg (by first | decide | assumption | omega)]))
           (try first | rfl))
    · refine TGo.al0 dX10_must_11 rfl ?_
      refine TGo.ic1 dX10_must_12 ?_
      refine TGo.putZ (t := 18) 14 14 (hT 0 (by decide)) rfl fpX10_249_10 dX10_must_13 rfl ⟨rfl, (by first | exact Or.inl rfl | exact Or.inr rfl | exact bZ_or _ | assumption)⟩ rfl ?_
      refine TGo.al0 dX10_must_16 rfl ?_
      refine TGo.al0 dX10_must_17 rfl ?_
      refine TGo.getI (t := 18) 9 9 (hT 0 (by decide)) rfl fgX10_256_10 dX10_must_18 rfl rfl rfl ?_
      refine TGo.toz _ ((u2_n (Or.inr (by decide))).trans (hz.1 9 rfl)) ?_
      refine TGo.putI (t := 18) 13 13 (hT 0 (by decide)) rfl fpX10_26_10 dX10_must_21 rfl rfl rfl ?_
      refine TGo.al0 dX10_must_24 rfl ?_
      refine TGo.getI (t := 18) 14 14 (hT 0 (by decide)) rfl fgX10_249_10 dX10_must_25 rfl rfl rfl ?_
      refine TGo.toz _ ((u2_n (Or.inr (by decide))).trans (u2_s)) ?_
      refine TGo.if_ne 35 dX10_must_28 (by decide) (by omega) (fun h28 => ?_) (fun h28 => ?_)
      · refine TGo.vret dX10_must_35 rfl ?_
        first
        | (exfalso; omega)
        | (refine ⟨rfl, rfl, rfl, PZ.eq ((hz.i rfl).i rfl) ?_⟩
           unfold muZ
           (repeat (first | rw [if_pos (by first | rfl | assumption | omega)] | rw [if_neg (by first | decide | assumption | omega)]))
           (try first | rfl))
      · refine TGo.al0 dX10_must_31 rfl ?_
        refine TGo.cN (csV0 (y2 := mX10_next) (t := 18) 2 rfl (hT 0 (by decide)) rfl rfl dX10_must_32 q2170 q2172 qs51 okX10_next npX10_next rfl rfl) (kX10_next hT ((hz.i rfl).i rfl) Y.1 (by omega)) (fun V32 hz32 => ?_)
        refine TGo.vret dX10_must_35 rfl ?_
        first
        | (exfalso; omega)
        | (refine ⟨rfl, rfl, rfl, PZ.eq hz32 ?_⟩
           unfold muZ
           (repeat (first | rw [if_pos (by first | rfl | assumption | omega)] | rw [if_neg (by first | decide | assumption | omega)]))
           (try first | rfl))
theorem bdZ_r {o : Int} : 0 ≤ bdZ o ∧ bdZ o ≤ 6 := by
  unfold bdZ
  (repeat' split) <;> omega
theorem seZ_eq {l : Int} {z : ZT} (h : 0 ≤ z.1 24) : seZ l z = if 0 < z.1 24 ∧ l ≤ bdZ (z.2 22 (z.1 24 - 1)) then seZ l (po1 z) else z := by
  by_cases e : 0 < z.1 24
  · have e2 : (z.1 24).toNat = ((po1 z).1 24).toNat + 1 := by rw [po1_24]; omega
    show seF l (z.1 24).toNat z = _
    rw [e2]; rfl
  · show seF l (z.1 24).toNat z = _
    rw [show (z.1 24).toNat = 0 by omega, if_neg (fun h => e h.1)]; rfl
set_option maxHeartbeats 4000000 in
theorem lX10_settle {E : ET} {sh : SHT} {nn : Nat × Nat} {T : Nat} {l : Int} (hT : MSh T sh) (hl : R32 l) : ∀ (n : Nat) (z : ZT) (V : VT), (z.1 24).toNat < n → SPZ z 400 → PZ T V z → TGo E mX10_settle 2 0 [some (.ref T), some (.int (iI l))] [] sh nn V (ZPN T sh nn (seZ l z)) := by
  intro n
  induction n with
  | zero => intro z V h; omega
  | succ n ih =>
    intro z V hn S hz
    have hS := S.1
    have hbd := @bdZ_r (z.2 22 (z.1 24 - 1))
    refine TGo.al0 dX10_settle_0 rfl ?_
    refine TGo.getI (t := 18) 24 24 (hT 0 (by decide)) rfl fgX10_291_10 dX10_settle_1 rfl rfl rfl ?_
    refine TGo.toz _ (hz.1 24 rfl) ?_
    refine TGo.if_le 101 dX10_settle_4 (by decide) (by omega) (fun h4 => ?_) (fun h4 => ?_)
    · refine TGo.vret dX10_settle_101 rfl ?_
      exact ⟨rfl, rfl, rfl, hz.eq (by rw [seZ_eq hS.2.1, if_neg (by omega)])⟩
    · refine TGo.al0 dX10_settle_7 rfl ?_
      refine TGo.getS (t := 18) 22 22 (T + 9) (hT 0 (by decide)) rfl fgX10_39_10 dX10_settle_8 rfl rfl rfl ?_
      refine TGo.al0 dX10_settle_11 rfl ?_
      refine TGo.getI (t := 18) 24 24 (hT 0 (by decide)) rfl fgX10_291_10 dX10_settle_12 rfl rfl rfl ?_
      refine TGo.toz _ (hz.1 24 rfl) ?_
      refine TGo.ic1 dX10_settle_15 ?_
      refine TGo.isub dX10_settle_16 ?_
      refine TGo.iald dX10_settle_17 (hT 9 (by decide)) (by omega) rfl ?_
      refine TGo.toz _ (hz.2.1 22 (by decide) _) ?_
      have he0 := S.2 (z.1 24 - 1) (by omega) (by omega)
      refine TGo.cF (csS1 (y2 := mX10_binds) 1 rfl dX10_settle_18 q2247 q2248 okX10_binds npX10_binds rfl rfl) (kX10_binds (by omega)) ?_
      refine TGo.il1 dX10_settle_21 rfl ?_
      refine TGo.icmp_lt 101 dX10_settle_22 (by decide) (by omega) (fun h22 => ?_) (fun h22 => ?_)
      · refine TGo.vret dX10_settle_101 rfl ?_
        exact ⟨rfl, rfl, rfl, hz.eq (by rw [seZ_eq hS.2.1, if_neg (by omega)])⟩
      · have he := S.2 (z.1 24 - 1) (by omega) (by omega)
        refine TGo.al0 dX10_settle_25 rfl ?_
        refine TGo.dup dX10_settle_26 rfl ?_
        refine TGo.getI (t := 18) 24 24 (hT 0 (by decide)) rfl fgX10_291_10 dX10_settle_27 rfl rfl rfl ?_
        refine TGo.toz _ (hz.1 24 rfl) ?_
        refine TGo.ic1 dX10_settle_30 ?_
        refine TGo.isub dX10_settle_31 ?_
        refine TGo.putI (t := 18) 24 24 (hT 0 (by decide)) rfl fpX10_291_10 dX10_settle_32 rfl rfl rfl ?_
        refine TGo.al0 dX10_settle_35 rfl ?_
        refine TGo.getS (t := 18) 22 22 (T + 9) (hT 0 (by decide)) rfl fgX10_39_10 dX10_settle_36 rfl rfl rfl ?_
        refine TGo.al0 dX10_settle_39 rfl ?_
        refine TGo.getI (t := 18) 24 24 (hT 0 (by decide)) rfl fgX10_291_10 dX10_settle_40 rfl rfl rfl ?_
        refine TGo.toz _ (u2_s) ?_
        refine TGo.iald dX10_settle_43 (hT 9 (by decide)) (by omega) rfl ?_
        refine TGo.toz _ ((u2_n (Or.inl (by omega))).trans (hz.2.1 22 (by decide) _)) ?_
        refine TGo.bip 29 dX10_settle_44 (by decide) ?_
        refine TGo.icmp_eq 63 dX10_settle_46 (by decide) (by omega) (fun h46 => ?_) (fun h46 => ?_)
        · refine TGo.al0 dX10_settle_63 rfl ?_
          refine TGo.getS (t := 18) 20 20 (T + 8) (hT 0 (by decide)) rfl fgX10_36_10 dX10_settle_64 rfl rfl rfl ?_
          refine TGo.al0 dX10_settle_67 rfl ?_
          refine TGo.getS (t := 18) 23 23 (T + 10) (hT 0 (by decide)) rfl fgX10_42_10 dX10_settle_68 rfl rfl rfl ?_
          refine TGo.al0 dX10_settle_71 rfl ?_
          refine TGo.getI (t := 18) 24 24 (hT 0 (by decide)) rfl fgX10_291_10 dX10_settle_72 rfl rfl rfl ?_
          refine TGo.toz _ (u2_s) ?_
          refine TGo.iald dX10_settle_75 (hT 10 (by decide)) (by omega) rfl ?_
          refine TGo.toz _ ((u2_n (Or.inl (by omega))).trans (hz.2.1 23 (by decide) _)) ?_
          refine TGo.al0 dX10_settle_76 rfl ?_
          refine TGo.getI (t := 18) 18 18 (hT 0 (by decide)) rfl fgX10_288_10 dX10_settle_77 rfl rfl rfl ?_
          refine TGo.toz _ ((u2_n (Or.inr (by decide))).trans (hz.1 18 rfl)) ?_
          refine TGo.iast dX10_settle_80 (hT 8 (by decide)) (by omega) rfl ?_
          refine TGo.goto 0 dX10_settle_81 (by decide) ?_
          rw [seZ_eq hS.2.1, if_pos ⟨by omega, by omega⟩]
          refine ih (po1 z) _ (by rw [po1_24]; omega) (S.po (by omega)) (((hz.i rfl).a 20 rfl rfl).eq ?_)
          unfold po1
          first | rw [if_pos (by first | exact Or.inl (by assumption) | exact Or.inr (by assumption))] | rw [if_neg (by omega)]
        · refine TGo.al0 dX10_settle_49 rfl ?_
          refine TGo.getS (t := 18) 22 22 (T + 9) (hT 0 (by decide)) rfl fgX10_39_10 dX10_settle_50 rfl rfl rfl ?_
          refine TGo.al0 dX10_settle_53 rfl ?_
          refine TGo.getI (t := 18) 24 24 (hT 0 (by decide)) rfl fgX10_291_10 dX10_settle_54 rfl rfl rfl ?_
          refine TGo.toz _ (u2_s) ?_
          refine TGo.iald dX10_settle_57 (hT 9 (by decide)) (by omega) rfl ?_
          refine TGo.toz _ ((u2_n (Or.inl (by omega))).trans (hz.2.1 22 (by decide) _)) ?_
          refine TGo.bip 30 dX10_settle_58 (by decide) ?_
          refine TGo.icmp_ne 84 dX10_settle_60 (by decide) (by omega) (fun h60 => ?_) (fun h60 => ?_)
          · refine TGo.al0 dX10_settle_84 rfl ?_
            refine TGo.al0 dX10_settle_85 rfl ?_
            refine TGo.getS (t := 18) 22 22 (T + 9) (hT 0 (by decide)) rfl fgX10_39_10 dX10_settle_86 rfl rfl rfl ?_
            refine TGo.al0 dX10_settle_89 rfl ?_
            refine TGo.getI (t := 18) 24 24 (hT 0 (by decide)) rfl fgX10_291_10 dX10_settle_90 rfl rfl rfl ?_
            refine TGo.toz _ (u2_s) ?_
            refine TGo.iald dX10_settle_93 (hT 9 (by decide)) (by omega) rfl ?_
            refine TGo.toz _ ((u2_n (Or.inl (by omega))).trans (hz.2.1 22 (by decide) _)) ?_
            refine TGo.ic0 dX10_settle_94 ?_
            refine TGo.cN (csV2 (y2 := mX10_emit) (t := 18) 1 rfl (hT 0 (by decide)) rfl rfl dX10_settle_95 q2239 q2241 qs64 okX10_emit npX10_emit rfl rfl) (kX10_emit hT (hz.i rfl) ⟨by show 0 ≤ z.1 18; omega, by show z.1 18 < 400; omega⟩) (fun V95 hz95 => ?_)
            refine TGo.goto 0 dX10_settle_98 (by decide) ?_
            rw [seZ_eq hS.2.1, if_pos ⟨by omega, by omega⟩]
            refine ih (po1 z) _ (by rw [po1_24]; omega) (S.po (by omega)) (hz95.eq ?_)
            unfold po1
            first | rw [if_pos (by first | exact Or.inl (by assumption) | exact Or.inr (by assumption))] | rw [if_neg (by omega)]
          · refine TGo.al0 dX10_settle_63 rfl ?_
            refine TGo.getS (t := 18) 20 20 (T + 8) (hT 0 (by decide)) rfl fgX10_36_10 dX10_settle_64 rfl rfl rfl ?_
            refine TGo.al0 dX10_settle_67 rfl ?_
            refine TGo.getS (t := 18) 23 23 (T + 10) (hT 0 (by decide)) rfl fgX10_42_10 dX10_settle_68 rfl rfl rfl ?_
            refine TGo.al0 dX10_settle_71 rfl ?_
            refine TGo.getI (t := 18) 24 24 (hT 0 (by decide)) rfl fgX10_291_10 dX10_settle_72 rfl rfl rfl ?_
            refine TGo.toz _ (u2_s) ?_
            refine TGo.iald dX10_settle_75 (hT 10 (by decide)) (by omega) rfl ?_
            refine TGo.toz _ ((u2_n (Or.inl (by omega))).trans (hz.2.1 23 (by decide) _)) ?_
            refine TGo.al0 dX10_settle_76 rfl ?_
            refine TGo.getI (t := 18) 18 18 (hT 0 (by decide)) rfl fgX10_288_10 dX10_settle_77 rfl rfl rfl ?_
            refine TGo.toz _ ((u2_n (Or.inr (by decide))).trans (hz.1 18 rfl)) ?_
            refine TGo.iast dX10_settle_80 (hT 8 (by decide)) (by omega) rfl ?_
            refine TGo.goto 0 dX10_settle_81 (by decide) ?_
            rw [seZ_eq hS.2.1, if_pos ⟨by omega, by omega⟩]
            refine ih (po1 z) _ (by rw [po1_24]; omega) (S.po (by omega)) (((hz.i rfl).a 20 rfl rfl).eq ?_)
            unfold po1
            first | rw [if_pos (by first | exact Or.inl (by assumption) | exact Or.inr (by assumption))] | rw [if_neg (by omega)]
set_option maxHeartbeats 4000000 in
theorem kX10_settle {E : ET} {sh : SHT} {nn : Nat × Nat} {V : VT} {T : Nat} {z : ZT} {l : Int} (hT : MSh T sh) (hz : PZ T V z) (S : SPZ z 400) (hl : R32 l) : TN E mX10_settle 2 [.ref T, .int (iI l)] sh nn V (fun V1 => PZ T V1 (seZ l z)) := by
  refine TC.intro [some (.ref T), some (.int (iI l))] rfl ?_
  exact lX10_settle hT hl ((z.1 24).toNat + 1) z V (by omega) S hz
theorem qX10_isWord {E : ET} {sh : SHT} {nn : Nat × Nat} {V : VT} {T : Nat} {z : ZT} {m : Int} {w : Int} (hT : MSh T sh) (hz : PZ T V z) (Y : YW z m) (hw : -9223372036854775808 ≤ w ∧ w ≤ 9223372036854775807) : TF E mX10_isWord 1 [.ref T, .long (lI w)] sh nn V (.int (iI (bZ (wdA z w)))) := by
  have b := Y.2.1.b Y.1
  exact kX10_isWord hT hz.pe (hz.1 11 rfl) b.2.1 hz.2.2.2 (by omega) hw
theorem qX10_isSign {E : ET} {sh : SHT} {nn : Nat × Nat} {V : VT} {T : Nat} {z : ZT} {m : Int} {c : Int} (hT : MSh T sh) (hz : PZ T V z) (Y : YW z m) (hc : R32 c) : TF E mX10_isSign 1 [.ref T, .int (iI c)] sh nn V (.int (iI (bZ (sgA z c)))) := by
  have b := Y.2.1.b Y.1
  exact kX10_isSign hT hz.pe (hz.1 11 rfl) b.2.1 hz.2.2.2 (by omega) hc
theorem qX10_partAt {E : ET} {sh : SHT} {nn : Nat × Nat} {V : VT} {T : Nat} {z : ZT} {m : Int} (hT : MSh T sh) (hz : PZ T V z) (Y : YW z m)  : TF E mX10_partAt 2 [.ref T] sh nn V (.int (iI (paZ mW (z.1 11) (z.1 12) 8))) := by
  have b := Y.2.1.b Y.1
  exact kX10_partAt hT hz.pe (hz.1 11 rfl) b.2.1 hz.2.2.2 (by omega)
theorem qX10_playPartAt {E : ET} {sh : SHT} {nn : Nat × Nat} {V : VT} {T : Nat} {z : ZT} {m : Int} (hT : MSh T sh) (hz : PZ T V z) (Y : YW z m)  : TF E mX10_playPartAt 2 [.ref T] sh nn V (.int (iI (paZ mPW (z.1 11) (z.1 12) 6))) := by
  have b := Y.2.1.b Y.1
  exact kX10_playPartAt hT hz.pe (hz.1 11 rfl) b.2.1 hz.2.2.2 (by omega)
theorem YW.ib {z : ZT} {m : Int} (h : YW z m) (hm : m ≤ 400) : (0 ≤ z.1 18 ∧ 0 ≤ z.1 24 ∧ z.1 18 + z.1 24 ≤ m) ∧ (0 ≤ z.1 21 ∧ z.1 21 ≤ 50) ∧ (-400 ≤ z.1 25 ∧ z.1 25 ≤ 8) ∧ (z.1 14 = 0 ∨ z.1 14 = 1) := ⟨h.2.2.2.1.1, h.2.2.2.2.1, ⟨by have := h.2.2.2.2.2.1.1; omega, h.2.2.2.2.2.1.2⟩, h.2.2.1⟩
theorem YW.sp {z : ZT} {m : Int} (h : YW z m) (hm : m ≤ 400) : SPZ z 400 := (h.mono hm).2.2.2.1
theorem qX10_inner {E : ET} {sh : SHT} {nn : Nat × Nat} {V : VT} {T : Nat} {z : ZT} {m : Int} (hT : MSh T sh) (hz : PZ T V z) (Y : YW z m) (hm : m ≤ 400) : TF E mX10_inner 1 [.ref T] sh nn V (.int (iI (nnZ z))) := by
  have b := Y.2.1.b Y.1
  have s := Y.2.2.2.1
  exact kX10_inner hT hz.pe ((hz.1 24 rfl).trans (Int.toNat_of_nonneg s.1.2.1).symm) (by have := s.1; omega) (fun i _ _ => hz.2.1 22 (by decide) i) (fun i h0 h1 => by have := (s.2 i h0 (by have := Int.toNat_of_nonneg s.1.2.1; omega)).1; constructor <;> omega)
set_option maxHeartbeats 4000000 in
theorem lX10_isCompared {E : ET} {sh : SHT} {nn : Nat × Nat} {T : Nat} {z : ZT} {V : VT} (hT : MSh T sh) (hz : PZ T V z) (S : SPZ z 400) : ∀ (n k : Nat), k < n → (k : Int) ≤ z.1 24 → TGo E mX10_isCompared 2 7 [some (.ref T), some (.int (iI ((k : Int) - 1)))] [] sh nn V (fun o sh' nn' V' => o = .inl (some (.int (iI (icF (z.2 22) k)))) ∧ sh' = sh ∧ nn' = nn ∧ V' = V) := by
  intro n
  induction n with
  | zero => intro k h; omega
  | succ n ih =>
    intro k hn hk
    have hS := S.1
    refine TGo.il1 dX10_isCompared_7 rfl ?_
    refine TGo.if_lt 36 dX10_isCompared_8 (by decide) (by omega) (fun h8 => ?_) (fun h8 => ?_)
    · refine TGo.il1 dX10_isCompared_36 rfl ?_
      refine TGo.if_lt 63 dX10_isCompared_37 (by decide) (by omega) (fun h37 => ?_) (fun h37 => ?_)
      · refine TGo.ic0 dX10_isCompared_63 ?_
        refine TGo.zret dX10_isCompared_64 rfl (by first | exact Or.inl rfl | exact Or.inr rfl | exact bZ_or _ | assumption) ?_
        first
        | (obtain rfl : k = 0 := by omega
           exact ⟨rfl, rfl, rfl, rfl⟩)
        | (refine leafF ?_
           show _ = if 20 ≤ z.2 22 (k : Int) ∧ z.2 22 (k : Int) ≤ 24 then icF (z.2 22) k else bZ (25 ≤ z.2 22 (k : Int) ∧ z.2 22 (k : Int) ≤ 27)
           rw [if_neg (by assumption)]
           first | exact (bZ_t (by assumption)).symm | exact (bZ_f (by assumption)).symm)
        | (exfalso; omega)
      · refine TGo.al0 dX10_isCompared_40 rfl ?_
        refine TGo.getS (t := 18) 22 22 (T + 9) (hT 0 (by decide)) rfl fgX10_39_10 dX10_isCompared_41 rfl rfl rfl ?_
        refine TGo.il1 dX10_isCompared_44 rfl ?_
        refine TGo.iald dX10_isCompared_45 (hT 9 (by decide)) (by omega) rfl ?_
        refine TGo.toz _ (hz.2.1 22 (by decide) _) ?_
        refine TGo.i2l dX10_isCompared_46 (by omega) ?_
        refine TGo.ldc2 25 dX10_isCompared_47 q2263 (by decide) ?_
        refine TGo.ldc2 27 dX10_isCompared_50 q2264 (by decide) ?_
        refine TGo.cF (csS3 (y2 := mX10_in) 1 rfl dX10_isCompared_53 q2032 q2033 okX10_in npX10_in rfl rfl) (kX10_in (by omega) (by omega) (by omega)) ?_
        refine TGo.ifb_eq 63 dX10_isCompared_56 (by decide) (fun h56 => ?_) (fun h56 => ?_)
        · refine TGo.ic0 dX10_isCompared_63 ?_
          refine TGo.zret dX10_isCompared_64 rfl (by first | exact Or.inl rfl | exact Or.inr rfl | exact bZ_or _ | assumption) ?_
          first
          | (obtain rfl : k = 0 := by omega
             exact ⟨rfl, rfl, rfl, rfl⟩)
          | (refine leafF ?_
             show _ = if 20 ≤ z.2 22 (k : Int) ∧ z.2 22 (k : Int) ≤ 24 then icF (z.2 22) k else bZ (25 ≤ z.2 22 (k : Int) ∧ z.2 22 (k : Int) ≤ 27)
             rw [if_neg (by assumption)]
             first | exact (bZ_t (by assumption)).symm | exact (bZ_f (by assumption)).symm)
          | (exfalso; omega)
        · refine TGo.ic1 dX10_isCompared_59 ?_
          refine TGo.goto 64 dX10_isCompared_60 (by decide) ?_
          refine TGo.zret dX10_isCompared_64 rfl (by first | exact Or.inl rfl | exact Or.inr rfl | exact bZ_or _ | assumption) ?_
          first
          | (obtain rfl : k = 0 := by omega
             exact ⟨rfl, rfl, rfl, rfl⟩)
          | (refine leafF ?_
             show _ = if 20 ≤ z.2 22 (k : Int) ∧ z.2 22 (k : Int) ≤ 24 then icF (z.2 22) k else bZ (25 ≤ z.2 22 (k : Int) ∧ z.2 22 (k : Int) ≤ 27)
             rw [if_neg (by assumption)]
             first | exact (bZ_t (by assumption)).symm | exact (bZ_f (by assumption)).symm)
          | (exfalso; omega)
    · obtain ⟨k, rfl⟩ : ∃ j, k = j + 1 := ⟨k - 1, by omega⟩
      have hp := S.2 (k : Int) (by omega) (by omega)
      refine TGo.seq [some (.ref T), some (.int (iI (k : Int)))] [] _ (by rw [show ((k + 1 : Nat) : Int) - 1 = (k : Int) by omega]) rfl rfl ?_
      refine TGo.al0 dX10_isCompared_11 rfl ?_
      refine TGo.getS (t := 18) 22 22 (T + 9) (hT 0 (by decide)) rfl fgX10_39_10 dX10_isCompared_12 rfl rfl rfl ?_
      refine TGo.il1 dX10_isCompared_15 rfl ?_
      refine TGo.iald dX10_isCompared_16 (hT 9 (by decide)) (by omega) rfl ?_
      refine TGo.toz _ (hz.2.1 22 (by decide) _) ?_
      refine TGo.i2l dX10_isCompared_17 (by omega) ?_
      refine TGo.ldc2 20 dX10_isCompared_18 q2262 (by decide) ?_
      refine TGo.ldc2 24 dX10_isCompared_21 q2048 (by decide) ?_
      refine TGo.cF (csS3 (y2 := mX10_in) 1 rfl dX10_isCompared_24 q2032 q2033 okX10_in npX10_in rfl rfl) (kX10_in (by omega) (by omega) (by omega)) ?_
      refine TGo.ifb_eq 36 dX10_isCompared_27 (by decide) (fun h27 => ?_) (fun h27 => ?_)
      · refine TGo.il1 dX10_isCompared_36 rfl ?_
        refine TGo.if_lt 63 dX10_isCompared_37 (by decide) (by omega) (fun h37 => ?_) (fun h37 => ?_)
        · refine TGo.ic0 dX10_isCompared_63 ?_
          refine TGo.zret dX10_isCompared_64 rfl (by first | exact Or.inl rfl | exact Or.inr rfl | exact bZ_or _ | assumption) ?_
          first
          | (obtain rfl : k = 0 := by omega
             exact ⟨rfl, rfl, rfl, rfl⟩)
          | (refine leafF ?_
             show _ = if 20 ≤ z.2 22 (k : Int) ∧ z.2 22 (k : Int) ≤ 24 then icF (z.2 22) k else bZ (25 ≤ z.2 22 (k : Int) ∧ z.2 22 (k : Int) ≤ 27)
             rw [if_neg (by assumption)]
             first | exact (bZ_t (by assumption)).symm | exact (bZ_f (by assumption)).symm)
          | (exfalso; omega)
        · refine TGo.al0 dX10_isCompared_40 rfl ?_
          refine TGo.getS (t := 18) 22 22 (T + 9) (hT 0 (by decide)) rfl fgX10_39_10 dX10_isCompared_41 rfl rfl rfl ?_
          refine TGo.il1 dX10_isCompared_44 rfl ?_
          refine TGo.iald dX10_isCompared_45 (hT 9 (by decide)) (by omega) rfl ?_
          refine TGo.toz _ (hz.2.1 22 (by decide) _) ?_
          refine TGo.i2l dX10_isCompared_46 (by omega) ?_
          refine TGo.ldc2 25 dX10_isCompared_47 q2263 (by decide) ?_
          refine TGo.ldc2 27 dX10_isCompared_50 q2264 (by decide) ?_
          refine TGo.cF (csS3 (y2 := mX10_in) 1 rfl dX10_isCompared_53 q2032 q2033 okX10_in npX10_in rfl rfl) (kX10_in (by omega) (by omega) (by omega)) ?_
          refine TGo.ifb_eq 63 dX10_isCompared_56 (by decide) (fun h56 => ?_) (fun h56 => ?_)
          · refine TGo.ic0 dX10_isCompared_63 ?_
            refine TGo.zret dX10_isCompared_64 rfl (by first | exact Or.inl rfl | exact Or.inr rfl | exact bZ_or _ | assumption) ?_
            first
            | (obtain rfl : k = 0 := by omega
               exact ⟨rfl, rfl, rfl, rfl⟩)
            | (refine leafF ?_
               show _ = if 20 ≤ z.2 22 (k : Int) ∧ z.2 22 (k : Int) ≤ 24 then icF (z.2 22) k else bZ (25 ≤ z.2 22 (k : Int) ∧ z.2 22 (k : Int) ≤ 27)
               rw [if_neg (by assumption)]
               first | exact (bZ_t (by assumption)).symm | exact (bZ_f (by assumption)).symm)
            | (exfalso; omega)
          · refine TGo.ic1 dX10_isCompared_59 ?_
            refine TGo.goto 64 dX10_isCompared_60 (by decide) ?_
            refine TGo.zret dX10_isCompared_64 rfl (by first | exact Or.inl rfl | exact Or.inr rfl | exact bZ_or _ | assumption) ?_
            first
            | (obtain rfl : k = 0 := by omega
               exact ⟨rfl, rfl, rfl, rfl⟩)
            | (refine leafF ?_
               show _ = if 20 ≤ z.2 22 (k : Int) ∧ z.2 22 (k : Int) ≤ 24 then icF (z.2 22) k else bZ (25 ≤ z.2 22 (k : Int) ∧ z.2 22 (k : Int) ≤ 27)
               rw [if_neg (by assumption)]
               first | exact (bZ_t (by assumption)).symm | exact (bZ_f (by assumption)).symm)
            | (exfalso; omega)
      · refine TGo.iinc dX10_isCompared_30 rfl rfl rfl ?_
        refine TGo.goto 7 dX10_isCompared_33 (by decide) ?_
        refine (TGo.seq [some (.ref T), some (.int (iI ((k : Int) - 1)))] [] _ (by rw [show (k : Int) + -1 = (k : Int) - 1 by omega]; rfl) rfl rfl (ih k (by omega) (by omega))).mono ?_
        rintro o sh' nn' V' ⟨q1, q2, q3, q4⟩
        refine ⟨q1.trans ?_, q2, q3, q4⟩
        show _ = (Sum.inl (some (Value.int (iI (if 20 ≤ z.2 22 (k : Int) ∧ z.2 22 (k : Int) ≤ 24 then icF (z.2 22) k else _)))) : AO)
        rw [if_pos (by assumption)]
set_option maxHeartbeats 4000000 in
theorem kX10_isCompared {E : ET} {sh : SHT} {nn : Nat × Nat} {V : VT} {T : Nat} {z : ZT} (hT : MSh T sh) (hz : PZ T V z) (S : SPZ z 400) : TF E mX10_isCompared 2 [.ref T] sh nn V (.int (iI (icZ z))) := by
  have hS := S.1
  refine TC.intro [some (.ref T), none] rfl ?_
  refine TGo.al0 dX10_isCompared_0 rfl ?_
  refine TGo.getI (t := 18) 24 24 (hT 0 (by decide)) rfl fgX10_291_10 dX10_isCompared_1 rfl rfl rfl ?_
  refine TGo.toz _ (hz.1 24 rfl) ?_
  refine TGo.ic1 dX10_isCompared_4 ?_
  refine TGo.isub dX10_isCompared_5 ?_
  refine TGo.is1 dX10_isCompared_6 rfl rfl ?_
  refine TGo.seq [some (.ref T), some (.int (iI (((z.1 24).toNat : Int) - 1)))] [] _ (by rw [Int.toNat_of_nonneg hS.2.1]; rfl) rfl rfl ?_
  exact lX10_isCompared hT hz S ((z.1 24).toNat + 1) (z.1 24).toNat (by omega) (by omega)
/-- z' is z, a token later (or bad) -/
def STP (z z' : ZT) : Prop := YW z' (z'.1 9) ∧ z'.1 8 = z.1 8 ∧ z.1 9 ≤ z'.1 9 ∧ (z'.1 14 = 0 → z.1 9 + 1 ≤ z'.1 9)
theorem mu_ok {z : ZT} {b : Int} (Y : YW z (z.1 9)) : STP z (muZ z b) ∨ (b ≠ 0 ∧ z.1 11 = 0) := by
  by_cases h : b ≠ 0 ∧ z.1 11 = 0
  · exact Or.inr h
  · refine Or.inl ⟨Y.mu.mono Y.mu9, ?_, Y.mu9, fun h14 => ?_⟩
    · unfold muZ; split
      · split
        · rfl
        · exact neZ_o rfl
      · rfl
    · obtain ⟨h1, h2, h3⟩ := muZ_ok h14
      rw [h3]
      exact Y.nx9.2.1 (fun e => h ⟨h2, e⟩)
theorem muS {z : ZT} {b : Int} (Y : YW z (z.1 9)) (hb : b ≠ 0 → z.1 11 ≠ 0) : STP z (muZ z b) := (mu_ok Y).resolve_right (fun h => hb h.1 h.2)
theorem nxS {z : ZT} {m : Int} (Y : YW z m) (h : z.1 11 ≠ 0) (hm : m ≤ (neZ z).1 9) : STP z (neZ z) := ⟨Y.nx.mono hm, neZ_o rfl, Y.nx9.1, fun _ => Y.nx9.2.1 h⟩
theorem YW.t {z : ZT} {m : Int} (Y : YW z m) (h : z.1 11 ≠ 0) : z.1 9 < z.1 8 := ((Y.2.1.b Y.1).1.2 h).2
theorem YW.le {z : ZT} {m : Int} (Y : YW z m) : 0 ≤ z.1 9 ∧ z.1 9 ≤ z.1 8 ∧ z.1 8 ≤ 400 := ⟨Y.2.1.2.1, Y.2.1.2.2, Y.1.1.2⟩
theorem opS {z : ZT} {op : Int} (Y : YW z (z.1 9)) (h : z.1 11 ≠ 0) (ho : 20 ≤ op ∧ op ≤ 32) : STP z (opZ z op) := by
  have M := muS (b := bZ (z.1 25 < 8)) Y (fun _ => h)
  unfold opZ opZ1
  by_cases e : (muZ z (bZ (z.1 25 < 8))).1 14 = 0
  · rw [if_pos e]
    obtain ⟨e1, e2, e3⟩ := muZ_ok e
    have h8 : z.1 25 < 8 := Classical.byContradiction (fun c => e2 (bZ_f c))
    have h25 : (muZ z (bZ (z.1 25 < 8))).1 25 = z.1 25 := by rw [e3]; exact neZ_o rfl
    have hN := (show YW (neZ z) (z.1 9) from Y.nx)
    have h9 := M.2.2.2 e
    rw [← e3] at hN
    have hN2 : YW (zi (muZ z (bZ (z.1 25 < 8))) 25 ((muZ z (bZ (z.1 25 < 8))).1 25 + 1)) (z.1 9) := ⟨hN.1, hN.2.1, hN.2.2.1, hN.2.2.2.1, hN.2.2.2.2.1, ⟨by have := hN.2.2.2.2.2.1.1; show _ ≤ (muZ z (bZ (z.1 25 < 8))).1 25 + 1; omega, by show (muZ z (bZ (z.1 25 < 8))).1 25 + 1 ≤ 8; omega⟩, hN.2.2.2.2.2.2⟩
    exact ⟨(hN2.pu ho ⟨by decide, by decide⟩).mono (by show z.1 9 + 1 ≤ (muZ z (bZ (z.1 25 < 8))).1 9; omega), M.2.1, by show z.1 9 ≤ (muZ z (bZ (z.1 25 < 8))).1 9; omega, fun _ => h9⟩
  · rw [if_neg e]; exact M
theorem leS {z : ZT} {b op ag : Int} (Y : YW z (z.1 9)) (h : b ≠ 0 → z.1 11 ≠ 0) : STP z (leZ z b op ag) := by
  have M := muS (b := bZ (b ≠ 0 ∧ z.1 21 < 50)) Y (fun e => h (Classical.byContradiction (fun c => e (bZ_f (fun x => absurd x.1 c)))))
  unfold leZ leZ1
  by_cases e : (muZ z (bZ (b ≠ 0 ∧ z.1 21 < 50))).1 14 = 0
  · rw [if_pos e]
    obtain ⟨e1, e2, e3⟩ := muZ_ok e
    have h8 : b ≠ 0 ∧ z.1 21 < 50 := Classical.byContradiction (fun c => e2 (bZ_f c))
    have h21 : (muZ z (bZ (b ≠ 0 ∧ z.1 21 < 50))).1 21 = z.1 21 := by rw [e3]; exact neZ_o rfl
    have hN := (show YW (neZ z) (z.1 9) from Y.nx)
    have h9 := M.2.2.2 e
    have hl := Y.le
    rw [← e3] at hN
    have hE := hN.em (a := op) (b := ag) (by omega)
    have hN2 : YW (zi (emZ (muZ z (bZ (b ≠ 0 ∧ z.1 21 < 50))) op ag) 21 ((muZ z (bZ (b ≠ 0 ∧ z.1 21 < 50))).1 21 + 1)) (z.1 9 + 1) := ⟨hE.1, hE.2.1, hE.2.2.1, hE.2.2.2.1, ⟨by have := hE.2.2.2.2.1; show 0 ≤ (muZ z (bZ (b ≠ 0 ∧ z.1 21 < 50))).1 21 + 1; have := Y.2.2.2.2.1; omega, by show (muZ z (bZ (b ≠ 0 ∧ z.1 21 < 50))).1 21 + 1 ≤ 50; omega⟩, hE.2.2.2.2.2⟩
    exact ⟨hN2.mono (by show z.1 9 + 1 ≤ (muZ z (bZ (b ≠ 0 ∧ z.1 21 < 50))).1 9; omega), M.2.1, by show z.1 9 ≤ (muZ z (bZ (b ≠ 0 ∧ z.1 21 < 50))).1 9; omega, fun _ => h9⟩
  · rw [if_neg e]; exact M
theorem paZ_1 {W : Int → Int} {so wo : Int} : ∀ {k : Nat}, paZ W so wo k ≠ -1 → so = 1 := by
  intro k
  induction k with
  | zero => intro h; exact absurd rfl h
  | succ k ih =>
    intro h
    by_cases c : so = 1 ∧ wo = W (k : Int)
    · exact c.1
    · exact ih (by rw [paZ, if_neg c] at h; exact h)
theorem paZ_b {W : Int → Int} {so wo : Int} : ∀ {k : Nat}, -1 ≤ paZ W so wo k ∧ paZ W so wo k ≤ k := by
  intro k
  induction k with
  | zero => exact ⟨Int.le_refl (-1), by show (-1 : Int) ≤ 0; decide⟩
  | succ k ih =>
    rw [paZ]
    split <;> omega
theorem itsZ_1 {z : ZT} (h : itsZ z ≠ -1) : z.1 11 = 1 := by
  unfold itsZ at h
  split at h
  · exact paZ_1 h
  · exact paZ_1 h
theorem rpS {z : ZT} (Y : YW z (z.1 9)) : STP z (rpZ z).2 ∧ ((rpZ z).1 = 1 ∨ (rpZ z).1 = 3) := by
  unfold rpZ
  split
  · rename_i h; exact ⟨opS Y (by rw [h.1]; decide) ⟨by decide, by decide⟩, Or.inl rfl⟩
  · refine ⟨leS Y (fun h => ?_), Or.inr rfl⟩
    have h : itsZ z ≠ -1 ∨ diZ z := Classical.byContradiction (fun c => h (bZ_f c))
    rcases h with h | h
    · rw [itsZ_1 h]; decide
    · rw [h.1]; decide
theorem plS {z : ZT} (Y : YW z (z.1 9)) : STP z (plZ z).2 ∧ ((plZ z).1 = 0 ∨ (plZ z).1 = 1 ∨ (plZ z).1 = 3) := by
  unfold plZ
  split
  · rename_i h
    have hl := Y.le
    have ht := Y.t (by rw [h.1]; decide)
    have P := Y.pu (a := 28) (b := 0) ⟨by decide, by decide⟩ ⟨by decide, by decide⟩
    have h9 := P.nx9.2.1 (show z.1 11 ≠ 0 by rw [h.1]; decide)
    have e9 : (puZ z 28 0).1 9 = z.1 9 := rfl
    have q := nxS P (show z.1 11 ≠ 0 by rw [h.1]; decide) (by rw [e9] at h9; omega)
    exact ⟨q, Or.inl rfl⟩
  · split
    · rename_i h; exact ⟨opS Y (by rw [h.1]; decide) ⟨by decide, by decide⟩, Or.inl rfl⟩
    · exact ⟨(rpS Y).1, Or.inr (rpS Y).2⟩
theorem sgZ_r {z : ZT} : (sgZ z ≠ -1 → z.1 11 = 3) ∧ -1 ≤ sgZ z ∧ sgZ z ≤ 24 ∧ (sgZ z ≠ -1 → 20 ≤ sgZ z) := by
  unfold sgZ
  (repeat' split) <;> refine ⟨fun h => ?_, by decide, by decide, fun h => ?_⟩ <;> first | decide | exact absurd rfl h | (rename_i q; exact q.1)
theorem nnZ_r {z : ZT} {m : Int} (Y : YW z m) : -1 ≤ nnZ z ∧ nnZ z ≤ 32 := by
  by_cases h : nnZ z = -1
  · omega
  · obtain ⟨i, q1, q2, q3⟩ := inZ_b h
    have := Int.toNat_of_nonneg Y.2.2.2.1.1.2.1
    have := (Y.2.2.2.1.2 i q1.1 (by omega)).1
    unfold nnZ
    omega
/-- a bracket is there still when its inside is settled -/
theorem seZ_b {z : ZT} {m l : Int} (Y : YW z m) (h : nnZ z ≠ -1) (hl : 1 ≤ l) : 1 ≤ (seZ l z).1 24 := by
  obtain ⟨i, q1, q2, q3⟩ := inZ_b h
  have := Int.toNat_of_nonneg Y.2.2.2.1.1.2.1
  have := seF_b l hl (i := i) (z.1 24).toNat z (by omega) q3
  show 1 ≤ (seF l (z.1 24).toNat z).1 24
  omega
theorem muZ_22 {z : ZT} {b : Int} : (muZ z b).2 = z.2 ∧ (muZ z b).1 24 = z.1 24 := by
  unfold muZ
  split
  · split
    · exact ⟨rfl, rfl⟩
    · exact ⟨rfl, rfl⟩
  · exact ⟨rfl, rfl⟩
theorem nnZ_mu {z : ZT} {b : Int} : nnZ (muZ z b) = nnZ z := by unfold nnZ; rw [muZ_22.1, muZ_22.2]
theorem clS {z : ZT} {b l : Int} (Y : YW z (z.1 9)) (hb : b ≠ 0 → z.1 11 ≠ 0) (hn : nnZ z ≠ -1) (hl : 1 ≤ l) : STP z (clZ l (muZ z b)) := by
  have M := muS Y hb
  unfold clZ
  by_cases e : (muZ z b).1 14 = 0
  · rw [if_pos e]
    have h9 := M.2.2.2 e
    obtain ⟨e1, e2, e3⟩ := muZ_ok e
    have hN := (Y.mu (b := b)).se (l := l)
    have h1 := seZ_b (Y.mu (b := b)) (by rw [nnZ_mu]; exact hn) hl
    have s9 : (seZ l (muZ z b)).1 9 = (muZ z b).1 9 := seZ_1 rfl
    have s8 : (seZ l (muZ z b)).1 8 = (muZ z b).1 8 := seZ_1 rfl
    have hp := hN.2.2.2.1
    have ho := hN.2.2.2.2.2.1
    refine ⟨⟨hN.1, hN.2.1, hN.2.2.1, ⟨⟨hp.1.1, by show 0 ≤ (seZ l (muZ z b)).1 24 - 1; omega, ?_⟩, fun i q1 q2 => hp.2 i q1 (by have q3 : i < (seZ l (muZ z b)).1 24 - 1 := q2; omega)⟩, hN.2.2.2.2.1, ⟨?_, by show (seZ l (muZ z b)).1 25 - 1 ≤ 8; omega⟩, hN.2.2.2.2.2.2⟩, by show (seZ l (muZ z b)).1 8 = _; rw [s8]; exact M.2.1, by show z.1 9 ≤ (seZ l (muZ z b)).1 9; omega, fun _ => by show z.1 9 + 1 ≤ (seZ l (muZ z b)).1 9; omega⟩
    · show (seZ l (muZ z b)).1 18 + ((seZ l (muZ z b)).1 24 - 1) ≤ (seZ l (muZ z b)).1 9
      have := hp.1.2.2
      omega
    · show -(seZ l (muZ z b)).1 9 ≤ (seZ l (muZ z b)).1 25 - 1
      omega
  · rw [if_neg e]; exact M
theorem cmZ_r {z : ZT} : 25 ≤ cmZ z ∧ cmZ z ≤ 27 ∧ (cmZ z ≠ 27 → z.1 11 = 3) := by
  unfold cmZ
  (repeat' split) <;> refine ⟨by decide, by decide, fun h => ?_⟩ <;> first | exact absurd rfl h | (rename_i q; exact q.1)
theorem cpS {z : ZT} (Y : YW z (z.1 9)) : STP z (cpZ1 (muZ z (bZ (cmZ z ≠ 27 ∨ sgA z 61))) (cmZ z)) := by
  have hb : bZ (cmZ z ≠ 27 ∨ sgA z 61) ≠ 0 → z.1 11 ≠ 0 := fun h => by
    have h : cmZ z ≠ 27 ∨ sgA z 61 := Classical.byContradiction (fun c => h (bZ_f c))
    rcases h with h | h
    · rw [cmZ_r.2.2 h]; decide
    · rw [h.1]; decide
  have M := muS Y hb
  have hc := @cmZ_r z
  unfold cpZ1
  by_cases e : (muZ z (bZ (cmZ z ≠ 27 ∨ sgA z 61))).1 14 = 0
  · rw [if_pos e]
    have h9 := M.2.2.2 e
    have hN := ((Y.mu (b := bZ (cmZ z ≠ 27 ∨ sgA z 61))).se (l := 5)).pu (a := cmZ z) (b := 0) (by omega) ⟨by decide, by decide⟩
    have s9 : (seZ 5 (muZ z (bZ (cmZ z ≠ 27 ∨ sgA z 61)))).1 9 = (muZ z (bZ (cmZ z ≠ 27 ∨ sgA z 61))).1 9 := seZ_1 rfl
    have s8 : (seZ 5 (muZ z (bZ (cmZ z ≠ 27 ∨ sgA z 61)))).1 8 = (muZ z (bZ (cmZ z ≠ 27 ∨ sgA z 61))).1 8 := seZ_1 rfl
    refine ⟨hN.mono ?_, s8.trans M.2.1, ?_, fun _ => ?_⟩
    · show z.1 9 + 1 ≤ (seZ 5 (muZ z (bZ (cmZ z ≠ 27 ∨ sgA z 61)))).1 9; omega
    · show z.1 9 ≤ (seZ 5 (muZ z (bZ (cmZ z ≠ 27 ∨ sgA z 61)))).1 9; omega
    · show z.1 9 + 1 ≤ (seZ 5 (muZ z (bZ (cmZ z ≠ 27 ∨ sgA z 61)))).1 9; omega
  · rw [if_neg e]; exact M
theorem sg_S {z : ZT} (Y : YW z (z.1 9)) (h : sgZ z ≠ -1) : STP z (neZ (puZ (seZ (bdZ (sgZ z)) z) (sgZ z) 0)) := by
  have r := @sgZ_r z
  have h3 := r.1 h
  have hN := (Y.se (l := bdZ (sgZ z))).pu (a := sgZ z) (b := 0) ⟨r.2.2.2 h, by omega⟩ ⟨by decide, by decide⟩
  have s9 : (puZ (seZ (bdZ (sgZ z)) z) (sgZ z) 0).1 9 = z.1 9 := seZ_1 rfl
  have s8 : (puZ (seZ (bdZ (sgZ z)) z) (sgZ z) 0).1 8 = z.1 8 := seZ_1 rfl
  have s11 : (puZ (seZ (bdZ (sgZ z)) z) (sgZ z) 0).1 11 = z.1 11 := seZ_1 rfl
  have n9 := hN.nx9.2.1 (by rw [s11, h3]; decide)
  rw [s9] at n9
  have q := nxS hN (by rw [s11, h3]; decide) n9
  exact ⟨q.1, q.2.1.trans s8, by rw [← s9]; exact q.2.2.1, fun e => by rw [← s9]; exact q.2.2.2 e⟩
theorem anS {z : ZT} {l a : Int} (Y : YW z (z.1 9)) (h1 : z.1 11 = 1) (h2 : 26 < z.1 12) (ha : a = 29 ∨ a = 30) : STP z (anZ (seZ l z) a) := by
  have hl := Y.le
  have ht := Y.t (by rw [h1]; decide)
  have hS := Y.se (l := l)
  have hc := hS.2.2.2.1.1
  have hN := (hS.pu (a := a) (b := (seZ l z).1 18) (by omega) ⟨by omega, by omega⟩).em (a := a) (b := 0) (by omega)
  have s9 : (emZ (puZ (seZ l z) a ((seZ l z).1 18)) a 0).1 9 = z.1 9 := seZ_1 rfl
  have s8 : (emZ (puZ (seZ l z) a ((seZ l z).1 18)) a 0).1 8 = z.1 8 := seZ_1 rfl
  have s11 : (emZ (puZ (seZ l z) a ((seZ l z).1 18)) a 0).1 11 = z.1 11 := seZ_1 rfl
  have s12 : (emZ (puZ (seZ l z) a ((seZ l z).1 18)) a 0).1 12 = z.1 12 := seZ_1 rfl
  have n9 := hN.nx9.2.2.1 (by rw [s11, h1]) (by rw [s12]; exact h2)
  rw [s9] at n9
  have q := nxS hN (by rw [s11, h1]; decide) (by omega)
  exact ⟨q.1, q.2.1.trans s8, by rw [← s9]; exact q.2.2.1, fun e => by rw [← s9]; exact q.2.2.2 e⟩
theorem bsS {z : ZT} {test : Int} (Y : YW z (z.1 9)) : (STP z (bsZ z test).2 ∧ ((bsZ z test).1 = 1 ∨ (bsZ z test).1 = 3)) ∨ ((bsZ z test).2 = z ∧ ((bsZ z test).1 = 4 ∨ (bsZ z test).1 = 2)) := by
  unfold bsZ
  by_cases h : sgZ z ≠ -1
  · rw [if_pos h]; exact Or.inl ⟨sg_S Y h, Or.inl rfl⟩
  · rw [if_neg h]
    by_cases h2 : nnZ z = 32
    · rw [if_pos h2]
      refine Or.inl ⟨clS Y (fun e => ?_) (by omega) (by decide), Or.inr rfl⟩
      have := (Classical.byContradiction (fun c => e (bZ_f c)) : sgA z 93)
      rw [this.1]; decide
    · rw [if_neg h2]
      split
      · exact Or.inr ⟨rfl, Or.inl rfl⟩
      · split
        · exact Or.inr ⟨rfl, Or.inr rfl⟩
        · exact Or.inl ⟨cpS Y, Or.inl rfl⟩
theorem btS {z : ZT} (Y : YW z (z.1 9)) : (STP z (btZ z).2 ∧ ((btZ z).1 = 0 ∨ (btZ z).1 = 2)) ∨ ((btZ z).2 = z ∧ (btZ z).1 = 4) := by
  unfold btZ
  split
  · rename_i h; exact Or.inl ⟨anS Y h.1 (by rw [h.2]; decide) (Or.inl rfl), Or.inl rfl⟩
  · split
    · rename_i h; exact Or.inl ⟨anS Y h.1 (by rw [h.2]; decide) (Or.inr rfl), Or.inl rfl⟩
    · split
      · exact Or.inr ⟨rfl, rfl⟩
      · rename_i h
        refine Or.inl ⟨clS Y (fun e => ?_) h (by decide), Or.inr rfl⟩
        have := (Classical.byContradiction (fun c => e (bZ_f c)) : sgA z 41)
        rw [this.1]; decide
theorem mu15 {z : ZT} {b k : Int} (h : (k == 9 || k == 10 || k == 11 || k == 12 || k == 13 || k == 14) = false) : (muZ z b).1 k = z.1 k := by
  have h : ((((k ≠ 9 ∧ k ≠ 10) ∧ k ≠ 11) ∧ k ≠ 12) ∧ k ≠ 13) ∧ k ≠ 14 := by simpa using h
  unfold muZ
  split
  · split
    · show (if k = 13 then _ else if k = 14 then _ else z.1 k) = _
      rw [if_neg h.1.2, if_neg h.2]
    · exact neZ_o (by simp [h.1.1.1.1.1, h.1.1.1.1.2, h.1.1.1.2, h.1.1.2])
  · rfl
theorem op15 {z : ZT} {op : Int} : (opZ z op).1 15 = z.1 15 := by
  unfold opZ opZ1
  split
  · exact mu15 rfl
  · exact mu15 rfl
theorem le15 {z : ZT} {b op ag : Int} : (leZ z b op ag).1 15 = z.1 15 := by
  unfold leZ leZ1
  split
  · exact mu15 rfl
  · exact mu15 rfl
theorem rp15 {z : ZT} : (rpZ z).2.1 15 = z.1 15 := by
  unfold rpZ
  split
  · exact op15
  · exact le15
theorem cl15 {l b : Int} {z : ZT} : (clZ l (muZ z b)).1 15 = z.1 15 := by
  unfold clZ
  split
  · exact (show (seZ l (muZ z b)).1 15 = _ from seZ_1 rfl).trans (mu15 rfl)
  · exact mu15 rfl
theorem xs15 {z : ZT} {test tu : Int} : (xsZ test tu z).2.1 15 = z.1 15 := by
  unfold xsZ
  split
  · unfold plZ
    split
    · rfl
    · split
      · exact op15
      · exact rp15
  · split
    · exact rp15
    · split
      · unfold bsZ
        split
        · exact (show (seZ (bdZ (sgZ z)) z).1 15 = _ from seZ_1 rfl)
        · split
          · exact cl15
          · split
            · rfl
            · split
              · rfl
              · unfold cpZ1
                split
                · exact (show (seZ 5 _).1 15 = _ from seZ_1 rfl).trans (mu15 rfl)
                · exact mu15 rfl
      · unfold btZ
        split
        · exact (show (seZ 2 z).1 15 = _ from seZ_1 rfl)
        · split
          · exact (show (seZ 1 z).1 15 = _ from seZ_1 rfl)
          · split
            · rfl
            · exact cl15
/-- one turn: in order still, and nearer to the end -/
theorem xsS {z : ZT} {test tu : Int} (Y : YW z (z.1 9)) (ht : 0 ≤ tu ∧ tu ≤ 3) : YW (xsZ test tu z).2 ((xsZ test tu z).2.1 9) ∧ (xsZ test tu z).2.1 8 = z.1 8 ∧ (0 ≤ (xsZ test tu z).1 ∧ (xsZ test tu z).1 ≤ 4) ∧ z.1 9 ≤ (xsZ test tu z).2.1 9 ∧ ((xsZ test tu z).2.1 14 = 0 → (xsZ test tu z).1 ≠ 4 → ((xsZ test tu z).1 = 3 → z.1 9 + 1 ≤ (xsZ test tu z).2.1 9) ∧ (tu ≠ 3 → z.1 9 + 1 ≤ (xsZ test tu z).2.1 9)) := by
  unfold xsZ
  split
  · obtain ⟨q, r⟩ := plS Y
    exact ⟨q.1, q.2.1, by omega, q.2.2.1, fun e _ => ⟨fun _ => q.2.2.2 e, fun _ => q.2.2.2 e⟩⟩
  · split
    · obtain ⟨q, r⟩ := rpS Y
      exact ⟨q.1, q.2.1, by omega, q.2.2.1, fun e _ => ⟨fun _ => q.2.2.2 e, fun _ => q.2.2.2 e⟩⟩
    · split
      · rcases bsS (test := test) Y with ⟨q, r⟩ | ⟨q, r⟩
        · exact ⟨q.1, q.2.1, by omega, q.2.2.1, fun e _ => ⟨fun _ => q.2.2.2 e, fun _ => q.2.2.2 e⟩⟩
        · rw [q]; exact ⟨Y, rfl, by omega, Int.le_refl _, fun _ _ => ⟨fun c => by omega, fun c => absurd (by assumption) c⟩⟩
      · rcases btS Y with ⟨q, r⟩ | ⟨q, r⟩
        · exact ⟨q.1, q.2.1, by omega, q.2.2.1, fun e _ => ⟨fun _ => q.2.2.2 e, fun _ => q.2.2.2 e⟩⟩
        · rw [q]; exact ⟨Y, rfl, by omega, Int.le_refl _, fun _ c => absurd r c⟩
