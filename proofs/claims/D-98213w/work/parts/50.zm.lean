/-! THE MODEL's STATE as whole numbers: numbers by field, arrays by field -/
set_option maxRecDepth 100000
abbrev ZT : Type := (Int → Int) × (Nat → Int → Int)
def mShL : List (Nat × Nat) := [(18, 0), (1, 7), (1, 6180), (1, 12360), (4, 2), (1, 400), (1, 96), (1, 400), (1, 400), (1, 400), (1, 400), (3, 8), (3, 6), (3, 13), (3, 13), (3, 400), (1, 120), (1, 12), (1, 36), (1, 36), (1, 36), (1, 40), (1, 432), (1, 434), (1, 10), (1, 8), (1, 8), (1, 8), (1, 6), (1, 6), (4, 48), (1, 4), (1, 12), (1, 13), (1, 18), (1, 18), (4, 12), (4, 12), (1, 13), (1, 12), (1, 36), (1, 8)]
def MSh (T : Nat) (sh : SHT) : Prop := ∀ i, i < 42 → sh (T + i) = mShL.getD i (0, 0)
/-- fields that last from call to call -/
def pI (k : Int) : Bool := k == 1 || k == 6 || k == 8 || k == 13 || k == 15 || k == 74 || k == 75
def pA (k : Nat) : Nat := if k = 2 then 1 else if k = 3 then 2 else if k = 4 then 3 else if k = 5 then 4 else if k = 7 then 5 else if k = 72 then 40 else if k = 73 then 41 else 0
def pO (j : Nat) : Bool := j == 1 || j == 2 || j == 3 || j == 4 || j == 5 || j == 40 || j == 41
def mW (i : Int) : Int := if i = 0 then 542723566 else if i = 1 then 441892441 else if i = 2 then 81486 else if i = 3 then 136228 else if i = 4 then 525908 else if i = 5 then 21643763890 else if i = 6 then 824370 else if i = 7 then 441828 else 0
def mPW (i : Int) : Int := if i = 0 then 20579973 else if i = 1 then 3749 else if i = 2 then 769604 else if i = 3 then 464660 else if i = 4 then 525908 else if i = 5 then 441828 else 0
/-- of what lasts, V holds z -/
def PE (T : Nat) (V : VT) (z : ZT) : Prop := (∀ k, pI k = true → V.1 T k = z.1 k) ∧ (∀ k, pA k ≠ 0 → ∀ i, V.1 (T + pA k) i = z.2 k i) ∧ (∀ i, V.2.1 (T + 11) i = mW i) ∧ (∀ i, V.2.1 (T + 12) i = mPW i) ∧ V.2.1 (T + 14) 7 = 0 ∧ V.2.1 (T + 14) 8 = 0
def zi (z : ZT) (k v : Int) : ZT := (fun j => if j = k then v else z.1 j, z.2)
def za (z : ZT) (k : Nat) (i v : Int) : ZT := (z.1, u2 z.2 k i v)
/-- a whole array -/
def zA (z : ZT) (k : Nat) (f : Int → Int) : ZT := (z.1, u1 z.2 k f)
theorem pA_inj : ∀ {k j : Nat}, pA k = pA j → pA k ≠ 0 → k = j := by
  intro k j
  unfold pA
  repeat' split
  all_goals omega
theorem pA_O {k : Nat} (h : pA k ≠ 0) : pO (pA k) = true := by
  unfold pA at h ⊢
  repeat' split
  all_goals first | rfl | (simp_all)
theorem PE.i {T : Nat} {V : VT} {z : ZT} {k v : Int} (h : PE T V z) (hk : pI k = true) : PE T (vI V T k v) (zi z k v) := by
  refine ⟨fun j hj => ?_, fun j hj i => ?_, h.2.2⟩
  · show u2 V.1 T k v T j = if j = k then v else z.1 j
    by_cases e : j = k
    · subst e; rw [u2_s, if_pos rfl]
    · rw [u2_n (Or.inr e), if_neg e]; exact h.1 j hj
  · show u2 V.1 T k v (T + pA j) i = _
    rw [u2_n (Or.inl (by omega))]
    exact h.2.1 j hj i
theorem PE.s {T : Nat} {V : VT} {z : ZT} {k v : Int} (h : PE T V z) (hk : pI k = false) : PE T (vI V T k v) z := by
  refine ⟨fun j hj => ?_, fun j hj i => ?_, h.2.2⟩
  · show u2 V.1 T k v T j = _
    rw [u2_n (Or.inr (fun e => by subst e; rw [hk] at hj; exact absurd hj Bool.false_ne_true))]
    exact h.1 j hj
  · show u2 V.1 T k v (T + pA j) i = _
    rw [u2_n (Or.inl (by omega))]
    exact h.2.1 j hj i
theorem PE.a {T : Nat} {V : VT} {z : ZT} {o : Nat} {i v : Int} (h : PE T V z) (k : Nat) (hk : pA k = o) (h0 : Nat.blt 0 o = true) : PE T (vI V (T + o) i v) (za z k i v) := by
  have h0 : 0 < o := by simpa using h0
  refine ⟨fun j hj => ?_, fun j hj i2 => ?_, h.2.2⟩
  · show u2 V.1 (T + o) i v T j = _
    rw [u2_n (Or.inl (by omega))]
    exact h.1 j hj
  · show u2 V.1 (T + o) i v (T + pA j) i2 = u2 z.2 k i v j i2
    by_cases e : j = k
    · subst e
      rw [hk]
      by_cases e2 : i2 = i
      · subst e2; rw [u2_s, u2_s]
      · rw [u2_n (Or.inr e2), u2_n (Or.inr e2), ← hk]; exact h.2.1 j hj i2
    · have e3 : pA j ≠ o := fun e3 => e (pA_inj (e3.trans hk.symm) hj)
      rw [u2_n (Or.inl (by omega)), u2_n (Or.inl e)]
      exact h.2.1 j hj i2
theorem PE.t {T : Nat} {V : VT} {z : ZT} {i v : Int} (h : PE T V z) (o : Nat) (ho : (pO o || o == 0) = false) : PE T (vI V (T + o) i v) z := by
  have h1 : pO o = false ∧ o ≠ 0 := by simpa using ho
  refine ⟨fun j hj => ?_, fun j hj i2 => ?_, h.2.2⟩
  · show u2 V.1 (T + o) i v T j = _
    rw [u2_n (Or.inl (by omega))]
    exact h.1 j hj
  · show u2 V.1 (T + o) i v (T + pA j) i2 = _
    have e3 : pA j ≠ o := fun e3 => by have := pA_O hj; rw [e3, h1.1] at this; exact absurd this Bool.false_ne_true
    rw [u2_n (Or.inl (by omega))]
    exact h.2.1 j hj i2
theorem PE.lf {T : Nat} {V : VT} {z : ZT} {k v : Int} (h : PE T V z) (_ : True) : PE T (vL V T k v) z :=
  ⟨h.1, h.2.1, fun i => by show u2 V.2.1 T k v _ i = _; rw [u2_n (Or.inl (by omega))]; exact h.2.2.1 i, fun i => by show u2 V.2.1 T k v _ i = _; rw [u2_n (Or.inl (by omega))]; exact h.2.2.2.1 i, by show u2 V.2.1 T k v (T + 14) 7 = _; rw [u2_n (Or.inl (by omega))]; exact h.2.2.2.2.1, by show u2 V.2.1 T k v (T + 14) 8 = _; rw [u2_n (Or.inl (by omega))]; exact h.2.2.2.2.2⟩
theorem PE.la {T : Nat} {V : VT} {z : ZT} {k v : Int} (h : PE T V z) (o : Nat) (ho : (o == 11 || o == 12 || o == 14) = false) : PE T (vL V (T + o) k v) z := by
  have h1 : (o ≠ 11 ∧ o ≠ 12) ∧ o ≠ 14 := by simpa using ho
  exact ⟨h.1, h.2.1, fun i => by show u2 V.2.1 (T + o) k v _ i = _; rw [u2_n (Or.inl (by omega))]; exact h.2.2.1 i, fun i => by show u2 V.2.1 (T + o) k v _ i = _; rw [u2_n (Or.inl (by omega))]; exact h.2.2.2.1 i, by show u2 V.2.1 (T + o) k v (T + 14) 7 = _; rw [u2_n (Or.inl (by omega))]; exact h.2.2.2.2.1, by show u2 V.2.1 (T + o) k v (T + 14) 8 = _; rw [u2_n (Or.inl (by omega))]; exact h.2.2.2.2.2⟩
theorem rvI {a b : Int} (h : a = b) : (Sum.inl (some (Value.int (iI a))) : AO) = .inl (some (.int (iI b))) := by rw [h]
theorem rvL {a b : Int} (h : a = b) : (Sum.inl (some (Value.long (lI a))) : AO) = .inl (some (.long (lI b))) := by rw [h]
theorem leafZ {T : Nat} {V : VT} {sh : SHT} {nn : Nat × Nat} {x : Int × ZT} {r : Int} {z : ZT} (hp : PE T V z) (h : x = (r, z)) : (Sum.inl (some (Value.int (iI r))) : AO) = .inl (some (.int (iI x.1))) ∧ sh = sh ∧ nn = nn ∧ PE T V x.2 := by subst h; exact ⟨rfl, rfl, rfl, hp⟩
theorem leafF {sh : SHT} {nn : Nat × Nat} {V : VT} {a b : Int} (h : a = b) : (Sum.inl (some (Value.int (iI a))) : AO) = .inl (some (.int (iI b))) ∧ sh = sh ∧ nn = nn ∧ V = V := by subst h; exact ⟨rfl, rfl, rfl, rfl⟩
/-- an operation's post: the answer, and what lasts -/
abbrev ZP (T : Nat) (sh : SHT) (nn : Nat × Nat) (x : Int × ZT) : AO → SHT → Nat × Nat → VT → Prop := fun o sh' nn' V' => o = .inl (some (.int (iI x.1))) ∧ sh' = sh ∧ nn' = nn ∧ PE T V' x.2
/-- a number's range -/
abbrev R32 (a : Int) : Prop := -2147483648 ≤ a ∧ a ≤ 2147483647
/-- a rule: none, or its word six times and its next state -/
abbrev cOK (c : Int) : Prop := -1 ≤ c ∧ c < 60
def wZ (c : Int) : Int := if c = -1 then -1 else c / 6
def nZ (c : Int) : Int := if c = -1 then -1 else c % 6
/-- the row of numbers is in order -/
def RWZ (f : Int → Int) : Prop :=
  ((0 ≤ f 0 ∧ f 0 ≤ 6) ∧ (0 ≤ f 1 ∧ f 1 ≤ 8) ∧ (0 ≤ f 2 ∧ f 2 ≤ 12) ∧ (0 ≤ f 3 ∧ f 3 ≤ 6) ∧ (-1 ≤ f 4 ∧ f 4 < f 3) ∧ (0 ≤ f 5 ∧ f 5 ≤ 12) ∧ (0 ≤ f 6 ∧ f 6 ≤ 12) ∧ (0 ≤ f 7 ∧ f 7 ≤ 300) ∧ (0 ≤ f 8 ∧ f 8 ≤ 9) ∧ (0 ≤ f 9 ∧ f 9 ≤ 100)) ∧
  (∀ p, 0 ≤ p → p < f 0 → (0 ≤ f (10 + 2 * p) ∧ f (10 + 2 * p) ≤ 23) ∧ 0 ≤ f (10 + 2 * p + 1) ∧ f (10 + 2 * p + 1) ≤ 24) ∧
  (∀ p r, 0 ≤ p → p < f 0 → 0 ≤ r → r < 36 → cOK (f (22 + 36 * p + r))) ∧
  (∀ q, 0 ≤ q → q < f 1 → (0 ≤ f (238 + 3 * q) ∧ f (238 + 3 * q) ≤ 200) ∧ (f (238 + 3 * q) < f (238 + 3 * q + 1) ∧ f (238 + 3 * q + 1) ≤ 300) ∧ 1 ≤ f (238 + 3 * q + 2) ∧ f (238 + 3 * q + 2) ≤ 9) ∧
  (∀ v, 0 ≤ v → v < f 2 → (0 ≤ f (262 + 3 * v) ∧ f (262 + 3 * v) < f 0) ∧ (0 ≤ f (262 + 3 * v + 1) ∧ f (262 + 3 * v + 1) < f 1) ∧ -1 ≤ f (262 + 3 * v + 2) ∧ f (262 + 3 * v + 2) ≤ 12) ∧
  (∀ v r, 0 ≤ v → v < f 2 → 0 ≤ r → r < 36 → cOK (f (298 + 36 * v + r))) ∧
  (∀ k, 0 ≤ k → k < f 5 → 0 ≤ f (730 + k) ∧ f (730 + k) < 6) ∧
  ∀ k, 0 ≤ k → k < f 6 → (0 ≤ f (742 + 3 * k) ∧ f (742 + 3 * k) < 4) ∧ (0 ≤ f (742 + 3 * k + 1) ∧ f (742 + 3 * k + 1) < 6) ∧ 0 ≤ f (742 + 3 * k + 2) ∧ f (742 + 3 * k + 2) < 10

