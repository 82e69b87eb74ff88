/-! The law of chains -/
set_option maxRecDepth 100000
/-- rows of people, the last ahead: which of two alike long comes first -/
def rlx : List Int → List Int → Prop
  | a :: q, b :: r => rlx q r ∨ (q = r ∧ a < b)
  | _, _ => False
theorem rlx_tr : ∀ {p q r : List Int}, rlx p q → rlx q r → rlx p r := by
  intro p
  induction p with
  | nil => intro q r h; exact absurd h id
  | cons a p ih =>
    intro q r h1 h2
    cases q with
    | nil => exact absurd h1 id
    | cons b q =>
      cases r with
      | nil => exact absurd h2 id
      | cons c r =>
        rcases h1 with h1 | ⟨e1, h1⟩
        · rcases h2 with h2 | ⟨e2, h2⟩
          · exact Or.inl (ih h1 h2)
          · exact Or.inl (e2 ▸ h1)
        · rcases h2 with h2 | ⟨e2, h2⟩
          · exact Or.inl (e1 ▸ h2)
          · exact Or.inr ⟨e1.trans e2, by omega⟩
theorem rlx_ir : ∀ {p : List Int}, ¬ rlx p p := by
  intro p
  induction p with
  | nil => exact id
  | cons a p ih =>
    intro h
    rcases h with h | ⟨-, h⟩
    · exact ih h
    · omega
/-- a row of people that can learn of one another, from x0 -/
def vpL (ok : Int → Int → Int) (n : Nat) (x0 : Int) : List Int → Prop
  | [] => False
  | [x] => x = x0
  | y :: x :: r => (0 ≤ y ∧ y < n) ∧ y ∉ x :: r ∧ ok x y = 1 ∧ vpL ok n x0 (x :: r)
theorem vpL_0 {ok : Int → Int → Int} {n : Nat} {x0 : Int} : ∀ {Q : List Int}, vpL ok n x0 Q → x0 ∈ Q := by
  intro Q
  induction Q with
  | nil => intro h; exact absurd h id
  | cons y Q ih =>
    intro h
    cases Q with
    | nil => rw [show y = x0 from h]; exact List.mem_singleton.mpr rfl
    | cons x r => exact List.mem_cons_of_mem _ (ih h.2.2.2)
/-- better: ends later, or is shorter, or comes first -/
def betL (en : Int → Int) (R Q : List Int) : Prop := en (Q.headD 0) < en (R.headD 0) ∨ (en (Q.headD 0) = en (R.headD 0) ∧ (R.length < Q.length ∨ (R.length = Q.length ∧ (Q = R ∨ rlx R Q))))
theorem betL_eq {en : Int → Int} {R Q : List Int} (h1 : betL en R Q) (h2 : betL en Q R) : R = Q := by
  unfold betL at h1 h2
  rcases h1 with h1 | ⟨e1, h1 | ⟨l1, h1⟩⟩
  · rcases h2 with h2 | ⟨e2, -⟩ <;> omega
  · rcases h2 with h2 | ⟨e2, h2 | ⟨l2, -⟩⟩ <;> omega
  · rcases h2 with h2 | ⟨e2, h2 | ⟨l2, h2⟩⟩
    · omega
    · omega
    · rcases h1 with h1 | h1
      · exact h1.symm
      · rcases h2 with h2 | h2
        · exact h2
        · exact absurd (rlx_tr h1 h2) rlx_ir
/-- what is kept: when it ends, how many, the row -/
abbrev ChT : Type := Int × Int × List Int
def stL (en : Int → Int) (R : List Int) : ChT := (en (R.headD 0), (R.length : Int), R)
def updL (en : Int → Int) (st : ChT) (P : List Int) : ChT := if st.1 < en (P.headD 0) ∨ (en (P.headD 0) = st.1 ∧ (P.length : Int) < st.2.1) then stL en P else st
theorem fold_best (en : Int → Int) : ∀ (l : List (List Int)) (R0 : List Int), (∀ Q, Q ∈ l → R0.length = Q.length → rlx R0 Q) → l.Pairwise (fun q r => q.length = r.length → rlx q r) →
    ∃ R, R ∈ R0 :: l ∧ l.foldl (updL en) (stL en R0) = stL en R ∧ ∀ Q, Q ∈ R0 :: l → betL en R Q := by
  intro l
  induction l with
  | nil => intro R0 _ _; exact ⟨R0, List.mem_singleton.mpr rfl, rfl, fun Q hQ => by rw [List.mem_singleton.mp hQ]; exact Or.inr ⟨rfl, Or.inr ⟨rfl, Or.inl rfl⟩⟩⟩
  | cons P t ih =>
    intro R0 h0 hp
    rw [List.pairwise_cons] at hp
    rw [List.foldl_cons]
    by_cases c : en (R0.headD 0) < en (P.headD 0) ∨ (en (P.headD 0) = en (R0.headD 0) ∧ (P.length : Int) < (R0.length : Int))
    · have e : updL en (stL en R0) P = stL en P := if_pos c
      rw [e]
      obtain ⟨R, m, q1, q2⟩ := ih P hp.1 hp.2
      refine ⟨R, List.mem_cons_of_mem _ m, q1, fun Q hQ => ?_⟩
      rcases List.mem_cons.mp hQ with e | hQ
      · rw [e]
        have q3 := q2 P List.mem_cons_self
        unfold betL at q3 ⊢
        rcases q3 with q3 | ⟨e3, q3 | ⟨l3, -⟩⟩
        · rcases c with c | ⟨c1, c2⟩ <;> exact Or.inl (by omega)
        · rcases c with c | ⟨c1, c2⟩
          · exact Or.inl (by omega)
          · exact Or.inr ⟨by omega, Or.inl (by omega)⟩
        · rcases c with c | ⟨c1, c2⟩
          · exact Or.inl (by omega)
          · exact Or.inr ⟨by omega, Or.inl (by omega)⟩
      · exact q2 Q hQ
    · have e : updL en (stL en R0) P = stL en R0 := if_neg c
      rw [e]
      obtain ⟨R, m, q1, q2⟩ := ih R0 (fun Q hQ => h0 Q (List.mem_cons_of_mem _ hQ)) hp.2
      refine ⟨R, ?_, q1, fun Q hQ => ?_⟩
      · rcases List.mem_cons.mp m with m | m
        · rw [m]; exact List.mem_cons_self
        · exact List.mem_cons_of_mem _ (List.mem_cons_of_mem _ m)
      · rcases List.mem_cons.mp hQ with e | hQ
        · rw [e]; exact q2 R0 List.mem_cons_self
        · rcases List.mem_cons.mp hQ with e | hQ
          · rw [e]
            have q3 := q2 R0 List.mem_cons_self
            have q4 := h0 P List.mem_cons_self
            unfold betL at q3 ⊢
            rcases q3 with q3 | ⟨e3, q3 | ⟨l3, q3⟩⟩
            · by_cases d : en (P.headD 0) = en (R0.headD 0)
              · exact Or.inl (by omega)
              · exact Or.inl (by omega)
            · by_cases d : en (P.headD 0) = en (R0.headD 0)
              · exact Or.inr ⟨by omega, Or.inl (by omega)⟩
              · exact Or.inl (by omega)
            · by_cases d : en (P.headD 0) = en (R0.headD 0)
              · by_cases d2 : R0.length = P.length
                · refine Or.inr ⟨by omega, Or.inr ⟨by omega, Or.inr ?_⟩⟩
                  rcases q3 with q3 | q3
                  · rw [← q3]; exact q4 d2
                  · exact rlx_tr q3 (q4 d2)
                · exact Or.inr ⟨by omega, Or.inl (by omega)⟩
              · exact Or.inl (by omega)
          · exact q2 Q (List.mem_cons_of_mem _ hQ)
/-- all rows from a row on, as X goes -/
def xcnL (ok : Int → Int → Int) (P : List Int) (b : Nat) : Bool := decide ((b : Int) ∉ P ∧ ok (P.headD 0) (b : Int) = 1)
def exL (ok : Int → Int → Int) (n : Nat) : Nat → List Int → List (List Int)
  | 0, P => [P]
  | k + 1, P => P :: (List.range n).flatMap (fun b => if xcnL ok P b then exL ok n k ((b : Int) :: P) else [])
theorem exL_suf {ok : Int → Int → Int} {n : Nat} : ∀ (k : Nat) (P Q : List Int), Q ∈ exL ok n k P → ∃ E, Q = E ++ P := by
  intro k
  induction k with
  | zero => intro P Q h; exact ⟨[], (List.mem_singleton.mp h)⟩
  | succ k ih =>
    intro P Q h
    rcases List.mem_cons.mp h with e | h
    · exact ⟨[], e⟩
    · obtain ⟨b, -, hb⟩ := List.mem_flatMap.mp h
      split at hb
      · obtain ⟨E, e⟩ := ih _ _ hb
        exact ⟨E ++ [(b : Int)], by rw [e, List.append_assoc]; rfl⟩
      · exact absurd hb (List.not_mem_nil)
theorem exL_vp {ok : Int → Int → Int} {n : Nat} {x0 : Int} : ∀ (k : Nat) (P Q : List Int), vpL ok n x0 P → Q ∈ exL ok n k P → vpL ok n x0 Q := by
  intro k
  induction k with
  | zero => intro P Q hP h; rw [List.mem_singleton.mp h]; exact hP
  | succ k ih =>
    intro P Q hP h
    rcases List.mem_cons.mp h with e | h
    · rw [e]; exact hP
    · obtain ⟨b, hr, hb⟩ := List.mem_flatMap.mp h
      split at hb
      · rename_i c
        have c := of_decide_eq_true c
        refine ih _ _ ?_ hb
        cases P with
        | nil => exact absurd hP id
        | cons x r => exact ⟨⟨by omega, by have := List.mem_range.mp hr; omega⟩, c.1, c.2, hP⟩
      · exact absurd hb (List.not_mem_nil)
theorem rlx_app : ∀ {E F p q : List Int}, E.length = F.length → rlx p q → rlx (E ++ p) (F ++ q) := by
  intro E
  induction E with
  | nil =>
    intro F p q h hr
    cases F with
    | nil => exact hr
    | cons a F => exact absurd h (by simp)
  | cons a E ih =>
    intro F p q h hr
    cases F with
    | nil => exact absurd h (by simp)
    | cons b F => exact Or.inl (ih (by simpa using h) hr)
theorem exL_pw {ok : Int → Int → Int} {n : Nat} : ∀ (k : Nat) (P : List Int), (exL ok n k P).Pairwise (fun q r => q.length = r.length → rlx q r) := by
  intro k
  induction k with
  | zero => intro P; exact List.pairwise_singleton _ _
  | succ k ih =>
    intro P
    rw [exL, List.pairwise_cons]
    refine ⟨fun Q hQ hl => ?_, ?_⟩
    · exfalso
      obtain ⟨b, -, hb⟩ := List.mem_flatMap.mp hQ
      split at hb
      · obtain ⟨E, e⟩ := exL_suf _ _ _ hb
        rw [e] at hl
        simp at hl
        omega
      · exact absurd hb (List.not_mem_nil)
    · rw [List.pairwise_flatMap]
      refine ⟨fun b _ => ?_, ?_⟩
      · split
        · exact ih _
        · exact List.Pairwise.nil
      · refine (List.pairwise_lt_range (n := n)).imp (fun {b c} hbc => ?_)
        intro x hx y hy hl
        split at hx
        · split at hy
          · obtain ⟨E, e1⟩ := exL_suf _ _ _ hx
            obtain ⟨F, e2⟩ := exL_suf _ _ _ hy
            rw [e1, e2] at hl ⊢
            exact rlx_app (by simp at hl; omega) (Or.inr ⟨rfl, by omega⟩)
          · exact absurd hy (List.not_mem_nil)
        · exact absurd hx (List.not_mem_nil)
/-- every row is gone to -/
theorem exL_up {ok : Int → Int → Int} {n : Nat} : ∀ (k : Nat) (P Q : List Int), Q ∈ exL ok n k P → ∀ {y : Int}, (0 ≤ y ∧ y < n) → y ∉ Q → ok (Q.headD 0) y = 1 → Q.length + 1 ≤ P.length + k → y :: Q ∈ exL ok n k P := by
  intro k
  induction k with
  | zero =>
    intro P Q h y _ _ _ hl
    rw [List.mem_singleton.mp h] at hl
    omega
  | succ k ih =>
    intro P Q h y hy hn ho hl
    rcases List.mem_cons.mp h with e | h
    · subst e
      refine List.mem_cons_of_mem _ (List.mem_flatMap.mpr ⟨y.toNat, List.mem_range.mpr (by omega), ?_⟩)
      have ey : ((y.toNat : Nat) : Int) = y := by omega
      rw [if_pos (by unfold xcnL; rw [ey]; exact decide_eq_true ⟨hn, ho⟩), ey]
      cases k with
      | zero => exact List.mem_singleton.mpr rfl
      | succ k => exact List.mem_cons_self
    · obtain ⟨b, hr, hb⟩ := List.mem_flatMap.mp h
      refine List.mem_cons_of_mem _ (List.mem_flatMap.mpr ⟨b, hr, ?_⟩)
      by_cases c : xcnL ok P b = true
      · rw [if_pos c] at hb ⊢
        exact ih _ _ hb hy hn ho (by simp only [List.length_cons]; omega)
      · rw [if_neg c] at hb; exact absurd hb (List.not_mem_nil)
theorem exL_all {ok : Int → Int → Int} {n : Nat} {x0 : Int} (k : Nat) : ∀ Q : List Int, vpL ok n x0 Q → Q.length ≤ 1 + k → Q ∈ exL ok n k [x0] := by
  intro Q
  induction Q with
  | nil => intro h; exact absurd h id
  | cons y Q ih =>
    intro h hl
    cases Q with
    | nil =>
      rw [show y = x0 from h]
      cases k with
      | zero => exact List.mem_singleton.mpr rfl
      | succ k => exact List.mem_cons_self
    | cons x r =>
      obtain ⟨h1, h2, h3, h4⟩ := h
      exact exL_up k _ _ (ih h4 (by simp only [List.length_cons] at hl ⊢; omega)) h1 h2 h3 (by simp only [List.length_cons] at hl ⊢; simp only [List.length_nil]; omega)
/-- the queue of the breadth first search: whence each was come to first -/
def BqZ (ok : Int → Int → Int) (n : Nat) (x0 : Int) (S : CT) (k c : Int) (pi : Int → Int) : Prop :=
  (1 ≤ S.2 ∧ S.1.1 0 = x0 ∧ S.1.2 x0 = x0) ∧ (∀ i, 0 ≤ i → i < S.2 → (0 ≤ S.1.1 i ∧ S.1.1 i < n) ∧ S.1.2 (S.1.1 i) ≠ -1) ∧
  (∀ i j, 0 ≤ i → i < j → j < S.2 → S.1.1 i ≠ S.1.1 j) ∧ (∀ x, S.1.2 x ≠ -1 → ∃ i, 0 ≤ i ∧ i < S.2 ∧ x = S.1.1 i) ∧
  (∀ i, 1 ≤ i → i < S.2 → (0 ≤ pi i ∧ pi i < i ∧ pi i ≤ k) ∧ (pi i = k → S.1.1 i < c) ∧ S.1.2 (S.1.1 i) = S.1.1 (pi i) ∧ ok (S.1.1 (pi i)) (S.1.1 i) = 1 ∧ ∀ p, 0 ≤ p → p < pi i → ok (S.1.1 p) (S.1.1 i) ≠ 1) ∧
  (∀ i j, 1 ≤ i → i < j → j < S.2 → pi i < pi j ∨ (pi i = pi j ∧ S.1.1 i < S.1.1 j)) ∧
  (∀ p, 0 ≤ p → p < k → p < S.2 → ∀ y : Int, 0 ≤ y → y < n → ok (S.1.1 p) y = 1 → S.1.2 y ≠ -1) ∧ (k < S.2 → ∀ y : Int, 0 ≤ y → y < c → ok (S.1.1 k) y = 1 → S.1.2 y ≠ -1)
theorem BqZ.step {ok : Int → Int → Int} {n : Nat} {x0 : Int} {S : CT} {k c : Int} {pi : Int → Int} (h : BqZ ok n x0 S k c pi) (hk : 0 ≤ k ∧ k < S.2) (hc : 0 ≤ c ∧ c < n) : ∃ pi', BqZ ok n x0 (cmC ok S (S.1.1 k) c) k (c + 1) pi' ∧ k < (cmC ok S (S.1.1 k) c).2 ∧ (cmC ok S (S.1.1 k) c).1.1 k = S.1.1 k := by
  obtain ⟨h1, h2, h3, h4, h5, h6, h7, h8⟩ := h
  unfold cmC
  by_cases e : ok (S.1.1 k) c = 1 ∧ S.1.2 c = -1
  · rw [if_pos e]
    have hx : ∀ i, 0 ≤ i → i < S.2 → S.1.1 i ≠ c := fun i i0 i1 q => (h2 i i0 i1).2 (by rw [q]; exact e.2)
    have g1 : ∀ i, i < S.2 → zu S.1.1 S.2 c i = S.1.1 i := fun i hi => zu_n (by omega)
    have gs : zu S.1.1 S.2 c S.2 = c := zu_s
    have p1 : ∀ x, x ≠ c → zu S.1.2 c (S.1.1 k) x = S.1.2 x := fun x hx => zu_n hx
    have ps : zu S.1.2 c (S.1.1 k) c = S.1.1 k := zu_s
    have hkn := (h2 k hk.1 hk.2).1
    have hpm : ∀ y, S.1.2 y ≠ -1 → zu S.1.2 c (S.1.1 k) y ≠ -1 := fun y hy => by
      by_cases q : y = c
      · rw [q, ps]; omega
      · rw [p1 y q]; exact hy
    refine ⟨fun i => if i = S.2 then k else pi i, ⟨⟨by show 1 ≤ S.2 + 1; omega, ?_, ?_⟩, fun i i0 i1 => ?_, fun i j i0 ij j1 => ?_, fun x hx2 => ?_, fun i i0 i1 => ?_, fun i j i0 ij j1 => ?_, fun p p0 p1' p2 y y0 y1 hy => ?_, fun _ y y0 y1 hy => ?_⟩, by show k < S.2 + 1; omega, g1 k hk.2⟩
    · show zu S.1.1 S.2 c 0 = x0
      rw [g1 0 (by omega)]; exact h1.2.1
    · show zu S.1.2 c (S.1.1 k) x0 = x0
      rw [p1 x0 (fun q => hx 0 (by omega) (by omega) (h1.2.1.trans q))]; exact h1.2.2
    · have i1 : i < S.2 + 1 := i1
      show (0 ≤ zu S.1.1 S.2 c i ∧ zu S.1.1 S.2 c i < n) ∧ zu S.1.2 c (S.1.1 k) (zu S.1.1 S.2 c i) ≠ -1
      by_cases q : i = S.2
      · rw [q, gs, ps]; exact ⟨hc, by omega⟩
      · rw [g1 i (by omega)]
        have w := h2 i i0 (by omega)
        exact ⟨w.1, hpm _ w.2⟩
    · have j1 : j < S.2 + 1 := j1
      show zu S.1.1 S.2 c i ≠ zu S.1.1 S.2 c j
      rw [g1 i (by omega)]
      by_cases q : j = S.2
      · rw [q, gs]; exact hx i i0 (by omega)
      · rw [g1 j (by omega)]; exact h3 i j i0 ij (by omega)
    · have hx2 : zu S.1.2 c (S.1.1 k) x ≠ -1 := hx2
      by_cases q : x = c
      · exact ⟨S.2, by omega, by show S.2 < S.2 + 1; omega, by rw [q]; exact gs.symm⟩
      · rw [p1 x q] at hx2
        obtain ⟨i, i0, i1, e⟩ := h4 x hx2
        exact ⟨i, i0, by show i < S.2 + 1; omega, by rw [e]; exact (g1 i i1).symm⟩
    · have i1 : i < S.2 + 1 := i1
      show (0 ≤ (if i = S.2 then k else pi i) ∧ (if i = S.2 then k else pi i) < i ∧ (if i = S.2 then k else pi i) ≤ k) ∧ ((if i = S.2 then k else pi i) = k → zu S.1.1 S.2 c i < c + 1) ∧ zu S.1.2 c (S.1.1 k) (zu S.1.1 S.2 c i) = zu S.1.1 S.2 c (if i = S.2 then k else pi i) ∧ ok (zu S.1.1 S.2 c (if i = S.2 then k else pi i)) (zu S.1.1 S.2 c i) = 1 ∧ ∀ p, 0 ≤ p → p < (if i = S.2 then k else pi i) → ok (zu S.1.1 S.2 c p) (zu S.1.1 S.2 c i) ≠ 1
      by_cases q : i = S.2
      · rw [if_pos q, q, gs, ps, g1 k hk.2]
        refine ⟨by omega, fun _ => by omega, rfl, e.1, fun p p0 p1' => ?_⟩
        rw [g1 p (by omega)]
        exact fun w => h7 p p0 p1' (by omega) c hc.1 hc.2 w e.2
      · rw [if_neg q, g1 i (by omega)]
        obtain ⟨w1, w2, w3, w4, w5⟩ := h5 i i0 (by omega)
        rw [g1 (pi i) (by omega), p1 _ (hx i (by omega) (by omega))]
        refine ⟨w1, fun w => by have := w2 w; omega, w3, w4, fun p p0 p1' => ?_⟩
        rw [g1 p (by omega)]; exact w5 p p0 p1'
    · have j1 : j < S.2 + 1 := j1
      show (if i = S.2 then k else pi i) < (if j = S.2 then k else pi j) ∨ ((if i = S.2 then k else pi i) = (if j = S.2 then k else pi j) ∧ zu S.1.1 S.2 c i < zu S.1.1 S.2 c j)
      rw [if_neg (show i ≠ S.2 by omega), g1 i (by omega)]
      by_cases q : j = S.2
      · rw [if_pos q, q, gs]
        obtain ⟨w1, w2, -⟩ := h5 i i0 (by omega)
        by_cases q2 : pi i = k
        · exact Or.inr ⟨q2, w2 q2⟩
        · exact Or.inl (by omega)
      · rw [if_neg q, g1 j (by omega)]; exact h6 i j i0 ij (by omega)
    · have hy : ok (zu S.1.1 S.2 c p) y = 1 := hy
      rw [g1 p (by omega)] at hy
      exact hpm y (h7 p p0 p1' (by omega) y y0 y1 hy)
    · have hy : ok (zu S.1.1 S.2 c k) y = 1 := hy
      rw [g1 k hk.2] at hy
      show zu S.1.2 c (S.1.1 k) y ≠ -1
      by_cases q : y = c
      · rw [q, ps]; omega
      · exact hpm y (h8 hk.2 y y0 (by omega) hy)
  · rw [if_neg e]
    refine ⟨pi, ⟨h1, h2, h3, h4, fun i i0 i1 => ?_, h6, h7, fun hk2 y y0 y1 hy => ?_⟩, hk.2, rfl⟩
    · obtain ⟨w1, w2, w3⟩ := h5 i i0 i1
      exact ⟨w1, fun w => by have := w2 w; omega, w3⟩
    · by_cases q : y = c
      · rw [q] at hy ⊢
        exact fun w => e ⟨hy, w⟩
      · exact h8 hk2 y y0 (by omega) hy
theorem BqZ.row {ok : Int → Int → Int} {n : Nat} {x0 : Int} {S : CT} {k : Int} {pi : Int → Int} (h : BqZ ok n x0 S k 0 pi) (hk : 0 ≤ k ∧ k < S.2) : ∀ c : Nat, c ≤ n → ∃ pi', BqZ ok n x0 (cmR ok S (S.1.1 k) c) k (c : Int) pi' ∧ k < (cmR ok S (S.1.1 k) c).2 ∧ (cmR ok S (S.1.1 k) c).1.1 k = S.1.1 k := by
  intro c
  induction c with
  | zero => intro _; exact ⟨pi, h, hk.2, rfl⟩
  | succ c ih =>
    intro hc
    obtain ⟨p', q1, q2, q3⟩ := ih (by omega)
    obtain ⟨p2, w1, w2, w3⟩ := q1.step ⟨hk.1, q2⟩ (show 0 ≤ (c : Int) ∧ (c : Int) < n by omega)
    rw [q3] at w1 w2 w3
    exact ⟨p2, by rw [cmR]; exact w1, by rw [cmR]; exact w2, by rw [cmR]; exact w3⟩
theorem BqZ.next {ok : Int → Int → Int} {n : Nat} {x0 : Int} {S : CT} {k : Int} {pi : Int → Int} (h : BqZ ok n x0 S k n pi) : BqZ ok n x0 S (k + 1) 0 pi := by
  obtain ⟨h1, h2, h3, h4, h5, h6, h7, h8⟩ := h
  refine ⟨h1, h2, h3, h4, fun i i0 i1 => ?_, h6, fun p p0 p1 p2 y y0 y1 hy => ?_, fun _ y y0 y1 => by omega⟩
  · obtain ⟨w1, w2, w3⟩ := h5 i i0 i1
    exact ⟨by omega, fun w => by omega, w3⟩
  · by_cases q : p = k
    · rw [q] at hy p2; exact h8 p2 y y0 y1 hy
    · exact h7 p p0 (by omega) p2 y y0 y1 hy
theorem BqZ.all {ok : Int → Int → Int} {n : Nat} {x0 : Int} (h0 : 0 ≤ x0 ∧ x0 < n) : ∀ k : Nat, ∃ pi, BqZ ok n x0 (cmS ok n x0 k) (k : Int) 0 pi := by
  intro k
  induction k with
  | zero =>
    refine ⟨fun _ => 0, ⟨⟨by show (1 : Int) ≤ 1; omega, rfl, if_pos rfl⟩, fun i i0 i1 => ?_, fun i j i0 ij j1 => ?_, fun x hx => ?_, fun i i0 i1 => ?_, fun i j i0 ij j1 => ?_, fun p p0 p1 => by omega, fun _ y y0 y1 => by omega⟩⟩
    · exact ⟨h0, by show (if x0 = x0 then x0 else -1) ≠ -1; rw [if_pos rfl]; omega⟩
    · have j1 : j < 1 := j1; omega
    · have hx : (if x = x0 then x0 else -1) ≠ -1 := hx
      by_cases e : x = x0
      · exact ⟨0, by omega, by show (0 : Int) < 1; omega, e⟩
      · rw [if_neg e] at hx; exact absurd rfl hx
    · have i1 : i < 1 := i1; omega
    · have j1 : j < 1 := j1; omega
  | succ k ih =>
    obtain ⟨pi, h⟩ := ih
    rw [cmS]
    by_cases e : (cmS ok n x0 k).2 ≤ (k : Int)
    · rw [if_pos e]
      obtain ⟨h1, h2, h3, h4, h5, h6, h7, h8⟩ := h
      refine ⟨pi, h1, h2, h3, h4, fun i i0 i1 => ?_, h6, fun p p0 p1 p2 => h7 p p0 (by omega) p2, fun w y y0 y1 => by omega⟩
      obtain ⟨w1, w2, w3⟩ := h5 i i0 i1
      exact ⟨by omega, fun w => by omega, w3⟩
    · rw [if_neg e]
      obtain ⟨p', q1, -, -⟩ := h.row ⟨by omega, by omega⟩ n (Nat.le_refl _)
      exact ⟨p', by have := q1.next; rwa [show ((k + 1 : Nat) : Int) = (k : Int) + 1 by omega]⟩
/-- rows back to the first, by places of the queue -/
def bkL (q pi : Int → Int) : Nat → Int → List Int
  | 0, i => [q i]
  | d + 1, i => if i = 0 then [q 0] else q i :: bkL q pi d (pi i)
theorem bkL_d {q pi : Int → Int} {N : Int} (h : ∀ i, 1 ≤ i → i < N → 0 ≤ pi i ∧ pi i < i) : ∀ (d e : Nat) (i : Int), 0 ≤ i → i < N → i ≤ (d : Int) → i ≤ (e : Int) → bkL q pi d i = bkL q pi e i := by
  intro d
  induction d with
  | zero =>
    intro e i i0 i1 hd he
    obtain rfl : i = 0 := by omega
    cases e with
    | zero => rfl
    | succ e => rw [bkL, bkL, if_pos rfl]
  | succ d ih =>
    intro e i i0 i1 hd he
    by_cases q0 : i = 0
    · subst q0
      cases e with
      | zero => rw [bkL, bkL, if_pos rfl]
      | succ e => rw [bkL, bkL, if_pos rfl, if_pos rfl]
    · cases e with
      | zero => omega
      | succ e =>
        have w := h i (by omega) i1
        rw [bkL, bkL, if_neg q0, if_neg q0, ih e (pi i) w.1 (by omega) (by omega) (by omega)]
def bL (q pi : Int → Int) (i : Int) : List Int := bkL q pi i.toNat i
theorem bL_0 {q pi : Int → Int} : bL q pi 0 = [q 0] := rfl
theorem bL_s {q pi : Int → Int} {N : Int} (h : ∀ i, 1 ≤ i → i < N → 0 ≤ pi i ∧ pi i < i) {i : Int} (h1 : 1 ≤ i) (h2 : i < N) : bL q pi i = q i :: bL q pi (pi i) := by
  have w := h i h1 h2
  unfold bL
  obtain ⟨d, hd⟩ : ∃ d : Nat, i.toNat = d + 1 := ⟨i.toNat - 1, by omega⟩
  rw [hd, bkL, if_neg (by omega)]
  rw [bkL_d h d (pi i).toNat (pi i) w.1 (by omega) (by omega) (by omega)]
theorem bL_hd {q pi : Int → Int} {N : Int} (h : ∀ i, 1 ≤ i → i < N → 0 ≤ pi i ∧ pi i < i) {i : Int} (h1 : 0 ≤ i) (h2 : i < N) : ∃ r, bL q pi i = q i :: r := by
  by_cases e : i = 0
  · subst e; exact ⟨[], rfl⟩
  · exact ⟨_, bL_s h (by omega) h2⟩
theorem BqZ.pi' {ok : Int → Int → Int} {n : Nat} {x0 : Int} {S : CT} {k c : Int} {pi : Int → Int} (h : BqZ ok n x0 S k c pi) : ∀ i, 1 ≤ i → i < S.2 → 0 ≤ pi i ∧ pi i < i := fun i i0 i1 => by
  have := (h.2.2.2.2.1 i i0 i1).1; omega
theorem BqZ.el {ok : Int → Int → Int} {n : Nat} {x0 : Int} {S : CT} {k c : Int} {pi : Int → Int} (h : BqZ ok n x0 S k c pi) : ∀ (m : Nat) (i : Int), 0 ≤ i → i < S.2 → i ≤ (m : Int) → ∀ e, e ∈ bL S.1.1 pi i → ∃ j, 0 ≤ j ∧ j ≤ i ∧ e = S.1.1 j := by
  intro m
  induction m with
  | zero =>
    intro i i0 i1 hm e he
    obtain rfl : i = 0 := by omega
    exact ⟨0, by omega, by omega, List.mem_singleton.mp he⟩
  | succ m ih =>
    intro i i0 i1 hm e he
    by_cases q0 : i = 0
    · subst q0; exact ⟨0, by omega, by omega, List.mem_singleton.mp he⟩
    · have w := h.pi' i (by omega) i1
      rw [bL_s h.pi' (by omega) i1] at he
      rcases List.mem_cons.mp he with e1 | he
      · exact ⟨i, i0, Int.le_refl _, e1⟩
      · obtain ⟨j, j0, j1, e1⟩ := ih (pi i) w.1 (by omega) (by omega) e he
        exact ⟨j, j0, by omega, e1⟩
theorem BqZ.vp {ok : Int → Int → Int} {n : Nat} {x0 : Int} {S : CT} {k c : Int} {pi : Int → Int} (h : BqZ ok n x0 S k c pi) : ∀ (m : Nat) (i : Int), 0 ≤ i → i < S.2 → i ≤ (m : Int) → vpL ok n x0 (bL S.1.1 pi i) := by
  intro m
  induction m with
  | zero =>
    intro i i0 i1 hm
    obtain rfl : i = 0 := by omega
    exact h.1.2.1
  | succ m ih =>
    intro i i0 i1 hm
    by_cases q0 : i = 0
    · subst q0; exact h.1.2.1
    · have w := h.pi' i (by omega) i1
      obtain ⟨w1, w2, w3, w4, w5⟩ := h.2.2.2.2.1 i (by omega) i1
      have v := ih (pi i) w.1 (by omega) (by omega)
      have hel := h.el m (pi i) w.1 (by omega) (by omega)
      obtain ⟨r, er⟩ := bL_hd (q := S.1.1) h.pi' w.1 (show pi i < S.2 by omega)
      rw [bL_s h.pi' (by omega) i1]
      rw [er] at v hel ⊢
      refine ⟨(h.2.1 i i0 i1).1, fun hm2 => ?_, w4, v⟩
      obtain ⟨j, j0, j1, ej⟩ := hel _ hm2
      exact h.2.2.1 j i j0 (by omega) i1 ej.symm
theorem BqZ.mono {ok : Int → Int → Int} {n : Nat} {x0 : Int} {S : CT} {k c : Int} {pi : Int → Int} (h : BqZ ok n x0 S k c pi) : ∀ (m : Nat) (i j : Int), 0 ≤ i → i < j → j < S.2 → j ≤ (m : Int) → (bL S.1.1 pi i).length ≤ (bL S.1.1 pi j).length ∧ ((bL S.1.1 pi i).length = (bL S.1.1 pi j).length → rlx (bL S.1.1 pi i) (bL S.1.1 pi j)) := by
  intro m
  induction m with
  | zero => intro i j i0 ij j1 hm; omega
  | succ m ih =>
    intro i j i0 ij j1 hm
    have wj := h.pi' j (by omega) j1
    rw [bL_s h.pi' (show 1 ≤ j by omega) j1]
    by_cases q0 : i = 0
    · subst q0
      obtain ⟨r, er⟩ := bL_hd (q := S.1.1) h.pi' wj.1 (show pi j < S.2 by omega)
      rw [er, bL_0]
      refine ⟨by simp, fun e => ?_⟩
      simp at e
    · have wi := h.pi' i (by omega) (by omega)
      rw [bL_s h.pi' (show 1 ≤ i by omega) (show i < S.2 by omega)]
      simp only [List.length_cons]
      rcases h.2.2.2.2.2.1 i j (by omega) ij j1 with e | ⟨e1, e2⟩
      · obtain ⟨a1, a2⟩ := ih (pi i) (pi j) wi.1 e (by omega) (by omega)
        exact ⟨by omega, fun e3 => Or.inl (a2 (by omega))⟩
      · rw [e1]; exact ⟨Nat.le_refl _, fun _ => Or.inr ⟨rfl, e2⟩⟩
theorem BqZ.min {ok : Int → Int → Int} {n : Nat} {x0 : Int} {S : CT} {k c : Int} {pi : Int → Int} (h : BqZ ok n x0 S k c pi) (hk : S.2 ≤ k) : ∀ Q : List Int, vpL ok n x0 Q → ∃ i, 0 ≤ i ∧ i < S.2 ∧ Q.headD 0 = S.1.1 i ∧ (bL S.1.1 pi i).length ≤ Q.length ∧ ((bL S.1.1 pi i).length = Q.length → bL S.1.1 pi i = Q ∨ rlx (bL S.1.1 pi i) Q) := by
  intro Q
  induction Q with
  | nil => intro hv; exact absurd hv id
  | cons y Q ih =>
    intro hv
    cases Q with
    | nil =>
      have hv : y = x0 := hv
      exact ⟨0, by omega, h.1.1, hv.trans h.1.2.1.symm, Nat.le_refl _, fun _ => Or.inl (by rw [bL_0, h.1.2.1, hv])⟩
    | cons x r =>
      obtain ⟨v1, v2, v3, v4⟩ := hv
      obtain ⟨j, j0, j1, ej, lj, bj⟩ := ih v4
      have ej : x = S.1.1 j := ej
      have hy := h.2.2.2.2.2.2.1 j j0 (by omega) j1 y v1.1 v1.2 (by rw [← ej]; exact v3)
      obtain ⟨i, i0, i1, ei⟩ := h.2.2.2.1 y hy
      refine ⟨i, i0, i1, ei, ?_⟩
      by_cases q0 : i = 0
      · exfalso
        rw [q0, h.1.2.1] at ei
        exact v2 (by rw [ei]; exact vpL_0 v4)
      · have wi := h.pi' i (by omega) i1
        obtain ⟨w1, w2, w3, w4, w5⟩ := h.2.2.2.2.1 i (by omega) i1
        have hle : pi i ≤ j := by
          rcases Int.lt_or_le j (pi i) with e | e
          · exact absurd (by rw [← ei, ← ej]; exact v3) (w5 j j0 e)
          · exact e
        rw [bL_s h.pi' (show 1 ≤ i by omega) i1, ← ei]
        simp only [List.length_cons] at lj bj ⊢
        by_cases e : pi i = j
        · rw [e]
          refine ⟨by omega, fun e2 => ?_⟩
          rcases bj (by omega) with e3 | e3
          · exact Or.inl (by rw [e3])
          · exact Or.inr (Or.inl e3)
        · obtain ⟨m1, m2⟩ := h.mono j.toNat (pi i) j wi.1 (by omega) j1 (by omega)
          refine ⟨by omega, fun e2 => Or.inr (Or.inl ?_)⟩
          have m3 := m2 (by omega)
          rcases bj (by omega) with e3 | e3
          · rw [← e3]; exact m3
          · exact rlx_tr m3 e3
theorem laZ_best {f : Int → Int} {S : CT} : ∀ k : Nat, ∃ i, (0 ≤ i ∧ i ≤ (k : Int)) ∧ laZ f S k = S.1.1 i ∧ ∀ j, 0 ≤ j → j ≤ (k : Int) → f (238 + 3 * S.1.1 j + 1) ≤ f (238 + 3 * S.1.1 i + 1) ∧ (j < i → f (238 + 3 * S.1.1 j + 1) < f (238 + 3 * S.1.1 i + 1)) := by
  intro k
  induction k with
  | zero =>
    refine ⟨0, ⟨Int.le_refl _, Int.le_refl _⟩, rfl, fun j j0 j1 => ?_⟩
    obtain rfl : j = 0 := by omega
    exact ⟨Int.le_refl _, fun e => by omega⟩
  | succ k ih =>
    obtain ⟨i, hi, e, hb⟩ := ih
    rw [laZ]
    by_cases c : f (238 + 3 * laZ f S k + 1) < f (238 + 3 * S.1.1 ((k : Int) + 1) + 1)
    · rw [if_pos c]
      rw [e] at c
      refine ⟨(k : Int) + 1, by omega, rfl, fun j j0 j1 => ?_⟩
      by_cases q : j = (k : Int) + 1
      · rw [q]; exact ⟨Int.le_refl _, fun e => by omega⟩
      · have := (hb j j0 (by omega)).1
        omega
    · rw [if_neg c]
      rw [e] at c
      refine ⟨i, by omega, e, fun j j0 j1 => ?_⟩
      by_cases q : j = (k : Int) + 1
      · rw [q]; omega
      · exact hb j j0 (by omega)
def mkL (Q : List Int) : Int → Int := fun x => if x ∈ Q then 0 else -1
theorem mkL_s {y : Int} {Q : List Int} : mkL (y :: Q) = zu (mkL Q) y 0 := by
  funext x
  unfold mkL zu
  by_cases e : x = y
  · rw [if_pos e, e, if_pos List.mem_cons_self]
  · rw [if_neg e]
    by_cases e2 : x ∈ Q
    · exact (if_pos (List.mem_cons_of_mem _ e2)).trans (if_pos e2).symm
    · exact (if_neg (fun q => by rcases List.mem_cons.mp q with q | q; exact e q; exact e2 q)).trans (if_neg e2).symm
theorem vpL_len {ok : Int → Int → Int} {n : Nat} {x0 : Int} (h0 : 0 ≤ x0 ∧ x0 < n) : ∀ Q : List Int, vpL ok n x0 Q → mkZ (mkL Q) n = Q.length := by
  intro Q
  induction Q with
  | nil => intro h; exact absurd h id
  | cons y Q ih =>
    intro h
    cases Q with
    | nil =>
      have h : y = x0 := h
      have e0 : mkL [] = fun _ => -1 := rfl
      rw [mkL_s, mkZ_in (by omega) (by rw [e0]) (by decide) n (by omega), e0, mkZ_none]
      rfl
    | cons x r =>
      obtain ⟨v1, v2, v3, v4⟩ := h
      rw [mkL_s, mkZ_in v1.1 (show (if y ∈ x :: r then (0 : Int) else -1) = -1 from if_neg v2) (by decide) n v1.2, ih v4]
      rfl
theorem vpL_le {ok : Int → Int → Int} {n : Nat} {x0 : Int} (h0 : 0 ≤ x0 ∧ x0 < n) {Q : List Int} (h : vpL ok n x0 Q) : Q.length ≤ n := by
  have := vpL_len h0 Q h
  have := mkZ_le (mkL Q) n
  omega
theorem BqZ.it {ok : Int → Int → Int} {n : Nat} {x0 : Int} {S : CT} {k c : Int} {pi : Int → Int} (h : BqZ ok n x0 S k c pi) : ∀ (m : Nat) (i : Int), 0 ≤ i → i < S.2 → i ≤ (m : Int) → (∀ t : Nat, t < (bL S.1.1 pi i).length → (bL S.1.1 pi i).getD t 0 = itZ S.1.2 (S.1.1 i) t) ∧ lnkZ S.1.2 x0 m (S.1.1 i) + 1 = (bL S.1.1 pi i).length := by
  intro m
  have h00 : ∀ t : Nat, t < 1 → ([S.1.1 0] : List Int).getD t 0 = itZ S.1.2 (S.1.1 0) t := fun t ht => by
    obtain rfl : t = 0 := by omega
    rfl
  induction m with
  | zero =>
    intro i i0 i1 hm
    obtain rfl : i = 0 := by omega
    exact ⟨h00, rfl⟩
  | succ m ih =>
    intro i i0 i1 hm
    by_cases q0 : i = 0
    · subst q0
      exact ⟨h00, by rw [lnkZ, if_pos h.1.2.1]; rfl⟩
    · have w := h.pi' i (by omega) i1
      obtain ⟨w1, w2, w3, w4, w5⟩ := h.2.2.2.2.1 i (by omega) i1
      obtain ⟨a1, a2⟩ := ih (pi i) w.1 (by omega) (by omega)
      rw [bL_s h.pi' (show 1 ≤ i by omega) i1]
      refine ⟨fun t ht => ?_, ?_⟩
      · cases t with
        | zero => rfl
        | succ t =>
          rw [← itZ_s, w3]
          exact a1 t (by simpa using ht)
      · have hne : S.1.1 i ≠ x0 := fun e => h.2.2.1 0 i (by omega) (by omega) i1 (h.1.2.1.trans e.symm)
        rw [lnkZ, if_neg hne, w3, a2]; rfl
/-- X's search and the model's find the same -/
theorem chain_dfs {ok : Int → Int → Int} {n : Nat} {x0 : Int} {f en : Int → Int} (hn : n ≤ 8) (h0 : 0 ≤ x0 ∧ x0 < n) (hen : ∀ y, en y = f (238 + 3 * y + 1) - 1) (hd : ∀ y : Int, 0 ≤ y → y < n → 1 ≤ f (238 + 3 * y + 1)) {st0 : ChT} (hst : st0.1 = -1) : ∃ R, (exL ok n 7 [x0]).foldl (updL en) st0 = stL en R ∧ R.headD 0 = laZ f (cmS ok n x0 n) ((cmS ok n x0 n).2 - 1).toNat ∧ R.length = lnkZ (cmS ok n x0 n).1.2 x0 8 (R.headD 0) + 1 ∧ R.length ≤ 8 ∧ ∀ t : Nat, t < R.length → R.getD t 0 = itZ (cmS ok n x0 n).1.2 (R.headD 0) t := by
  obtain ⟨pi, h⟩ := BqZ.all (ok := ok) h0 n
  have hcz := (cmS_ok (ok := ok) h0 n).le
  have h1 := h.1.1
  generalize cmS ok n x0 n = S at h hcz h1
  obtain ⟨i, hi, eL, hb⟩ := laZ_best (f := f) (S := S) (S.2 - 1).toNat
  have hi1 : i < S.2 := by omega
  obtain ⟨r, er⟩ := bL_hd (q := S.1.1) h.pi' hi.1 hi1
  have hhd : (bL S.1.1 pi i).headD 0 = S.1.1 i := by rw [er]; rfl
  have hvp := h.vp i.toNat i hi.1 hi1 (by omega)
  have hit := h.it 8 i hi.1 hi1 (by omega)
  have hbest : ∀ Q, vpL ok n x0 Q → betL en (bL S.1.1 pi i) Q := fun Q hQ => by
    obtain ⟨j, j0, j1, ej, lj, bj⟩ := h.min (by omega) Q hQ
    have hbj := hb j j0 (by omega)
    unfold betL
    rw [hhd, ej, hen, hen]
    by_cases e : f (238 + 3 * S.1.1 j + 1) = f (238 + 3 * S.1.1 i + 1)
    · refine Or.inr ⟨by omega, ?_⟩
      have hij : i ≤ j := by
        rcases Int.lt_or_le j i with q | q
        · have := hbj.2 q; omega
        · exact q
      by_cases e2 : i = j
      · rw [e2]
        by_cases e3 : (bL S.1.1 pi j).length = Q.length
        · refine Or.inr ⟨e3, ?_⟩
          rcases bj e3 with q | q
          · exact Or.inl q.symm
          · exact Or.inr q
        · exact Or.inl (by omega)
      · obtain ⟨m1, m2⟩ := h.mono j.toNat i j hi.1 (by omega) j1 (by omega)
        by_cases e3 : (bL S.1.1 pi i).length = Q.length
        · refine Or.inr ⟨e3, Or.inr ?_⟩
          have m3 := m2 (by omega)
          rcases bj (by omega) with q | q
          · rw [← q]; exact m3
          · exact rlx_tr m3 q
        · exact Or.inl (by omega)
    · exact Or.inl (by omega)
  have hx : exL ok n 7 [x0] = [x0] :: (List.range n).flatMap (fun b => if xcnL ok [x0] b then exL ok n 6 ((b : Int) :: [x0]) else []) := rfl
  have hp := exL_pw (ok := ok) (n := n) 7 [x0]
  have hall := fun Q hQ hl => exL_all (ok := ok) (n := n) (x0 := x0) 7 Q hQ hl
  have hval := fun Q hQ => exL_vp (ok := ok) (n := n) (x0 := x0) 7 [x0] Q rfl hQ
  rw [hx] at hp hall hval ⊢
  rw [List.pairwise_cons] at hp
  rw [List.foldl_cons]
  have hx0 : updL en st0 [x0] = stL en [x0] := if_pos (Or.inl (by
    show st0.1 < en x0
    rw [hst, hen]
    have := hd x0 h0.1 h0.2
    omega))
  rw [hx0]
  obtain ⟨R, m, q1, q2⟩ := fold_best en _ [x0] hp.1 hp.2
  have hRB : R = bL S.1.1 pi i := betL_eq (q2 _ (hall _ hvp (by have := vpL_le h0 hvp; omega))) (hbest R (hval R m))
  refine ⟨R, q1, ?_⟩
  rw [hRB, hhd]
  exact ⟨eL.symm, hit.2.symm, by have := vpL_le h0 hvp; omega, hit.1⟩
