/-! X's cells, and the model's state -/
set_option maxRecDepth 100000
def xShL : List (Nat × Nat) := [(8, 0), (1, 7), (9, 0), (6, 6), (10, 0), (1, 36), (1, 36), (10, 0), (1, 36), (1, 36), (10, 0), (1, 36), (1, 36), (10, 0), (1, 36), (1, 36), (10, 0), (1, 36), (1, 36), (10, 0), (1, 36), (1, 36), (1, 12), (1, 12), (1, 36), (1, 3), (20, 0), (0, 0), (20, 0), (0, 0), (20, 0), (0, 0), (7, 2), (2, 400), (11, 0), (12, 0), (3, 8), (13, 0), (1, 36), (1, 36), (1, 36), (1, 37), (10, 0), (1, 36), (1, 36), (10, 0), (1, 36), (1, 36), (14, 0), (1, 432), (1, 433), (1, 11), (15, 0), (4, 64), (1, 8), (1, 8), (16, 0), (1, 6), (1, 6), (4, 48), (1, 4), (17, 0), (1, 12), (1, 18), (1, 18), (10, 0), (1, 36), (1, 36), (1, 8)]
def xOk (i : Nat) : Bool := Nat.blt i 69 && !((xShL.getD i (0, 0)).1 == 0)
def XSh (B : Nat) (sh : SHT) : Prop := ∀ i, xOk i = true → sh (B + i) = xShL.getD i (0, 0)
/-- a state's cells -/
def stOk (i : Nat) : Bool := Nat.blt i 29 && xOk (i + 2)
def StS (P : Nat) (sh : SHT) : Prop := ∀ i, stOk i = true → sh (P + i) = xShL.getD (i + 2) (0, 0)
/-- cells whose owner is told by T stay, and their owners -/
def Kp (T : Nat → Prop) (ow ow' : Nat → Nat) (sh sh' : SHT) (V V' : VT) : Prop := ∀ a, T (ow a) → ow' a = ow a ∧ sh' a = sh a ∧ V'.1 a = V.1 a ∧ V'.2.1 a = V.2.1 a ∧ V'.2.2 a = V.2.2 a
theorem Kp.sub {T T' : Nat → Prop} {ow ow' : Nat → Nat} {sh sh' : SHT} {V V' : VT} (h : Kp T ow ow' sh sh' V V') (hs : ∀ x, T' x → T x) : Kp T' ow ow' sh sh' V V' := fun a ha => h a (hs _ ha)
def ScS (sh : SHT) (S : Nat) : Prop := sh S = (10, 0) ∧ sh (S + 1) = (1, 36) ∧ sh (S + 2) = (1, 36)
/-- a script: what its rules are -/
def ScV (V : VT) (S : Nat) (g : Int → Int) : Prop := ∀ r, 0 ≤ r → r < 36 → V.1 (S + 1) r = wZ (g r) ∧ (g r ≠ -1 → V.1 (S + 2) r = nZ (g r))
/-- an owned list; what lies in it is frozen -/
def StL (ow : Nat → Nat) (sh : SHT) (V : VT) (t L A c n : Nat) (g : Nat → Nat) : Prop := LiR sh V L A c n g ∧ (ow L = t ∧ ow A = t) ∧ ∀ i : Int, 0 ≤ i → i < (c : Int) → ∀ y, V.2.2 A i = some y → ow y = 4
theorem StL.keep2 {ow ow' : Nat → Nat} {sh sh' : SHT} {V V' : VT} {t L A c n : Nat} {g : Nat → Nat} (h : StL ow sh V t L A c n g) (hl : ow' L = ow L ∧ sh' L = sh L ∧ V'.1 L = V.1 L ∧ V'.2.1 L = V.2.1 L ∧ V'.2.2 L = V.2.2 L) (ha : ow' A = ow A ∧ sh' A = sh A ∧ V'.1 A = V.1 A ∧ V'.2.1 A = V.2.1 A ∧ V'.2.2 A = V.2.2 A) (k : Kp (fun x => x = 4) ow ow' sh sh' V V') : StL ow' sh' V' t L A c n g := by
  obtain ⟨⟨k1, k2, k3, k4, k5, k6, k7⟩, ⟨o1, o2⟩, o3⟩ := h
  obtain ⟨l1, l2, l3, l4, l5⟩ := hl
  obtain ⟨a1, a2, a3, a4, a5⟩ := ha
  refine ⟨⟨l2.trans k1, by rw [l3]; exact k2, by rw [l5]; exact k3, a2.trans k4, k5, fun i hi => by rw [a5]; exact k6 i hi, fun i i0 i1 y hy => ?_⟩, ⟨l1.trans o1, a1.trans o2⟩, fun i i0 i1 y hy => ?_⟩
  · rw [a5] at hy
    rw [(k y (o3 i i0 i1 y hy)).2.1]; exact k7 i i0 i1 y hy
  · rw [a5] at hy
    have q := o3 i i0 i1 y hy
    rw [(k y q).1]; exact q
theorem StL.keep {ow ow' : Nat → Nat} {sh sh' : SHT} {V V' : VT} {t L A c n : Nat} {g : Nat → Nat} (h : StL ow sh V t L A c n g) (k : Kp (fun x => x = t ∨ x = 4) ow ow' sh sh' V V') : StL ow' sh' V' t L A c n g := by
  obtain ⟨⟨k1, k2, k3, k4, k5, k6, k7⟩, ⟨o1, o2⟩, o3⟩ := h
  obtain ⟨l1, l2, l3, l4, l5⟩ := k L (Or.inl o1)
  obtain ⟨a1, a2, a3, a4, a5⟩ := k A (Or.inl o2)
  refine ⟨⟨l2.trans k1, by rw [l3]; exact k2, by rw [l5]; exact k3, a2.trans k4, k5, fun i hi => by rw [a5]; exact k6 i hi, fun i i0 i1 y hy => ?_⟩, ⟨l1.trans o1, a1.trans o2⟩, fun i i0 i1 y hy => ?_⟩
  · rw [a5] at hy
    rw [(k y (Or.inr (o3 i i0 i1 y hy))).2.1]; exact k7 i i0 i1 y hy
  · rw [a5] at hy
    have q := o3 i i0 i1 y hy
    rw [(k y (Or.inr q)).1]; exact q
def PeR (ow : Nat → Nat) (sh : SHT) (V : VT) (a : Nat) (f : Int → Int) (k : Int) : Prop := ow a = 4 ∧ sh a = (19, 0) ∧ V.1 a 0 = f (238 + 3 * k) ∧ V.1 a 1 = f (238 + 3 * k + 1) ∧ V.1 a 2 = f (238 + 3 * k + 2)
theorem PeR.keep {ow ow' : Nat → Nat} {sh sh' : SHT} {V V' : VT} {a : Nat} {f : Int → Int} {k : Int} (h : PeR ow sh V a f k) (q : Kp (fun x => x = 4) ow ow' sh sh' V V') : PeR ow' sh' V' a f k := by
  obtain ⟨h1, h2, h3⟩ := h
  obtain ⟨l1, l2, l3, l4, l5⟩ := q a h1
  unfold PeR
  rw [l1, l2, l3]
  exact ⟨h1, h2, h3⟩
def VeR (ow : Nat → Nat) (sh : SHT) (V : VT) (a : Nat) (f : Int → Int) (k : Int) : Prop := ow a = 4 ∧ sh a = (35, 0) ∧ (V.1 a 0 = f (262 + 3 * k) ∧ V.1 a 1 = f (262 + 3 * k + 1) ∧ V.1 a 2 = f (262 + 3 * k + 2)) ∧ ∃ S, V.2.2 a 3 = some S ∧ (ow S = 4 ∧ ow (S + 1) = 4 ∧ ow (S + 2) = 4) ∧ ScS sh S ∧ ScV V S (fun r => f (298 + 36 * k + r))
theorem VeR.keep {ow ow' : Nat → Nat} {sh sh' : SHT} {V V' : VT} {a : Nat} {f : Int → Int} {k : Int} (h : VeR ow sh V a f k) (q : Kp (fun x => x = 4) ow ow' sh sh' V V') : VeR ow' sh' V' a f k := by
  obtain ⟨h1, h2, h3, S, h4, ⟨o0, o1, o2⟩, ⟨s0, s1, s2⟩, hv⟩ := h
  obtain ⟨l1, l2, l3, l4, l5⟩ := q a h1
  obtain ⟨m1, m2, m3, m4, m5⟩ := q S o0
  obtain ⟨n1, n2, n3, n4, n5⟩ := q (S + 1) o1
  obtain ⟨p1, p2, p3, p4, p5⟩ := q (S + 2) o2
  refine ⟨l1.trans h1, l2.trans h2, by rw [l3]; exact h3, S, by rw [l5]; exact h4, ⟨m1.trans o0, n1.trans o1, p1.trans o2⟩, ⟨m2.trans s0, n2.trans s1, p2.trans s2⟩, fun r r0 r1 => ?_⟩
  rw [n3, p3]; exact hv r r0 r1
/-- sums -/
def opC (c : Int) : Int := if c = 43 then 20 else if c = 45 then 21 else if c = 42 then 22 else if c = 47 then 23 else if c = 37 then 24 else if c = 60 then 25 else if c = 62 then 26 else 27
def tw2 (c : Int) (x y : Option Int) : Option Int := match x with
  | none => none
  | some a => match y with
    | none => none
    | some b => match rkZ (opC c) a b with
      | none => none
      | some v => if v < -1000000000 ∨ 1000000000 < v then none else some v
abbrev FnT : Type := (Int → Int) → Option Int
def SmR (ow : Nat → Nat) (sh : SHT) (V : VT) : Nat → Nat → FnT → Prop
  | 0, _, _ => False
  | n + 1, a, F => ow a = 4 ∧ ((sh a = (25, 0) ∧ (0 ≤ V.1 a 0 ∧ V.1 a 0 ≤ 1000) ∧ ∀ v, F v = some (V.1 a 0)) ∨ (sh a = (26, 0) ∧ (0 ≤ V.1 a 0 ∧ V.1 a 0 < 8) ∧ ∀ v, F v = some (v (V.1 a 0 + 1))) ∨
      (sh a = (27, 0) ∧ (V.1 a 0 = 43 ∨ V.1 a 0 = 45 ∨ V.1 a 0 = 42 ∨ V.1 a 0 = 47 ∨ V.1 a 0 = 37) ∧ ∃ l r Fl Fr, V.2.2 a 1 = some l ∧ V.2.2 a 2 = some r ∧ SmR ow sh V n l Fl ∧ SmR ow sh V n r Fr ∧ ∀ v, F v = tw2 (V.1 a 0) (Fl v) (Fr v)))
theorem SmR.keep {ow ow' : Nat → Nat} {sh sh' : SHT} {V V' : VT} (q : Kp (fun x => x = 4) ow ow' sh sh' V V') : ∀ {n a : Nat} {F : FnT}, SmR ow sh V n a F → SmR ow' sh' V' n a F := by
  intro n
  induction n with
  | zero => intro a F h; exact h
  | succ n ih =>
    intro a F h
    obtain ⟨h1, h2⟩ := h
    obtain ⟨l1, l2, l3, l4, l5⟩ := q a h1
    unfold SmR
    rw [l1, l2, l3, l5]
    refine ⟨h1, ?_⟩
    rcases h2 with h2 | h2 | ⟨h2, h3, l, r, Fl, Fr, e1, e2, e3, e4, e5⟩
    · exact Or.inl h2
    · exact Or.inr (Or.inl h2)
    · exact Or.inr (Or.inr ⟨h2, h3, l, r, Fl, Fr, e1, e2, ih e3, ih e4, e5⟩)
/-- tests -/
def sevZ (al : Int) (G : Nat → FnT) (v : Int → Int) : Nat → Nat → Option Int
  | 0, _ => some al
  | n + 1, k => match G k v with
    | none => none
    | some x => if x = al then sevZ al G v n (k + 1) else some (1 - al)
def TsR (ow : Nat → Nat) (sh : SHT) (V : VT) : Nat → Nat → FnT → Prop
  | 0, _, _ => False
  | n + 1, a, F => ow a = 4 ∧ ((sh a = (29, 0) ∧ (V.1 a 0 = 60 ∨ V.1 a 0 = 62 ∨ V.1 a 0 = 61) ∧ ∃ l r Fl Fr, V.2.2 a 1 = some l ∧ V.2.2 a 2 = some r ∧ SmR ow sh V n l Fl ∧ SmR ow sh V n r Fr ∧ ∀ v, F v = tw2 (V.1 a 0) (Fl v) (Fr v)) ∨
      (sh a = (30, 0) ∧ ∃ l Fl, V.2.2 a 0 = some l ∧ TsR ow sh V n l Fl ∧ ∀ v, F v = (Fl v).map (fun x => 1 - x)) ∨
      (sh a = (31, 0) ∧ (V.1 a 0 = 0 ∨ V.1 a 0 = 1) ∧ ∃ A c m, ∃ g : Nat → Nat, ∃ G : Nat → FnT, StL ow sh V 4 (a + 1) A c m g ∧ (∀ k, k < m → TsR ow sh V n (g k) (G k)) ∧ ∀ v, F v = sevZ (V.1 a 0) G v m 0))
theorem TsR.keep {ow ow' : Nat → Nat} {sh sh' : SHT} {V V' : VT} (q : Kp (fun x => x = 4) ow ow' sh sh' V V') : ∀ {n a : Nat} {F : FnT}, TsR ow sh V n a F → TsR ow' sh' V' n a F := by
  intro n
  induction n with
  | zero => intro a F h; exact h
  | succ n ih =>
    intro a F h
    obtain ⟨h1, h2⟩ := h
    obtain ⟨l1, l2, l3, l4, l5⟩ := q a h1
    unfold TsR
    rw [l1, l2, l3, l5]
    refine ⟨h1, ?_⟩
    rcases h2 with ⟨h2, h3, l, r, Fl, Fr, e1, e2, e3, e4, e5⟩ | ⟨h2, l, Fl, e1, e2, e3⟩ | ⟨h2, h3, A, c, m, g, G, e2, e3, e4⟩
    · exact Or.inl ⟨h2, h3, l, r, Fl, Fr, e1, e2, SmR.keep q e3, SmR.keep q e4, e5⟩
    · exact Or.inr (Or.inl ⟨h2, l, Fl, e1, ih e2, e3⟩)
    · exact Or.inr (Or.inr ⟨h2, h3, A, c, m, g, G, e2.keep (q.sub (fun x hx => by rcases hx with hx | hx <;> exact hx)), fun k hk => ih (e3 k hk), e4⟩)
/-- a law's clause: its head, what it tells -/
def ClR (ow : Nat → Nat) (sh : SHT) (V : VT) (a : Nat) (h : Int) (F : FnT) : Prop := ow a = 4 ∧ sh a = (23, 0) ∧ V.1 a 0 = h ∧ ∃ S T : FnT, ((V.2.2 a 1 = none ∧ ∀ v, S v = some 1) ∨ ∃ s n, V.2.2 a 1 = some s ∧ n ≤ 200 ∧ SmR ow sh V n s S) ∧ ((V.2.2 a 2 = none ∧ ∀ v, T v = some 1) ∨ ∃ t n, V.2.2 a 2 = some t ∧ n ≤ 200 ∧ TsR ow sh V n t T) ∧ ∀ v, F v = if T v = some 1 then S v else none
theorem ClR.keep {ow ow' : Nat → Nat} {sh sh' : SHT} {V V' : VT} {a : Nat} {h : Int} {F : FnT} (k : ClR ow sh V a h F) (q : Kp (fun x => x = 4) ow ow' sh sh' V V') : ClR ow' sh' V' a h F := by
  obtain ⟨h1, h2, h3, S, T, h4, h5, h6⟩ := k
  obtain ⟨l1, l2, l3, l4, l5⟩ := q a h1
  unfold ClR
  rw [l1, l2, l3, l5]
  refine ⟨h1, h2, h3, S, T, ?_, ?_, h6⟩
  · rcases h4 with h4 | ⟨s, n, e1, e2, e3⟩
    · exact Or.inl h4
    · exact Or.inr ⟨s, n, e1, e2, SmR.keep q e3⟩
  · rcases h5 with h5 | ⟨s, n, e1, e2, e3⟩
    · exact Or.inl h5
    · exact Or.inr ⟨s, n, e1, e2, TsR.keep q e3⟩
/-- the texts of a row -/
def txZ (f : Int → Int) : Int → Int := fun i => if 780 ≤ i then f i else 0
/-- a law: its clauses tell as the row's text does -/
def LaR (ow : Nat → Nat) (sh : SHT) (V : VT) (a : Nat) (f : Int → Int) (l : Int) : Prop := ow a = 4 ∧ sh a = (34, 0) ∧ ∃ C A c, ∃ g : Nat → Nat, ∃ F : Nat → FnT, V.2.2 a 0 = some C ∧ StL ow sh V 4 C A c (txZ f (780 + 900 * l + 1)).toNat g ∧ ∀ k : Nat, (k : Int) < txZ f (780 + 900 * l + 1) → ClR ow sh V (g k) (txZ f (780 + 900 * l + 2 + 8 * (k : Int))) (F k) ∧ ∀ val, B9Z val → F k val = csZ (txZ f) (780 + 900 * l) val (780 + 900 * l + 2 + 8 * (k : Int))
theorem LaR.keep {ow ow' : Nat → Nat} {sh sh' : SHT} {V V' : VT} {a : Nat} {f : Int → Int} {l : Int} (h : LaR ow sh V a f l) (q : Kp (fun x => x = 4) ow ow' sh sh' V V') : LaR ow' sh' V' a f l := by
  obtain ⟨h1, h2, C, A, c, g, F, h3, h4, h5⟩ := h
  obtain ⟨l1, l2, l3, l4, l5⟩ := q a h1
  exact ⟨l1.trans h1, l2.trans h2, C, A, c, g, F, by rw [l5]; exact h3, h4.keep (q.sub (fun x hx => by rcases hx with hx | hx <;> exact hx)), fun k hk => ⟨(h5 k hk).1.keep q, (h5 k hk).2⟩⟩
/-- the lists of a state: people, versions, laws -/
def StG (ow : Nat → Nat) (t : Nat) (sh : SHT) (V : VT) (P : Nat) (f : Int → Int) : Prop := ∃ ap av al cp cv cl, ∃ gp gv gl : Nat → Nat, (ap ≠ av ∧ ap ≠ al ∧ av ≠ al) ∧ (StL ow sh V t (P + 24) ap cp (f 1).toNat gp ∧ ∀ k : Nat, (k : Int) < f 1 → PeR ow sh V (gp k) f k) ∧ (StL ow sh V t (P + 26) av cv (f 2).toNat gv ∧ ∀ k : Nat, (k : Int) < f 2 → VeR ow sh V (gv k) f k) ∧ (StL ow sh V t (P + 28) al cl (f 3).toNat gl ∧ ∀ k : Nat, (k : Int) < f 3 → LaR ow sh V (gl k) f k)
theorem StG.keep {ow ow' : Nat → Nat} {t : Nat} {sh sh' : SHT} {V V' : VT} {P : Nat} {f : Int → Int} (h : StG ow t sh V P f) (k : Kp (fun x => x = t ∨ x = 4) ow ow' sh sh' V V') : StG ow' t sh' V' P f := by
  obtain ⟨ap, av, al, cp, cv, cl, gp, gv, gl, h0, ⟨h1, h2⟩, ⟨h3, h4⟩, h5, h6⟩ := h
  have q : Kp (fun x => x = 4) ow ow' sh sh' V V' := k.sub (fun x hx => Or.inr hx)
  exact ⟨ap, av, al, cp, cv, cl, gp, gv, gl, h0, ⟨h1.keep k, fun i hi => (h2 i hi).keep q⟩, ⟨h3.keep k, fun i hi => (h4 i hi).keep q⟩, h5.keep k, fun i hi => (h6 i hi).keep q⟩
/-- a state's numbers -/
def StN (V : VT) (P : Nat) (f : Int → Int) : Prop := (∀ p : Nat, p < 6 → V.2.2 (P + 1) (p : Int) = some (P + 2 + 3 * p)) ∧ (V.1 P 8 = f 0 ∧ V.1 P 9 = f 5 ∧ V.1 P 10 = f 6 ∧ V.1 P 11 = f 4) ∧ (∀ i, 0 ≤ i → i < 12 → V.1 (P + 20) i = f (10 + i)) ∧ (∀ i, 0 ≤ i → i < 12 → V.1 (P + 21) i = f (730 + i)) ∧ (∀ i, 0 ≤ i → i < 36 → V.1 (P + 22) i = f (742 + i)) ∧ (∀ i, 0 ≤ i → i < 3 → V.1 (P + 23) i = f (7 + i)) ∧ ∀ p : Nat, p < 6 → (p : Int) < f 0 → ScV V (P + 2 + 3 * p) (fun r => f (22 + 36 * p + r))
def StR (ow : Nat → Nat) (t : Nat) (sh : SHT) (V : VT) (P : Nat) (f : Int → Int) : Prop := StS P sh ∧ (∀ i, stOk i = true → ow (P + i) = t) ∧ StN V P f ∧ StG ow t sh V P f
