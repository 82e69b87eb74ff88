/-! X's relation, whole -/
set_option maxRecDepth 100000
theorem StG.keep2 {ow ow' : Nat → Nat} {t : Nat} {sh sh' : SHT} {V V' : VT} {P : Nat} {f : Int → Int} (h : StG ow t sh V P f) (k : Kp (fun x => x = 4) ow ow' sh sh' V V') (hc : ∀ a, (a = P + 24 ∨ a = P + 26 ∨ a = P + 28 ∨ (ow a = t ∧ (sh a).1 = 5)) → ow' a = ow a ∧ sh' a = sh a ∧ V'.1 a = V.1 a ∧ V'.2.1 a = V.2.1 a ∧ V'.2.2 a = V.2.2 a) : StG ow' t sh' V' P f := by
  obtain ⟨ap, av, al, cp, cv, cl, gp, gv, gl, h0, ⟨h1, h2⟩, ⟨h3, h4⟩, h5, h6⟩ := h
  refine ⟨ap, av, al, cp, cv, cl, gp, gv, gl, h0, ⟨h1.keep2 (hc _ (Or.inl rfl)) (hc _ (Or.inr (Or.inr (Or.inr ⟨h1.2.1.2, by rw [h1.1.2.2.2.1]⟩)))) k, fun i hi => (h2 i hi).keep k⟩, ⟨h3.keep2 (hc _ (Or.inr (Or.inl rfl))) (hc _ (Or.inr (Or.inr (Or.inr ⟨h3.2.1.2, by rw [h3.1.2.2.2.1]⟩)))) k, fun i hi => (h4 i hi).keep k⟩, h5.keep2 (hc _ (Or.inr (Or.inr (Or.inl rfl)))) (hc _ (Or.inr (Or.inr (Or.inr ⟨h5.2.1.2, by rw [h5.1.2.2.2.1]⟩)))) k, fun i hi => (h6 i hi).keep k⟩
/-- rows that tell of people, versions, laws alike -/
def StA (f f' : Int → Int) : Prop := ∀ i, (i = 1 ∨ i = 2 ∨ i = 3 ∨ (238 ≤ i ∧ i < 730) ∨ 780 ≤ i) → f' i = f i
theorem StA.tx {f f' : Int → Int} (h : StA f f') : txZ f' = txZ f := funext fun i => by
  unfold txZ
  by_cases e : 780 ≤ i
  · rw [if_pos e, if_pos e]; exact h i (by omega)
  · rw [if_neg e, if_neg e]
theorem StA.rf {f : Int → Int} : StA f f := fun _ _ => rfl
theorem StA.a3 {z : ZT} {f : Int → Int} {i v : Int} (h : StA f (z.2 3)) (hi : (i = 0 ∨ (4 ≤ i ∧ i < 238) ∨ (730 ≤ i ∧ i < 780))) : StA f ((za z 3 i v).2 3) := fun j hj => (u2_n (Or.inr (by omega))).trans (h j hj)
theorem StG.cg {ow : Nat → Nat} {t : Nat} {sh : SHT} {V : VT} {P : Nat} {f f' : Int → Int} (h : StG ow t sh V P f) (W : RWZ f) (a : StA f f') : StG ow t sh V P f' := by
  obtain ⟨ap, av, al, cp, cv, cl, gp, gv, gl, h0, ⟨h1, h2⟩, ⟨h3, h4⟩, h5, h6⟩ := h
  have w1 := W.1.2.1
  have w2 := W.1.2.2.1
  refine ⟨ap, av, al, cp, cv, cl, gp, gv, gl, h0, ⟨by rw [a 1 (by omega)]; exact h1, fun k hk => ?_⟩, ⟨by rw [a 2 (by omega)]; exact h3, fun k hk => ?_⟩, by rw [a 3 (by omega)]; exact h5, fun k hk => ?_⟩
  · rw [a 1 (by omega)] at hk
    have q := h2 k hk
    unfold PeR at q ⊢
    rw [a _ (by omega), a _ (by omega), a _ (by omega)]; exact q
  · rw [a 2 (by omega)] at hk
    obtain ⟨q1, q2, q3, S, q4, q5, q6, q7⟩ := h4 k hk
    refine ⟨q1, q2, ?_, S, q4, q5, q6, fun r r0 r1 => ?_⟩
    · rw [a _ (by omega), a _ (by omega), a _ (by omega)]; exact q3
    · show V.1 (S + 1) r = wZ (f' (298 + 36 * k + r)) ∧ (f' (298 + 36 * k + r) ≠ -1 → V.1 (S + 2) r = nZ (f' (298 + 36 * k + r)))
      rw [a _ (by omega)]; exact q7 r r0 r1
  · rw [a 3 (by omega)] at hk
    have q := h6 k hk
    unfold LaR at q ⊢
    rw [a.tx]; exact q
/-- bytes have signs -/
def sbZ (x : Int) : Int := if x < 128 then x else x - 256
/-- X's numbers besides its state -/
def XSc (V : VT) (B : Nat) (z : ZT) : Prop := (V.1 B 0 = z.1 1 ∧ V.1 B 5 = z.1 8 ∧ V.1 B 6 = z.1 13 ∧ V.1 B 7 = z.1 6 ∧ V.1 B 20 = (if z.1 75 = 1 then z.1 74 else -1)) ∧ (∀ k, 0 ≤ k → k < 7 → V.1 (B + 1) k = z.2 2 k) ∧ (∀ i, 0 ≤ i → i < 400 → V.1 (B + 33) i = sbZ (z.2 7 i)) ∧ (z.1 75 = 1 → (∀ r, 0 ≤ r → r < 36 → V.1 (B + 66) r = wZ (z.2 72 r)) ∧ ∀ p, 0 ≤ p → p < 8 → V.1 (B + 68) p = z.2 73 p)
/-- X's numbers -/
def XC (V : VT) (B : Nat) (z : ZT) : Prop := StN V (B + 2) (z.2 3) ∧ XSc V B z
/-- an image's row -/
def imZ (z : ZT) (k : Nat) : Int → Int := fun i => z.2 4 (6180 * (k : Int) + i)
def XIm (ow : Nat → Nat) (sh : SHT) (V : VT) (B : Nat) (z : ZT) : Prop := ∀ k : Nat, k < 2 → (z.2 5 (k : Int) = 0 ∧ V.2.2 (B + 32) (k : Int) = none) ∨ (z.2 5 (k : Int) = 1 ∧ ∃ I, V.2.2 (B + 32) (k : Int) = some I ∧ StR ow (2 + k) sh V I (imZ z k))
/-- X's cells are as the model's state tells -/
def XR (ow : Nat → Nat) (sh : SHT) (nn : Nat × Nat) (V : VT) (B : Nat) (z : ZT) : Prop := XSh B sh ∧ (∀ i, xOk i = true → ow (B + i) = 1) ∧ XC V B z ∧ StG ow 1 sh V (B + 2) (z.2 3) ∧ XIm ow sh V B z ∧ ∀ a, ow a ≠ 0 → a < nn.1
def XE (B : Nat) (sh : SHT) (nn : Nat × Nat) (V : VT) (z : ZT) : Prop := ∃ ow, XR ow sh nn V B z
/-- an operation's post -/
abbrev XP (B : Nat) (nn : Nat × Nat) (x : Int × ZT) : AO → SHT → Nat × Nat → VT → Prop := fun o sh' nn' V' => o = .inl (some (.int (iI x.1))) ∧ XE B sh' nn' V' x.2 ∧ (nn.1 ≤ nn'.1 ∧ nn'.1 ≤ nn.1 + 4000) ∧ nn.2 ≤ nn'.2 ∧ nn'.2 ≤ nn.2 + 40000
/-- static cells that are not lists -/
def xWr (i : Nat) : Bool := xOk i && !(i == 26 || i == 28 || i == 30 || i == 32)
def FrX (B : Nat) (V V' : VT) : Prop := ∀ a, (∀ i, xWr i = true → a ≠ B + i) → V'.1 a = V.1 a ∧ V'.2.1 a = V.2.1 a ∧ V'.2.2 a = V.2.2 a
theorem FrX.rf {B : Nat} {V : VT} : FrX B V V := fun _ _ => ⟨rfl, rfl, rfl⟩
theorem FrX.i {B : Nat} {V V' : VT} {k v : Int} (h : FrX B V V') (i : Nat) (hi : xWr i = true) : FrX B V (vI V' (B + i) k v) := fun a ha => ⟨(u2_a (ha i hi)).trans (h a ha).1, (h a ha).2.1, (h a ha).2.2⟩
theorem FrX.b {B : Nat} {V V' : VT} {k v : Int} (h : FrX B V V') : FrX B V (vI V' B k v) := h.i 0 rfl
theorem FrX.l {B : Nat} {V V' : VT} {k v : Int} (h : FrX B V V') (i : Nat) (hi : xWr i = true) : FrX B V (vL V' (B + i) k v) := fun a ha => ⟨(h a ha).1, (u2_a (ha i hi)).trans (h a ha).2.1, (h a ha).2.2⟩
theorem xW5 {B a : Nat} {sh : SHT} (h : XSh B sh) (h5 : (sh a).1 = 5) : ∀ i, xWr i = true → a ≠ B + i := fun i hi e => by
  have h1 : xOk i = true := by unfold xWr at hi; simp at hi; exact hi.1
  rw [e, h i h1] at h5
  have hb : i < 69 := by unfold xOk at h1; simp [Nat.blt_eq] at h1; exact h1.1
  have key : ∀ j, j < 69 → (xShL.getD j (0, 0)).1 ≠ 5 := by decide
  exact key i hb h5
theorem xWo {B a i : Nat} {ow : Nat → Nat} (h : ∀ i, xOk i = true → ow (B + i) = 1) (hi : xWr i = true) (ha : ow a ≠ 1) : a ≠ B + i := fun e => by
  have h1 : xOk i = true := by unfold xWr at hi; simp at hi; exact hi.1
  exact ha (by rw [e]; exact h i h1)
theorem StR.keep {ow ow' : Nat → Nat} {t : Nat} {sh sh' : SHT} {V V' : VT} {P : Nat} {f : Int → Int} (h : StR ow t sh V P f) (k : Kp (fun x => x = t ∨ x = 4) ow ow' sh sh' V V') : StR ow' t sh' V' P f := by
  obtain ⟨h1, h2, h3, h4⟩ := h
  have q : ∀ i, stOk i = true → V'.1 (P + i) = V.1 (P + i) ∧ V'.2.2 (P + i) = V.2.2 (P + i) := fun i hi => by
    have := k (P + i) (Or.inl (h2 i hi))
    exact ⟨this.2.2.1, this.2.2.2.2⟩
  refine ⟨fun i hi => (k (P + i) (Or.inl (h2 i hi))).2.1.trans (h1 i hi), fun i hi => (k (P + i) (Or.inl (h2 i hi))).1.trans (h2 i hi), ?_, h4.keep k⟩
  obtain ⟨n1, n2, n3, n4, n5, n6, n7⟩ := h3
  have e0 : V'.1 P = V.1 P := (q 0 rfl).1
  refine ⟨fun p hp => by rw [(q 1 rfl).2]; exact n1 p hp, by rw [e0]; exact n2, fun i a b => by rw [(q 20 rfl).1]; exact n3 i a b, fun i a b => by rw [(q 21 rfl).1]; exact n4 i a b, fun i a b => by rw [(q 22 rfl).1]; exact n5 i a b, fun i a b => by rw [(q 23 rfl).1]; exact n6 i a b, fun p hp6 hp r r0 r1 => ?_⟩
  have w := n7 p hp6 hp r r0 r1
  have s1 : stOk (2 + 3 * p + 1) = true ∧ stOk (2 + 3 * p + 2) = true := by
    rcases (show p = 0 ∨ p = 1 ∨ p = 2 ∨ p = 3 ∨ p = 4 ∨ p = 5 by omega) with e | e | e | e | e | e <;> subst e <;> decide
  have a1 := (q _ s1.1).1
  have a2 := (q _ s1.2).1
  rw [show P + (2 + 3 * p + 1) = P + 2 + 3 * p + 1 by omega] at a1
  rw [show P + (2 + 3 * p + 2) = P + 2 + 3 * p + 2 by omega] at a2
  rw [a1, a2]; exact w
/-- a write to X's numbers -/
theorem xNo {B i j a : Nat} (hi : xWr i = true) (hj : xWr j = false) (e : a = B + j) (e' : a = B + i) : False := by
  have : j = i := by omega
  subst this
  rw [hj] at hi
  exact absurd hi Bool.false_ne_true
theorem XR.wr {ow : Nat → Nat} {sh : SHT} {nn : Nat × Nat} {V V' : VT} {B : Nat} {z z' : ZT} (h : XR ow sh nn V B z) (W : RWZ (z.2 3)) (hf : FrX B V V') (hc : XC V' B z') (e4 : z'.2 4 = z.2 4) (e5 : z'.2 5 = z.2 5) (ha : StA (z.2 3) (z'.2 3)) : XR ow sh nn V' B z' := by
  obtain ⟨h1, h2, h3, h4, h5, h6⟩ := h
  have kp : Kp (fun x => x = 4) ow ow sh sh V V' := fun a ho => ⟨rfl, rfl, hf a (fun i hi => xWo h2 hi (by show ow a ≠ 1; have : ow a = 4 := ho; omega))⟩
  refine ⟨h1, h2, hc, (h4.keep2 kp (fun a hq => ⟨rfl, rfl, ?_⟩)).cg W ha, fun k hk => ?_, h6⟩
  · rcases hq with e | e | e | ⟨e1, e2⟩
    · exact hf a (fun i hi e' => xNo (j := 26) hi rfl (by omega) e')
    · exact hf a (fun i hi e' => xNo (j := 28) hi rfl (by omega) e')
    · exact hf a (fun i hi e' => xNo (j := 30) hi rfl (by omega) e')
    · exact hf a (xW5 h1 e2)
  · have hB : V'.2.2 (B + 32) = V.2.2 (B + 32) := (hf (B + 32) (fun i hi e' => xNo (j := 32) hi rfl rfl e')).2.2
    rw [hB, e5]
    have ei : imZ z' k = imZ z k := by funext i; unfold imZ; rw [e4]
    rw [ei]
    rcases h5 k hk with q | ⟨q1, I, q2, q3⟩
    · exact Or.inl q
    · exact Or.inr ⟨q1, I, q2, q3.keep (fun a ho => ⟨rfl, rfl, hf a (fun i hi => xWo h2 hi (by have : ow a = 2 + k ∨ ow a = 4 := ho; omega))⟩)⟩
theorem XR.leaf {ow : Nat → Nat} {sh : SHT} {nn : Nat × Nat} {V V' : VT} {B : Nat} {z : ZT} {x : Int × ZT} {r : Int} {z' : ZT} (h : XR ow sh nn V B z) (W : RWZ (z.2 3)) (hf : FrX B V V') (hc : XC V' B z') (e4 : z'.2 4 = z.2 4) (e5 : z'.2 5 = z.2 5) (ha : StA (z.2 3) (z'.2 3)) (hx : x = (r, z')) : XP B nn x (.inl (some (.int (iI r)))) sh nn V' := by
  subst hx
  exact ⟨rfl, ⟨ow, h.wr W hf hc e4 e5 ha⟩, ⟨Nat.le_refl _, by omega⟩, Nat.le_refl _, by omega⟩
theorem XR.same {ow : Nat → Nat} {sh : SHT} {nn : Nat × Nat} {V : VT} {B : Nat} {z : ZT} {x : Int × ZT} {r : Int} (h : XR ow sh nn V B z) (hx : x = (r, z)) : XP B nn x (.inl (some (.int (iI r)))) sh nn V := by
  subst hx
  exact ⟨rfl, ⟨ow, h⟩, ⟨Nat.le_refl _, by omega⟩, Nat.le_refl _, by omega⟩

