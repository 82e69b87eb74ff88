/-! frames; copies between arrays -/
set_option maxRecDepth 100000
/-- a view without the cells of H: what they hold stays -/
def hid (H : Nat → Bool) (sh : SHT) : SHT := fun a => if H a then (0, 0) else sh a
/-- the shapes, the numbers of the cells of H (below n) with those of the rest -/
def mrgS (H : Nat → Bool) (n : Nat) (sh sh' : SHT) : SHT := fun a => if a < n ∧ H a = true then sh a else sh' a
def mrgV (H : Nat → Bool) (n : Nat) (V V' : VT) : VT := (fun a => if a < n ∧ H a = true then V.1 a else V'.1 a, fun a => if a < n ∧ H a = true then V.2.1 a else V'.2.1 a, fun a => if a < n ∧ H a = true then V.2.2 a else V'.2.2 a)
theorem TGo.frame {E : ET} {y : MI} {d pc : Nat} {ls : LV} {st : List Value} {sh : SHT} {nn : Nat × Nat} {V : VT} {Q : AO → SHT → Nat × Nat → VT → Prop} (H : Nat → Bool) (h : TGo E y d pc ls st (hid H sh) nn V Q) : TGo E y d pc ls st sh nn V (fun o sh' nn' V' => ∃ s1 V1, Q o s1 nn' V1 ∧ sh' = mrgS H nn.1 sh s1 ∧ V' = mrgV H nn.1 V V1 ∧ nn.1 ≤ nn'.1 ∧ ∀ a, a < nn.1 → H a = true → s1 a = (0, 0)) := fun σ hσ => by
  have hσ2 : THolds (hid H sh) nn V σ := by
    refine ⟨hσ.1, fun a ha => ?_, fun a ha => ⟨?_, (hσ.2.2 a ha).2⟩⟩
    · unfold hid at ha ⊢
      by_cases e : H a = true
      · rw [if_pos e] at ha; exact absurd rfl ha
      · rw [if_neg e] at ha ⊢; exact hσ.2.1 a ha
    · unfold hid
      split
      · rfl
      · exact (hσ.2.2 a ha).1
  refine (h σ hσ2).mono ?_
  rintro o σ' ⟨s1, nn', V1, q1, q2, q3, q4⟩
  have hh : ∀ a, a < nn.1 → H a = true → s1 a = (0, 0) := fun a ha e => by
    have e0 : hid H sh a = (0, 0) := by unfold hid; rw [if_pos e]
    have := q2.2.2 a ha (by rw [e0]; decide)
    rw [this, e0]
  refine ⟨mrgS H nn.1 sh s1, nn', mrgV H nn.1 V V1, ⟨q1.1, fun a ha => ?_, fun a ha => ?_⟩, ⟨q2.1, q2.2.1, fun a ha hs => ?_⟩, fun a ha hs => ?_, s1, V1, q4, rfl, rfl, q2.1, hh⟩
  · by_cases e : a < nn.1 ∧ H a = true
    · have e1 : mrgS H nn.1 sh s1 a = sh a := if_pos e
      rw [e1] at ha ⊢
      have e2 : tCell (mrgV H nn.1 V V1) a (sh a) = tCell V a (sh a) := tCell_eq (if_pos e) (if_pos e) (if_pos e)
      rw [e2, ← hσ.2.1 a ha]
      exact q3 a e.1 (by unfold hid; rw [if_pos e.2])
    · have e1 : mrgS H nn.1 sh s1 a = s1 a := if_neg e
      rw [e1] at ha ⊢
      have e2 : tCell (mrgV H nn.1 V V1) a (s1 a) = tCell V1 a (s1 a) := tCell_eq (if_neg e) (if_neg e) (if_neg e)
      rw [e2]
      exact q1.2.1 a ha
  · have e : ¬ (a < nn.1 ∧ H a = true) := fun e => by have := q2.1; omega
    have z := q1.2.2 a ha
    refine ⟨?_, fun k => ?_, fun k => ?_, fun k => ?_⟩
    · show (if a < nn.1 ∧ H a = true then sh a else s1 a).1 = 0
      rw [if_neg e]; exact z.1
    · show (if a < nn.1 ∧ H a = true then V.1 a else V1.1 a) k = 0
      rw [if_neg e]; exact z.2.1 k
    · show (if a < nn.1 ∧ H a = true then V.2.1 a else V1.2.1 a) k = 0
      rw [if_neg e]; exact z.2.2.1 k
    · show (if a < nn.1 ∧ H a = true then V.2.2 a else V1.2.2 a) k = none
      rw [if_neg e]; exact z.2.2.2 k
  · show (if a < nn.1 ∧ H a = true then sh a else s1 a) = sh a
    by_cases e : H a = true
    · rw [if_pos ⟨ha, e⟩]
    · rw [if_neg (fun z => e z.2)]
      have e0 : hid H sh a = sh a := by unfold hid; rw [if_neg e]
      rw [q2.2.2 a ha (by rw [e0]; exact hs), e0]
  · refine q3 a ha ?_
    unfold hid
    split
    · rfl
    · exact hs
theorem TC.frame {E : ET} {y : MI} {d : Nat} {As : List Value} {sh : SHT} {nn : Nat × Nat} {V : VT} {Q : AO → SHT → Nat × Nat → VT → Prop} (H : Nat → Bool) (h : TC E y d As (hid H sh) nn V Q) : TC E y d As sh nn V (fun o sh' nn' V' => ∃ s1 V1, Q o s1 nn' V1 ∧ sh' = mrgS H nn.1 sh s1 ∧ V' = mrgV H nn.1 V V1 ∧ nn.1 ≤ nn'.1 ∧ ∀ a, a < nn.1 → H a = true → s1 a = (0, 0)) := TGo.frame H h
/-! copies between arrays -/
theorem Go.copyI {E : ET} {y : MI} {d pc idx : Nat} {ls : LV} {st : List Value} {σ : AH} {Q : AO → AH → Prop} {a0 a n0 n1 : Nat} {f g : Nat → Int32} {sp dp n : Int32} (hd : decode y.2.1 pc = .ok (.invokestatic idx, 3)) (hl : Cond.methodLink y.1.cls idx arraycopyName ∈ lw_all) (h0 : σ.1 a0 = some (.inl (0, n0, .inl f))) (h1 : σ.1 a = some (.inl (0, n1, .inl g))) (c1 : ¬ sp < 0) (c2 : ¬ dp < 0) (c3 : ¬ n < 0) (c4 : sp.toNatClampNeg + n.toNatClampNeg ≤ n0) (c5 : dp.toNatClampNeg + n.toNatClampNeg ≤ n1) (hW : Nat.ble ((st.map fun v => v.category).sum) 8 = true) (hd1 : 1 ≤ d)
    (kk : Go E y d (pc + 3) ls st (sput σ a (.inl (0, n1, .inl (va_cpy f g sp.toNatClampNeg dp.toNatClampNeg n.toNatClampNeg)))) Q) : Go E y d pc ls (.int n :: .int dp :: .ref a :: .int sp :: .ref a0 :: st) σ Q :=
  Go.wr (.inl (0, n1, .inl (va_cpy f g sp.toNatClampNeg dp.toNatClampNeg n.toNatClampNeg))) h1 (fun X hl9 hH hP hD hS hq kk => by
    obtain ⟨q0, hq0⟩ := hH.at h0
    have fr := X.fr
    have hw := Nat.le_of_ble_eq_true hW
    have hn : nativeFrameWords "java/lang/System" "arraycopy" 5 ≤ 20 := by decide
    exact va_copyi X.hx X.hb (by rw [X.ml]; exact hl9.1.symm) X.own (X.hts _ hl) (X.hts _ q615) (X.hts _ q614) (X.hts _ q134) X.va hP hD hS q0 _ 0 0 hq0 hq rfl rfl rfl c1 c2 c3 c4 c5 (fun i _ => rfl) (by omega) (by omega) hd kk) kk
theorem Go.copyO {E : ET} {y : MI} {d pc idx : Nat} {ls : LV} {st : List Value} {σ : AH} {Q : AO → AH → Prop} {a0 a n0 n1 : Nat} {f g : Nat → Option Nat} {sp dp n : Int32} (hd : decode y.2.1 pc = .ok (.invokestatic idx, 3)) (hl : Cond.methodLink y.1.cls idx arraycopyName ∈ lw_all) (h0 : σ.1 a0 = some (.inl (4, n0, .inr (.inr (.inr (.inr f)))))) (h1 : σ.1 a = some (.inl (4, n1, .inr (.inr (.inr (.inr g)))))) (c1 : ¬ sp < 0) (c2 : ¬ dp < 0) (c3 : ¬ n < 0) (c4 : sp.toNatClampNeg + n.toNatClampNeg ≤ n0) (c5 : dp.toNatClampNeg + n.toNatClampNeg ≤ n1) (hel : ∀ i : Nat, i < n.toNatClampNeg → ∀ y : Nat, f (sp.toNatClampNeg + i) = some y → ∃ ci vs r, σ.1 y = some (.inr (ci, vs)) ∧ clsL[ci]? = some r ∧ Cond.castable r.1 "java/lang/Object" ∈ lw_tbl) (hW : Nat.ble ((st.map fun v => v.category).sum) 8 = true) (hd1 : 1 ≤ d)
    (kk : Go E y d (pc + 3) ls st (sput σ a (.inl (4, n1, .inr (.inr (.inr (.inr (va_cpy f g sp.toNatClampNeg dp.toNatClampNeg n.toNatClampNeg))))))) Q) : Go E y d pc ls (.int n :: .int dp :: .ref a :: .int sp :: .ref a0 :: st) σ Q :=
  Go.wr (.inl (4, n1, .inr (.inr (.inr (.inr (va_cpy f g sp.toNatClampNeg dp.toNatClampNeg n.toNatClampNeg)))))) h1 (fun {p e R s m args below meth c H locs cells slots q0 Z LS} X hl9 hH hP hD hS hq kk => by
    obtain ⟨q0, hq0⟩ := hH.at h0
    have fr := X.fr
    have hw := Nat.le_of_ble_eq_true hW
    have hn : nativeFrameWords "java/lang/System" "arraycopy" 5 ≤ 20 := by decide
    have hany : ∀ i : Nat, i < n.toNatClampNeg → ∀ y : Nat, f (sp.toNatClampNeg + i) = some y → va_Any "java/lang/Object" s H y := by
      intro i hi y hy
      obtain ⟨ci, vs, r, e1, hc, hca⟩ := hel i hi y hy
      obtain ⟨qv, hqv⟩ := hH.at e1
      obtain ⟨r', hr', cellV, g1, g2, g3, -⟩ := hP qv _ hqv
      have hcls := (X.va.1 ci r hc).2
      obtain ⟨c0, t1, f1, f2, f3⟩ := Cond.castable_spec (va_Nw.use (A := args) rfl (X.bx _ hca rfl))
      cases hcls.1.symm.trans f1
      obtain ⟨kC, hkC, -⟩ := hcls.2
      exact ⟨cellV, g1, by rw [g3]; rfl, ⟨kC, by rw [g2]; exact hkC⟩, fun comp hcomp => by cases hcomp.symm.trans f2; rw [g2]; exact f3⟩
    exact va_copyM X.hx X.hb (by rw [X.ml]; exact hl9.1.symm) X.own (X.hts _ hl) (X.hts _ q615) (X.hts _ q614) (X.hts _ q134) X.va hP hD hS q0 _ 4 4 hq0 hq rfl rfl c1 c2 c3 c4 c5 hany (by omega) (by omega) hd kk) kk
theorem Go.getC {E : ET} {y : MI} {d pc idx : Nat} {ls : LV} {st : List Value} {σ : AH} {Q : AO → AH → Prop} {a n : Nat} {f : Nat → Option Nat} (hd : decode y.2.1 pc = .ok (.invokevirtual idx, 3)) (hl : Cond.methodLink y.1.cls idx ⟨"java/lang/Object", "getClass", "()Ljava/lang/Class;"⟩ ∈ lw_all) (h0 : σ.1 a = some (.inl (4, n, .inr (.inr (.inr (.inr f)))))) (hW : Nat.ble ((st.map fun v => v.category).sum) 8 = true) (hd1 : 1 ≤ d) (kk : Go E y d (pc + 3) ls (.ref (eS E 2) :: st) σ Q) : Go E y d pc ls (.ref a :: st) σ Q :=
  Go.rd (fun {p e R s m args below meth c H locs cells slots Z LS} X hl9 hH hS k => by
    have fr := X.fr
    have hw := Nat.le_of_ble_eq_true hW
    obtain ⟨q0, hq0⟩ := hH.at h0
    exact va_getC X.hx X.hb (by rw [X.ml]; exact hl9.1.symm) X.own (X.hts _ hl) (va_Nw.use (A := args) rfl (X.bx _ q2629 rfl)) (X.hts _ q2628) (X.hts _ q639) (X.hts _ q667) X.K.1.2.2.2.2.2.1 ⟨_, hH.P q0 _ hq0, rfl, va_nmO (X.va.2 4 _ rfl).2 rfl⟩ (by omega) (by omega) hd k) kk
/-- copied -/
def cpI (V : VT) (a0 a : Nat) (sp dp n : Int) : VT := (u1 V.1 a (fun i => if dp ≤ i ∧ i < dp + n then V.1 a0 (sp + (i - dp)) else V.1 a i), V.2)
def cpQ (V : VT) (a0 a : Nat) (sp dp n : Int) : VT := (V.1, V.2.1, u1 V.2.2 a (fun i => if dp ≤ i ∧ i < dp + n then V.2.2 a0 (sp + (i - dp)) else V.2.2 a i))
theorem iI_c3 {z : Int} (h : 0 ≤ z ∧ z ≤ 2147483647) : ¬ iI z < 0 ∧ (iI z).toNatClampNeg = z.toNat := by
  have e := iI_nat z.toNat
  rw [Int.toNat_of_nonneg h.1] at e
  rw [e]
  exact ⟨nI_pos (by omega), nI_clamp (by omega)⟩
theorem TGo.copyI {E : ET} {y : MI} {d pc idx : Nat} {ls : LV} {st : List Value} {sh : SHT} {nn : Nat × Nat} {V : VT} {Q : AO → SHT → Nat × Nat → VT → Prop} {a0 a n0 n1 : Nat} {sp dp n : Int} (hd : decode y.2.1 pc = .ok (.invokestatic idx, 3)) (hl : Cond.methodLink y.1.cls idx arraycopyName ∈ lw_all) (h0 : sh a0 = (1, n0)) (h1 : sh a = (1, n1)) (hs : 0 ≤ sp ∧ 0 ≤ dp ∧ 0 ≤ n ∧ sp + n ≤ n0 ∧ dp + n ≤ n1) (hb : Nat.blt n0 2147483648 = true) (hb1 : Nat.blt n1 2147483648 = true) (hW : Nat.ble ((st.map fun v => v.category).sum) 8 = true) (hd1 : 1 ≤ d)
    (kk : TGo E y d (pc + 3) ls st sh nn (cpI V a0 a sp dp n) Q) : TGo E y d pc ls (.int (iI n) :: .int (iI dp) :: .ref a :: .int (iI sp) :: .ref a0 :: st) sh nn V Q := by
  have hb : n0 < 2147483648 := by simpa using hb
  have hb1 : n1 < 2147483648 := by simpa using hb1
  obtain ⟨s1, s2⟩ := iI_c3 (z := sp) (by omega)
  obtain ⟨t1, t2⟩ := iI_c3 (z := dp) (by omega)
  obtain ⟨u1', u2'⟩ := iI_c3 (z := n) (by omega)
  refine TGo.wr (fun σ Q' hσ k2 => Go.copyI hd hl ((hσ.at h0 (Nat.succ_ne_zero _)).trans rfl) ((hσ.at h1 (Nat.succ_ne_zero _)).trans rfl) s1 t1 u1' (by rw [s2, u2']; omega) (by rw [t2, u2']; omega) hW hd1 ?_) kk
  have e : va_cpy (fun j : Nat => iI (V.1 a0 j)) (fun j : Nat => iI (V.1 a j)) sp.toNat dp.toNat n.toNat = fun j : Nat => iI ((cpI V a0 a sp dp n).1 a j) := by
    funext j
    show (if dp.toNat ≤ j ∧ j < dp.toNat + n.toNat then iI (V.1 a0 ((sp.toNat + (j - dp.toNat) : Nat) : Int)) else iI (V.1 a j)) = iI (u1 V.1 a (fun i => if dp ≤ i ∧ i < dp + n then V.1 a0 (sp + (i - dp)) else V.1 a i) a j)
    rw [u1_s]
    by_cases c : dp ≤ (j : Int) ∧ (j : Int) < dp + n
    · rw [if_pos c, if_pos (by omega), show ((sp.toNat + (j - dp.toNat) : Nat) : Int) = sp + ((j : Int) - dp) by omega]
    · rw [if_neg c, if_neg (by omega)]
  rw [s2, t2, u2', e]
  have h := hσ.wr (V' := cpI V a0 a sp dp n) h1 (Nat.succ_ne_zero _) rfl (fun b hb => ⟨u1_n hb, rfl, rfl⟩)
  exact k2 _ h.1 TExt.rf h.2
/-- a shape of objects that may lie in an array of objects -/
def objO (t : Nat) : Bool := t == 19 || t == 34 || t == 35 || t == 23 || t == 32 || t == 29 || t == 30 || t == 31
theorem objO_c {t : Nat} (h : objO t = true) : ∃ r, clsL[tci t]? = some r ∧ Cond.castable r.1 "java/lang/Object" ∈ lw_tbl ∧ t ≠ 0 := by
  unfold objO at h
  rcases (by simpa using h : ((((((t = 19 ∨ t = 34) ∨ t = 35) ∨ t = 23) ∨ t = 32) ∨ t = 29) ∨ t = 30) ∨ t = 31) with ((((((e | e) | e) | e) | e) | e) | e) | e <;> subst e
  · exact ⟨_, rfl, q2611, by decide⟩
  · exact ⟨_, rfl, q2622, by decide⟩
  · exact ⟨_, rfl, q2623, by decide⟩
  · exact ⟨_, rfl, q2624, by decide⟩
  · exact ⟨_, rfl, q2614, by decide⟩
  · exact ⟨_, rfl, q2618, by decide⟩
  · exact ⟨_, rfl, q2619, by decide⟩
  · exact ⟨_, rfl, q2620, by decide⟩
theorem objO_8 {t : Nat} (h : objO t = true) : ∃ k, t = k + 8 := by
  unfold objO at h
  rcases (by simpa using h : ((((((t = 19 ∨ t = 34) ∨ t = 35) ∨ t = 23) ∨ t = 32) ∨ t = 29) ∨ t = 30) ∨ t = 31) with ((((((e | e) | e) | e) | e) | e) | e) | e <;> exact ⟨t - 8, by omega⟩
theorem tCell_ob {V : VT} {a t m : Nat} (h : objO t = true) : tCell V a (t, m) = some (.inr (tci t, tFs V a t)) := by
  obtain ⟨k, rfl⟩ := objO_8 h
  rfl
theorem TGo.copyO {E : ET} {y : MI} {d pc idx : Nat} {ls : LV} {st : List Value} {sh : SHT} {nn : Nat × Nat} {V : VT} {Q : AO → SHT → Nat × Nat → VT → Prop} {a0 a n0 n1 : Nat} {sp dp n : Int} (hd : decode y.2.1 pc = .ok (.invokestatic idx, 3)) (hl : Cond.methodLink y.1.cls idx arraycopyName ∈ lw_all) (h0 : sh a0 = (5, n0)) (h1 : sh a = (5, n1)) (hs : 0 ≤ sp ∧ 0 ≤ dp ∧ 0 ≤ n ∧ sp + n ≤ n0 ∧ dp + n ≤ n1) (hb : n0 < 2147483648) (hb1 : n1 < 2147483648) (hel : ∀ i : Int, 0 ≤ i → i < n → ∀ y, V.2.2 a0 (sp + i) = some y → objO (sh y).1 = true) (hW : Nat.ble ((st.map fun v => v.category).sum) 8 = true) (hd1 : 1 ≤ d)
    (kk : TGo E y d (pc + 3) ls st sh nn (cpQ V a0 a sp dp n) Q) : TGo E y d pc ls (.int (iI n) :: .int (iI dp) :: .ref a :: .int (iI sp) :: .ref a0 :: st) sh nn V Q := by
  obtain ⟨s1, s2⟩ := iI_c3 (z := sp) (by omega)
  obtain ⟨t1, t2⟩ := iI_c3 (z := dp) (by omega)
  obtain ⟨u1', u2'⟩ := iI_c3 (z := n) (by omega)
  refine TGo.wr (fun σ Q' hσ k2 => Go.copyO hd hl ((hσ.at h0 (Nat.succ_ne_zero _)).trans rfl) ((hσ.at h1 (Nat.succ_ne_zero _)).trans rfl) s1 t1 u1' (by rw [s2, u2']; omega) (by rw [t2, u2']; omega) (fun i hi v hv => ?_) hW hd1 ?_) kk
  · rw [u2'] at hi
    rw [s2] at hv
    have hv2 : V.2.2 a0 (sp + (i : Int)) = some v := by
      have : ((sp.toNat + i : Nat) : Int) = sp + (i : Int) := by omega
      rw [← this]; exact hv
    have ho := hel (i : Int) (by omega) (by omega) v hv2
    obtain ⟨r, r1, r2, r3⟩ := objO_c ho
    exact ⟨_, _, r, (hσ.at rfl r3).trans (tCell_ob (m := (sh v).2) ho), r1, r2⟩
  have e : va_cpy (fun j : Nat => V.2.2 a0 j) (fun j : Nat => V.2.2 a j) sp.toNat dp.toNat n.toNat = fun j : Nat => (cpQ V a0 a sp dp n).2.2 a j := by
    funext j
    show (if dp.toNat ≤ j ∧ j < dp.toNat + n.toNat then V.2.2 a0 ((sp.toNat + (j - dp.toNat) : Nat) : Int) else V.2.2 a j) = u1 V.2.2 a (fun i => if dp ≤ i ∧ i < dp + n then V.2.2 a0 (sp + (i - dp)) else V.2.2 a i) a j
    rw [u1_s]
    by_cases c : dp ≤ (j : Int) ∧ (j : Int) < dp + n
    · rw [if_pos c, if_pos (by omega), show ((sp.toNat + (j - dp.toNat) : Nat) : Int) = sp + ((j : Int) - dp) by omega]
    · rw [if_neg c, if_neg (by omega)]
  rw [s2, t2, u2', e]
  have h := hσ.wr (V' := cpQ V a0 a sp dp n) h1 (Nat.succ_ne_zero _) rfl (fun b hb => ⟨rfl, rfl, u1_n hb⟩)
  exact k2 _ h.1 TExt.rf h.2
theorem TGo.getC {E : ET} {y : MI} {d pc idx : Nat} {ls : LV} {st : List Value} {sh : SHT} {nn : Nat × Nat} {V : VT} {Q : AO → SHT → Nat × Nat → VT → Prop} {a n : Nat} (hd : decode y.2.1 pc = .ok (.invokevirtual idx, 3)) (hl : Cond.methodLink y.1.cls idx ⟨"java/lang/Object", "getClass", "()Ljava/lang/Class;"⟩ ∈ lw_all) (h0 : sh a = (5, n)) (hW : Nat.ble ((st.map fun v => v.category).sum) 8 = true) (hd1 : 1 ≤ d) (kk : TGo E y d (pc + 3) ls (.ref (eS E 2) :: st) sh nn V Q) : TGo E y d pc ls (.ref a :: st) sh nn V Q :=
  TGo.rd (fun σ Q' hσ k2 => Go.getC hd hl ((hσ.at h0 (Nat.succ_ne_zero _)).trans rfl) hW hd1 k2) kk
theorem TGo.ldcM {E : ET} {y : MI} {d pc idx : Nat} {ls : LV} {st : List Value} {sh : SHT} {nn : Nat × Nat} {V : VT} {Q : AO → SHT → Nat × Nat → VT → Prop} (hd : decode y.2.1 pc = .ok (.ldc idx, 2)) (hw : Cond.classLink y.1.cls idx "[Ljava/lang/Object;" ∈ lw_all) (kk : TGo E y d (pc + 2) ls (.ref (eS E 2) :: st) sh nn V Q) : TGo E y d pc ls st sh nn V Q := TGo.pure (fun _ _ => Go.ldcM hd hw) kk
/-- a row that knows how much room there is -/
theorem Go.rdR {E : ET} {y : MI} {d pc pc' : Nat} {ls : LV} {st st' : List Value} {σ : AH} {Q : AO → AH → Prop}
    (hrow : ∀ {p : Program} {e : Env} {R : Room} {s : State} {m : MethodId} {args : Array Value} {below : List Frame} {meth : Method} {c : Code} {H : Heap} {locs : List Loc} {cells slots : Nat} {Z : State → Prop} {LS : Array Slot}, Cx E y d p R s m args meth c → lvh LS y.2.2.1 ls → cells ≤ R.cells → slots ≤ R.slots → W p (eL E) e R s m args below meth c H locs cells slots Z (F0 m pc' LS st') → W p (eL E) e R s m args below meth c H locs cells slots Z (F0 m pc LS st))
    (k : Go E y d pc' ls st' σ Q) : Go E y d pc ls st σ Q := by
  obtain ⟨o, σ', hQ, h1, h2, h3⟩ := k
  refine ⟨o, σ', hQ, h1, h2, ?_⟩
  intro p e R s m args below meth c Z mc ms cells slots sl0 H locs LS C a1 a2 a3 a4 a5 a6 a7 a8 a9 a10
  exact hrow C a10 (by omega) (by omega) (h3 p e R s m args below meth c Z mc ms cells slots sl0 H locs LS C a1 a2 a3 a4 a5 a6 a7 a8 a9 a10)
theorem Go.mmax {E : ET} {y : MI} {d pc idx : Nat} {ls : LV} {st : List Value} {σ : AH} {Q : AO → AH → Prop} {x z : Int32} (hd : decode y.2.1 pc = .ok (.invokestatic idx, 3)) (hl : Cond.methodLink y.1.cls idx Lib.Math.max.name ∈ lw_all) (hW : Nat.ble ((st.map fun v => v.category).sum) 8 = true) (hd1 : 1 ≤ d) (kk : Go E y d (pc + 3) ls (.int (if x < z then z else x) :: st) σ Q) : Go E y d pc ls (.int z :: .int x :: st) σ Q :=
  Go.rdR (fun {p e R s m args below meth c H locs cells slots Z LS} X hl9 hc hs k => by
    have fr := X.fr
    have hw := Nat.le_of_ble_eq_true hW
    exact va_mmax X.hx X.hb (by rw [X.ml]; exact hl9.1.symm) X.own (X.hts _ hl) (X.hts _ q687) (X.hts _ q132) (X.hts _ (show Cond.code Lib.Math.max.name Lib.Math.max.code 2 (some .int) ∈ lw_all from q688)) (by omega) (by omega) hc hs hd k) kk
theorem TGo.mmax {E : ET} {y : MI} {d pc idx : Nat} {ls : LV} {st : List Value} {sh : SHT} {nn : Nat × Nat} {V : VT} {Q : AO → SHT → Nat × Nat → VT → Prop} {a b : Int} (hd : decode y.2.1 pc = .ok (.invokestatic idx, 3)) (hl : Cond.methodLink y.1.cls idx Lib.Math.max.name ∈ lw_all) (h : (-2147483648 ≤ a ∧ a ≤ 2147483647) ∧ -2147483648 ≤ b ∧ b ≤ 2147483647) (hW : Nat.ble ((st.map fun v => v.category).sum) 8 = true) (hd1 : 1 ≤ d) (kk : TGo E y d (pc + 3) ls (.int (iI (max a b)) :: st) sh nn V Q) : TGo E y d pc ls (.int (iI b) :: .int (iI a) :: st) sh nn V Q := by
  have e : iI (max a b) = (if iI a < iI b then iI b else iI a) := by
    have h1 := @iI_lt a b ⟨h.1, h.2⟩
    split
    · rename_i c; rw [h1] at c; congr 1; omega
    · rename_i c; rw [h1] at c; congr 1; omega
  rw [e] at kk
  exact TGo.pure (fun _ _ => Go.mmax hd hl hW hd1) kk
theorem Go.mmin {E : ET} {y : MI} {d pc idx : Nat} {ls : LV} {st : List Value} {σ : AH} {Q : AO → AH → Prop} {x z : Int32} (hd : decode y.2.1 pc = .ok (.invokestatic idx, 3)) (hl : Cond.methodLink y.1.cls idx Lib.Math.min.name ∈ lw_all) (hW : Nat.ble ((st.map fun v => v.category).sum) 8 = true) (hd1 : 1 ≤ d) (kk : Go E y d (pc + 3) ls (.int (if z < x then z else x) :: st) σ Q) : Go E y d pc ls (.int z :: .int x :: st) σ Q :=
  Go.rdR (fun {p e R s m args below meth c H locs cells slots Z LS} X hl9 hc hs k => by
    have fr := X.fr
    have hw := Nat.le_of_ble_eq_true hW
    exact va_mmin X.hx X.hb (by rw [X.ml]; exact hl9.1.symm) X.own (X.hts _ hl) (X.hts _ q674) (X.hts _ q132) (X.hts _ (show Cond.code Lib.Math.min.name Lib.Math.min.code 2 (some .int) ∈ lw_all from q675)) (by omega) (by omega) hc hs hd k) kk
theorem TGo.mmin {E : ET} {y : MI} {d pc idx : Nat} {ls : LV} {st : List Value} {sh : SHT} {nn : Nat × Nat} {V : VT} {Q : AO → SHT → Nat × Nat → VT → Prop} {a b : Int} (hd : decode y.2.1 pc = .ok (.invokestatic idx, 3)) (hl : Cond.methodLink y.1.cls idx Lib.Math.min.name ∈ lw_all) (h : (-2147483648 ≤ a ∧ a ≤ 2147483647) ∧ -2147483648 ≤ b ∧ b ≤ 2147483647) (hW : Nat.ble ((st.map fun v => v.category).sum) 8 = true) (hd1 : 1 ≤ d) (kk : TGo E y d (pc + 3) ls (.int (iI (min a b)) :: st) sh nn V Q) : TGo E y d pc ls (.int (iI b) :: .int (iI a) :: st) sh nn V Q := by
  have e : iI (min a b) = (if iI b < iI a then iI b else iI a) := by
    have h1 := @iI_lt b a ⟨h.2, h.1⟩
    split
    · rename_i c; rw [h1] at c; congr 1; omega
    · rename_i c; rw [h1] at c; congr 1; omega
  rw [e] at kk
  exact TGo.pure (fun _ _ => Go.mmin hd hl hW hd1) kk
theorem Go.mmaxL {E : ET} {y : MI} {d pc idx : Nat} {ls : LV} {st : List Value} {σ : AH} {Q : AO → AH → Prop} {x z : Int64} (hd : decode y.2.1 pc = .ok (.invokestatic idx, 3)) (hl : Cond.methodLink y.1.cls idx Lib.MathLoose.max_long.x ∈ lw_all) (hW : Nat.ble ((st.map fun v => v.category).sum) 8 = true) (hd1 : 1 ≤ d) (kk : Go E y d (pc + 3) ls (.long (if z < x then x else z) :: st) σ Q) : Go E y d pc ls (.long z :: .long x :: st) σ Q :=
  Go.rdR (fun {p e R s m args below meth c H locs cells slots Z LS} X hl9 hc hs k => by
    have fr := X.fr
    have hw := Nat.le_of_ble_eq_true hW
    exact va_mmax_long X.hx X.hb (by rw [X.ml]; exact hl9.1.symm) X.own (X.hts _ hl) (X.hts _ q1360) (X.hts _ q132) (X.hts _ (show Cond.code Lib.MathLoose.max_long.x Lib.MathLoose.max_long.code 4 (some .long) ∈ lw_all from q1361)) (by omega) (by omega) hc hs hd k) kk
theorem TGo.mmaxL {E : ET} {y : MI} {d pc idx : Nat} {ls : LV} {st : List Value} {sh : SHT} {nn : Nat × Nat} {V : VT} {Q : AO → SHT → Nat × Nat → VT → Prop} {a b : Int} (hd : decode y.2.1 pc = .ok (.invokestatic idx, 3)) (hl : Cond.methodLink y.1.cls idx Lib.MathLoose.max_long.x ∈ lw_all) (h : (-9223372036854775808 ≤ a ∧ a ≤ 9223372036854775807) ∧ -9223372036854775808 ≤ b ∧ b ≤ 9223372036854775807) (hW : Nat.ble ((st.map fun v => v.category).sum) 8 = true) (hd1 : 1 ≤ d) (kk : TGo E y d (pc + 3) ls (.long (lI (max a b)) :: st) sh nn V Q) : TGo E y d pc ls (.long (lI b) :: .long (lI a) :: st) sh nn V Q := by
  have e : lI (max a b) = (if lI b < lI a then lI a else lI b) := by
    have h1 := @lI_lt b a ⟨h.2, h.1⟩
    split
    · rename_i c; rw [h1] at c; congr 1; omega
    · rename_i c; rw [h1] at c; congr 1; omega
  rw [e] at kk
  exact TGo.pure (fun _ _ => Go.mmaxL hd hl hW hd1) kk
theorem Go.mminL {E : ET} {y : MI} {d pc idx : Nat} {ls : LV} {st : List Value} {σ : AH} {Q : AO → AH → Prop} {x z : Int64} (hd : decode y.2.1 pc = .ok (.invokestatic idx, 3)) (hl : Cond.methodLink y.1.cls idx Lib.MathLoose.min_long.x ∈ lw_all) (hW : Nat.ble ((st.map fun v => v.category).sum) 8 = true) (hd1 : 1 ≤ d) (kk : Go E y d (pc + 3) ls (.long (if z < x then z else x) :: st) σ Q) : Go E y d pc ls (.long z :: .long x :: st) σ Q :=
  Go.rdR (fun {p e R s m args below meth c H locs cells slots Z LS} X hl9 hc hs k => by
    have fr := X.fr
    have hw := Nat.le_of_ble_eq_true hW
    exact va_mmin_long X.hx X.hb (by rw [X.ml]; exact hl9.1.symm) X.own (X.hts _ hl) (X.hts _ q1357) (X.hts _ q132) (X.hts _ (show Cond.code Lib.MathLoose.min_long.x Lib.MathLoose.min_long.code 4 (some .long) ∈ lw_all from q1358)) (by omega) (by omega) hc hs hd k) kk
theorem TGo.mminL {E : ET} {y : MI} {d pc idx : Nat} {ls : LV} {st : List Value} {sh : SHT} {nn : Nat × Nat} {V : VT} {Q : AO → SHT → Nat × Nat → VT → Prop} {a b : Int} (hd : decode y.2.1 pc = .ok (.invokestatic idx, 3)) (hl : Cond.methodLink y.1.cls idx Lib.MathLoose.min_long.x ∈ lw_all) (h : (-9223372036854775808 ≤ a ∧ a ≤ 9223372036854775807) ∧ -9223372036854775808 ≤ b ∧ b ≤ 9223372036854775807) (hW : Nat.ble ((st.map fun v => v.category).sum) 8 = true) (hd1 : 1 ≤ d) (kk : TGo E y d (pc + 3) ls (.long (lI (min a b)) :: st) sh nn V Q) : TGo E y d pc ls (.long (lI b) :: .long (lI a) :: st) sh nn V Q := by
  have e : lI (min a b) = (if lI b < lI a then lI b else lI a) := by
    have h1 := @lI_lt b a ⟨h.2, h.1⟩
    split
    · rename_i c; rw [h1] at c; congr 1; omega
    · rename_i c; rw [h1] at c; congr 1; omega
  rw [e] at kk
  exact TGo.pure (fun _ _ => Go.mminL hd hl hW hd1) kk
