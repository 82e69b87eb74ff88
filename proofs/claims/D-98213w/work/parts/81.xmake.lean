/-! X: what allocates -/
set_option maxRecDepth 100000
set_option maxHeartbeats 4000000 in
theorem kX11_init {E : ET} {sh : SHT} {nn : Nat × Nat} {V : VT} {A : Nat} {b d m : Int} (hA : sh A = (111, 0)) : TC E mX11_init 2 [.ref A, .int (iI b), .int (iI d), .int (iI m)] sh nn V (fun o sh' nn' V' => o = .inl none ∧ sh' = va_up sh A (19, 0) ∧ nn' = nn ∧ V' = vI (vI (vI V A 0 b) A 1 d) A 2 m) := by
  refine TC.intro [some (.ref A), some (.int (iI b)), some (.int (iI d)), some (.int (iI m))] rfl ?_
  refine TGo.settle 11 rfl rfl (Or.inr hA) ?_
  refine TGo.al0 dX11_init_0 rfl ?_
  refine TGo.objInit dX11_init_1 q784 q161 q162 rfl rfl ?_
  refine TGo.al0 dX11_init_4 rfl ?_
  refine TGo.il1 dX11_init_5 rfl ?_
  refine TGo.putIF (t := 111) 0 0 hA rfl fpX11_7_11 rfl dX11_init_6 rfl rfl rfl ?_
  refine TGo.al0 dX11_init_9 rfl ?_
  refine TGo.il2 dX11_init_10 rfl ?_
  refine TGo.putIF (t := 111) 1 1 hA rfl fpX11_13_11 rfl dX11_init_11 rfl rfl rfl ?_
  refine TGo.al0 dX11_init_14 rfl ?_
  refine TGo.il3 dX11_init_15 rfl ?_
  refine TGo.putIF (t := 111) 2 2 hA rfl fpX11_16_11 rfl dX11_init_16 rfl rfl rfl ?_
  refine TGo.vret dX11_init_19 rfl ?_
  exact ⟨hA, fun k hk => by rcases (show k = 0 ∨ k = 1 ∨ k = 2 by have hk : k < 3 := hk; omega) with e | e | e <;> subst e <;> rfl, rfl, rfl, rfl, rfl⟩
theorem XC.fr {V V' : VT} {B : Nat} {z : ZT} (h : XC V B z) (hf : ∀ i, i < 69 → ¬ (26 ≤ i ∧ i ≤ 31) → V'.1 (B + i) = V.1 (B + i) ∧ V'.2.2 (B + i) = V.2.2 (B + i)) : XC V' B z := by
  obtain ⟨⟨n1, n2, n3, n4, n5, n6, n7⟩, s1, s2, s3, s4⟩ := h
  have q : ∀ i, i < 69 → ¬ (26 ≤ i ∧ i ≤ 31) → V'.1 (B + i) = V.1 (B + i) := fun i a b => (hf i a b).1
  have q0 : V'.1 B = V.1 B := q 0 (by omega) (by omega)
  refine ⟨⟨fun p hp => (congrFun (hf 3 (by omega) (by omega)).2 _).trans (n1 p hp), ?_, fun i i0 i1 => (congrFun (q 22 (by omega) (by omega)) i).trans (n3 i i0 i1), fun i i0 i1 => (congrFun (q 23 (by omega) (by omega)) i).trans (n4 i i0 i1), fun i i0 i1 => (congrFun (q 24 (by omega) (by omega)) i).trans (n5 i i0 i1), fun i i0 i1 => (congrFun (q 25 (by omega) (by omega)) i).trans (n6 i i0 i1), fun p hp6 hp r r0 r1 => ?_⟩, by rw [q0]; exact s1, fun k k0 k1 => (congrFun (q 1 (by omega) (by omega)) k).trans (s2 k k0 k1), fun i i0 i1 => (congrFun (q 33 (by omega) (by omega)) i).trans (s3 i i0 i1), fun hh => ⟨fun r r0 r1 => (congrFun (q 66 (by omega) (by omega)) r).trans ((s4 hh).1 r r0 r1), fun p p0 p1 => (congrFun (q 68 (by omega) (by omega)) p).trans ((s4 hh).2 p p0 p1)⟩⟩
  · rw [q 2 (by omega) (by omega)]; exact n2
  · have w := n7 p hp6 hp r r0 r1
    rw [show B + 2 + 2 + 3 * p + 1 = B + (5 + 3 * p) by omega, show B + 2 + 2 + 3 * p + 2 = B + (6 + 3 * p) by omega] at w ⊢
    rw [q (5 + 3 * p) (by omega) (by omega), q (6 + 3 * p) (by omega) (by omega)]; exact w
/-- a row's other places -/
theorem XC.ro {V : VT} {B : Nat} {z : ZT} {j v : Int} (h : XC V B z) (hj : j = 1 ∨ j = 2 ∨ j = 3 ∨ (238 ≤ j ∧ j < 730) ∨ 780 ≤ j) : XC V B (za z 3 j v) := by
  obtain ⟨⟨n1, n2, n3, n4, n5, n6, n7⟩, s1, s2, s3, s4⟩ := h
  have f : ∀ i, (i = 0 ∨ (4 ≤ i ∧ i < 238) ∨ (730 ≤ i ∧ i < 780)) → (za z 3 j v).2 3 i = z.2 3 i := fun i hi => zf3 (by omega)
  have g : ∀ k : Nat, (k == 3) = false → (za z 3 j v).2 k = z.2 k := fun k hk => za_2 hk
  refine ⟨⟨n1, ?_, fun i i0 i1 => ?_, fun i i0 i1 => ?_, fun i i0 i1 => ?_, fun i i0 i1 => ?_, fun p hp6 hp r r0 r1 => ?_⟩, s1, fun k k0 k1 => ?_, fun i i0 i1 => ?_, fun hh => ?_⟩
  · rw [f 0 (by omega), f 5 (by omega), f 6 (by omega), f 4 (by omega)]; exact n2
  · rw [f _ (by omega)]; exact n3 i i0 i1
  · rw [f _ (by omega)]; exact n4 i i0 i1
  · rw [f _ (by omega)]; exact n5 i i0 i1
  · rw [f _ (by omega)]; exact n6 i i0 i1
  · rw [f 0 (by omega)] at hp
    have w := n7 p hp6 hp r r0 r1
    show _ = wZ ((za z 3 j v).2 3 (22 + 36 * p + r)) ∧ ((za z 3 j v).2 3 (22 + 36 * p + r) ≠ -1 → _ = nZ ((za z 3 j v).2 3 (22 + 36 * p + r)))
    rw [f _ (by omega)]; exact w
  · rw [g 2 rfl]; exact s2 k k0 k1
  · rw [g 7 rfl]; exact s3 i i0 i1
  · rw [g 72 rfl, g 73 rfl]; exact s4 hh
/-- owners when two cells are new, or one and an array is owned still -/
def owU (ow : Nat → Nat) (x A : Nat) (t : Nat) : Nat → Nat := fun a => if a = x then 4 else if a = A then t else ow a
theorem xNz {i : Nat} (h : xOk i = true) : i < 69 ∧ (xShL.getD i (0, 0)).1 ≠ 0 ∧ (xShL.getD i (0, 0)).1 ≠ 5 := by
  have h1 : i < 69 := by unfold xOk at h; simp [Nat.blt_eq] at h; exact h.1
  have key : ∀ j, j < 69 → xOk j = true → (xShL.getD j (0, 0)).1 ≠ 0 ∧ (xShL.getD j (0, 0)).1 ≠ 5 := by decide
  exact ⟨h1, key i h1 h⟩
/-- what adding a frozen cell x to the people's list does not touch; A1 is the list's array then -/
theorem XR.addP {ow : Nat → Nat} {sh sh' : SHT} {nn nn' : Nat × Nat} {V V' : VT} {B : Nat} {z : ZT} {A1 c1 ap cp : Nat} {gp : Nat → Nat} {b d m : Int} (hR : XR ow sh nn V B z) (W : RWZ (z.2 3)) (hap : StL ow sh V 1 (B + 26) ap cp (z.2 3 1).toNat gp) (hpe : ∀ k : Nat, (k : Int) < z.2 3 1 → PeR ow sh V (gp k) (z.2 3) k) (hoth : ∃ av al cv cl, ∃ gv gl : Nat → Nat, (ap ≠ av ∧ ap ≠ al ∧ av ≠ al) ∧ (StL ow sh V 1 (B + 28) av cv (z.2 3 2).toNat gv ∧ ∀ k : Nat, (k : Int) < z.2 3 2 → VeR ow sh V (gv k) (z.2 3) k) ∧ (StL ow sh V 1 (B + 30) al cl (z.2 3 3).toNat gl ∧ ∀ k : Nat, (k : Int) < z.2 3 3 → LaR ow sh V (gl k) (z.2 3) k))
    (hs : ∀ a, a < nn.1 → sh' a = sh a) (hL : LiR sh' V' (B + 26) A1 c1 ((z.2 3 1).toNat + 1) (fun i => if i = (z.2 3 1).toNat then nn.1 else gp i)) (hA : A1 = ap ∨ (nn.1 < A1 ∧ A1 < nn'.1)) (hV : ∀ a, a < nn.1 → a ≠ B + 26 → a ≠ A1 → V'.1 a = V.1 a ∧ V'.2.1 a = V.2.1 a ∧ V'.2.2 a = V.2.2 a)
    (hE : ∀ i : Int, 0 ≤ i → i < (c1 : Int) → ∀ y, V'.2.2 A1 i = some y → y = nn.1 ∨ ∃ j : Int, (0 ≤ j ∧ j < (cp : Int)) ∧ V.2.2 ap j = some y) (hx : sh' nn.1 = (19, 0)) (hx0 : V'.1 nn.1 0 = b ∧ V'.1 nn.1 1 = d ∧ V'.1 nn.1 2 = m) (hn : nn.1 < nn'.1) (h8 : z.2 3 1 < 8) :
    XR (owU ow nn.1 A1 1) sh' nn' V' B (za (za (za (za z 3 (238 + 3 * z.2 3 1) b) 3 (238 + 3 * z.2 3 1 + 1) d) 3 (238 + 3 * z.2 3 1 + 2) m) 3 1 (z.2 3 1 + 1)) := by
  obtain ⟨r1, r2, r3, r4, r5, r6⟩ := hR
  have w1 := W.1.2.1
  have w2 := W.1.2.2.1
  obtain ⟨a1, ⟨a2, a3⟩, a4⟩ := hap
  have hst : ∀ i, xOk i = true → B + i < nn.1 ∧ B + i ≠ ap := fun i hi => ⟨r6 _ (by rw [r2 i hi]; decide), fun e => by
    have q1 := r1 i hi
    have q2 := a1.2.2.2.1
    rw [← e, q1] at q2
    exact (xNz hi).2.2 (congrArg Prod.fst q2)⟩
  have hA1 : ∀ i, xOk i = true → B + i ≠ A1 := fun i hi => by
    have q := hst i hi
    rcases hA with e | e
    · rw [e]; exact q.2
    · omega
  have hAx : A1 ≠ nn.1 := by
    rcases hA with e | e
    · have := r6 ap (by rw [a3]; decide); omega
    · omega
  -- what keeps its owner and its cell
  have kp : ∀ a, ow a ≠ 0 → a ≠ B + 26 → a ≠ A1 → owU ow nn.1 A1 1 a = ow a ∧ sh' a = sh a ∧ V'.1 a = V.1 a ∧ V'.2.1 a = V.2.1 a ∧ V'.2.2 a = V.2.2 a := fun a ha h1 h2 => by
    have hlt := r6 a ha
    refine ⟨?_, hs a hlt, hV a hlt h1 h2⟩
    unfold owU
    rw [if_neg (by omega), if_neg h2]
  have h26 : ow (B + 26) = 1 := a2
  have k4 : Kp (fun x => x = 4) ow (owU ow nn.1 A1 1) sh sh' V V' := fun a ha => by
    have ha : ow a = 4 := ha
    refine kp a (by omega) (fun e => by rw [e, h26] at ha; omega) (fun e => ?_)
    rcases hA with e2 | e2
    · rw [e, e2, a3] at ha; omega
    · have := r6 a (by omega); omega
  obtain ⟨av, al, cv, cl, gv, gl, ⟨d1, d2, d3⟩, ⟨v1, v2⟩, l1, l2⟩ := hoth
  have kl : ∀ a, ow a = 1 → a ≠ B + 26 → a ≠ ap → owU ow nn.1 A1 1 a = ow a ∧ sh' a = sh a ∧ V'.1 a = V.1 a ∧ V'.2.1 a = V.2.1 a ∧ V'.2.2 a = V.2.2 a := fun a ha h1 h2 => by
    refine kp a (by omega) h1 ?_
    rcases hA with e2 | e2
    · rw [e2]; exact h2
    · have := r6 a (by omega); omega
  have fz : ∀ i, (i ≠ 1 ∧ ¬ (238 + 3 * z.2 3 1 ≤ i ∧ i ≤ 238 + 3 * z.2 3 1 + 2)) → (za (za (za (za z 3 (238 + 3 * z.2 3 1) b) 3 (238 + 3 * z.2 3 1 + 1) d) 3 (238 + 3 * z.2 3 1 + 2) m) 3 1 (z.2 3 1 + 1)).2 3 i = z.2 3 i := fun i hi => by
    rw [zf3 hi.1, zf3 (by omega), zf3 (by omega), zf3 (by omega)]
  have f1 : (za (za (za (za z 3 (238 + 3 * z.2 3 1) b) 3 (238 + 3 * z.2 3 1 + 1) d) 3 (238 + 3 * z.2 3 1 + 2) m) 3 1 (z.2 3 1 + 1)).2 3 1 = z.2 3 1 + 1 := zf3s
  refine ⟨fun i hi => (hs _ (hst i hi).1).trans (r1 i hi), fun i hi => ?_, ?_, ?_, ?_, ?_⟩
  · unfold owU
    rw [if_neg (by have := (hst i hi).1; omega), if_neg (hA1 i hi)]; exact r2 i hi
  · refine ((((r3.fr (fun i hi h => ?_)).ro (by omega)).ro (by omega)).ro (by omega)).ro (by omega)
    have hok : ∀ j, j < 69 → ¬ (26 ≤ j ∧ j ≤ 31) → xOk j = true := by decide
    have q := hV (B + i) (hst i (hok i hi h)).1 (by omega) (hA1 i (hok i hi h))
    exact ⟨q.1, q.2.2⟩
  · have hAv : A1 ≠ av := by
      rcases hA with e | e
      · rw [e]; exact d1
      · have := r6 av (by rw [v1.2.1.2]; decide); omega
    have hAl : A1 ≠ al := by
      rcases hA with e | e
      · rw [e]; exact d2
      · have := r6 al (by rw [l1.2.1.2]; decide); omega
    have hAp26 : A1 ≠ B + 26 := hL.ne
    have hox : owU ow nn.1 A1 1 nn.1 = 4 := if_pos rfl
    refine ⟨A1, av, al, c1, cv, cl, (fun i => if i = (z.2 3 1).toNat then nn.1 else gp i), gv, gl, ⟨hAv, hAl, d3⟩, ⟨?_, fun k hk => ?_⟩, ⟨?_, fun k hk => ?_⟩, ?_, fun k hk => ?_⟩
    · rw [f1, show (z.2 3 1 + 1).toNat = (z.2 3 1).toNat + 1 by omega]
      refine ⟨hL, ⟨?_, ?_⟩, fun i i0 i1 y hy => ?_⟩
      · show owU ow nn.1 A1 1 (B + 26) = 1
        unfold owU
        rw [if_neg (by have := r6 (B + 26) (by rw [h26]; decide); omega), if_neg (fun e => hAp26 e.symm)]; exact h26
      · unfold owU
        rw [if_neg hAx, if_pos rfl]
      · rcases hE i i0 i1 y hy with e | ⟨j, hj, e⟩
        · rw [e]; exact hox
        · have q := a4 j hj.1 hj.2 y e
          rw [(k4 y q).1]; exact q
    · rw [f1] at hk
      by_cases e : k = (z.2 3 1).toNat
      · have ek : (k : Int) = z.2 3 1 := by omega
        show PeR _ _ _ (if k = (z.2 3 1).toNat then nn.1 else gp k) _ _
        rw [if_pos e]
        refine ⟨hox, hx, ?_, ?_, ?_⟩
        · rw [ek, zf3 (by omega), zf3 (by omega), zf3 (by omega), zf3s]; exact hx0.1
        · rw [ek, zf3 (by omega), zf3 (by omega), zf3s]; exact hx0.2.1
        · rw [ek, zf3 (by omega), zf3s]; exact hx0.2.2
      · show PeR _ _ _ (if k = (z.2 3 1).toNat then nn.1 else gp k) _ _
        rw [if_neg e]
        have q := (hpe k (by omega)).keep k4
        unfold PeR at q ⊢
        rw [fz _ (by omega), fz _ (by omega), fz _ (by omega)]; exact q
    · rw [fz 2 (by omega)]
      exact v1.keep2 (kl _ v1.2.1.1 (by omega) (fun e => (hst 28 (by decide)).2 e)) (kl _ v1.2.1.2 (fun e => by
        have q1 := v1.1.2.2.2.1
        rw [e, r1 26 (by decide)] at q1
        exact absurd (show (20 : Nat) = 5 from congrArg Prod.fst q1) (by decide)) (fun e => d1 e.symm)) k4
    · rw [fz 2 (by omega)] at hk
      obtain ⟨q1, q2, q3, S, q4, q5, q6, q7⟩ := (v2 k hk).keep k4
      refine ⟨q1, q2, ?_, S, q4, q5, q6, fun r r0 r1 => ?_⟩
      · rw [fz _ (by omega), fz _ (by omega), fz _ (by omega)]; exact q3
      · have q := q7 r r0 r1
        show V'.1 (S + 1) r = wZ ((za (za (za (za z 3 (238 + 3 * z.2 3 1) b) 3 (238 + 3 * z.2 3 1 + 1) d) 3 (238 + 3 * z.2 3 1 + 2) m) 3 1 (z.2 3 1 + 1)).2 3 (298 + 36 * k + r)) ∧ ((za (za (za (za z 3 (238 + 3 * z.2 3 1) b) 3 (238 + 3 * z.2 3 1 + 1) d) 3 (238 + 3 * z.2 3 1 + 2) m) 3 1 (z.2 3 1 + 1)).2 3 (298 + 36 * k + r) ≠ -1 → _ = nZ ((za (za (za (za z 3 (238 + 3 * z.2 3 1) b) 3 (238 + 3 * z.2 3 1 + 1) d) 3 (238 + 3 * z.2 3 1 + 2) m) 3 1 (z.2 3 1 + 1)).2 3 (298 + 36 * k + r)))
        rw [fz _ (by omega)]; exact q
    · rw [fz 3 (by omega)]
      exact l1.keep2 (kl _ l1.2.1.1 (by omega) (fun e => (hst 30 (by decide)).2 e)) (kl _ l1.2.1.2 (fun e => by
        have q1 := l1.1.2.2.2.1
        rw [e, r1 26 (by decide)] at q1
        exact absurd (show (20 : Nat) = 5 from congrArg Prod.fst q1) (by decide)) (fun e => d2 e.symm)) k4
    · rw [fz 3 (by omega)] at hk
      have q := (l2 k hk).keep k4
      have et : txZ ((za (za (za (za z 3 (238 + 3 * z.2 3 1) b) 3 (238 + 3 * z.2 3 1 + 1) d) 3 (238 + 3 * z.2 3 1 + 2) m) 3 1 (z.2 3 1 + 1)).2 3) = txZ (z.2 3) := funext fun i => by
        unfold txZ
        by_cases e : 780 ≤ i
        · rw [if_pos e, if_pos e]; exact fz i (by omega)
        · rw [if_neg e, if_neg e]
      unfold LaR at q ⊢
      rw [et]; exact q
  · intro k hk
    have hB : V'.2.2 (B + 32) = V.2.2 (B + 32) := (hV _ (hst 32 (by decide)).1 (by omega) (hA1 32 (by decide))).2.2
    have e5 : (za (za (za (za z 3 (238 + 3 * z.2 3 1) b) 3 (238 + 3 * z.2 3 1 + 1) d) 3 (238 + 3 * z.2 3 1 + 2) m) 3 1 (z.2 3 1 + 1)).2 5 = z.2 5 := by rw [za_2 rfl, za_2 rfl, za_2 rfl, za_2 rfl]
    have ei : imZ (za (za (za (za z 3 (238 + 3 * z.2 3 1) b) 3 (238 + 3 * z.2 3 1 + 1) d) 3 (238 + 3 * z.2 3 1 + 2) m) 3 1 (z.2 3 1 + 1)) k = imZ z k := by
      unfold imZ
      rw [za_2 rfl, za_2 rfl, za_2 rfl, za_2 rfl]
    rw [hB, e5, ei]
    rcases r5 k hk with q | ⟨q1, I, q2, q3⟩
    · exact Or.inl q
    · refine Or.inr ⟨q1, I, q2, q3.keep (fun a ha => ?_)⟩
      have ha : ow a = 2 + k ∨ ow a = 4 := ha
      refine kp a (by omega) (fun e => by rw [e, h26] at ha; omega) (fun e => ?_)
      rcases hA with e2 | e2
      · rw [e, e2, a3] at ha; omega
      · have := r6 a (by omega); omega
  · intro a ha
    unfold owU at ha
    by_cases e : a = nn.1
    · omega
    · rw [if_neg e] at ha
      by_cases e2 : a = A1
      · rcases hA with e3 | e3
        · have := r6 ap (by rw [a3]; decide); omega
        · omega
      · rw [if_neg e2] at ha
        have := r6 a ha; omega
/-- a write to X's numbers; the row stays -/
theorem XR.wr0 {ow : Nat → Nat} {sh : SHT} {nn : Nat × Nat} {V V' : VT} {B : Nat} {z z' : ZT} (h : XR ow sh nn V B z) (hf : FrX B V V') (hc : XC V' B z') (e3 : z'.2 3 = z.2 3) (e4 : z'.2 4 = z.2 4) (e5 : z'.2 5 = z.2 5) : XR ow sh nn V' B z' := by
  obtain ⟨h1, h2, h3, h4, h5, h6⟩ := h
  have kp : Kp (fun x => x = 4) ow ow sh sh V V' := fun a ho => ⟨rfl, rfl, hf a (fun i hi => xWo h2 hi (by show ow a ≠ 1; have : ow a = 4 := ho; omega))⟩
  refine ⟨h1, h2, hc, ?_, fun k hk => ?_, h6⟩
  · rw [e3]
    refine h4.keep2 kp (fun a hq => ⟨rfl, rfl, ?_⟩)
    rcases hq with e | e | e | ⟨e1, e2⟩
    · exact hf a (fun i hi e' => xNo (j := 26) hi rfl (by omega) e')
    · exact hf a (fun i hi e' => xNo (j := 28) hi rfl (by omega) e')
    · exact hf a (fun i hi e' => xNo (j := 30) hi rfl (by omega) e')
    · exact hf a (xW5 h1 e2)
  · have hB : V'.2.2 (B + 32) = V.2.2 (B + 32) := (hf (B + 32) (fun i hi e' => xNo (j := 32) hi rfl rfl e')).2.2
    rw [hB, e5]
    have ei : imZ z' k = imZ z k := by funext i; unfold imZ; rw [e4]
    rw [ei]
    rcases h5 k hk with q | ⟨q1, I, q2, q3⟩
    · exact Or.inl q
    · exact Or.inr ⟨q1, I, q2, q3.keep (fun a ho => ⟨rfl, rfl, hf a (fun i hi => xWo h2 hi (by have : ow a = 2 + k ∨ ow a = 4 := ho; omega))⟩)⟩
set_option maxHeartbeats 4000000 in
theorem kX0_person {E : ET} {sh : SHT} {nn : Nat × Nat} {V : VT} {B : Nat} {ow : Nat → Nat} {z : ZT} {b d m : Int} (hR : XR ow sh nn V B z) (W : RWZ (z.2 3))  (rb : R32 b) (rd : R32 d) (rm : R32 m) : TC E mX0_person 8 [.ref B, .int (iI b), .int (iI d), .int (iI m)] sh nn V (XP B nn (zp_person z b d m)) := by
  obtain ⟨hB, -, hc, -⟩ := id hR
  have w1 := W.1.2.1
  obtain ⟨ap, av, al, cp, cv, cl, gp, gv, gl, hne, ⟨hp1, hp2⟩, ⟨hv1, hv2⟩, hl1, hl2⟩ := id hR.2.2.2.1
  refine TC.intro [some (.ref B), some (.int (iI b)), some (.int (iI d)), some (.int (iI m))] rfl ?_
  refine TGo.il1 dX0_person_0 rfl ?_
  refine TGo.ic0 dX0_person_1 ?_
  refine TGo.sip 200 dX0_person_2 (by decide) ?_
  refine TGo.cF (csS3 (y2 := mX0_in) 1 rfl dX0_person_5 q598 q599 okX0_in npX0_in rfl rfl) (kX0_in (by omega) (by omega) (by omega)) ?_
  refine TGo.ifb_eq 34 dX0_person_8 (by decide) (fun h8 => ?_) (fun h8 => ?_)
  · refine TGo.al0 dX0_person_34 rfl ?_
    refine TGo.icm1 dX0_person_35 ?_
    refine TGo.cS (csV1 (y2 := mX0_refuse) (t := 8) 1 rfl (hB 0 (by decide)) rfl rfl dX0_person_36 q601 q603 qs1 okX0_refuse npX0_refuse rfl rfl) (kX0_refuse hB hc (by omega)) (fun v36 V36 h36 => ?_)
    obtain ⟨rfl, hc36, hf36⟩ := h36
    refine TGo.iret dX0_person_39 rfl ?_
    first
    | (exfalso; omega)
    | (refine hR.leaf W (FrX.rf.tr hf36) hc36 ((zTell_2 rfl).trans rfl) ((zTell_2 rfl).trans rfl) (StA.rf.tell) ?_
       unfold zp_person
       (repeat (first | rw [if_pos (by first | rfl | assumption | omega)] | rw [if_neg (by first | decide | assumption | omega)]))
       (try first | rfl))
  · refine TGo.il2 dX0_person_11 rfl ?_
    refine TGo.il1 dX0_person_12 rfl ?_
    refine TGo.ic1 dX0_person_13 ?_
    refine TGo.iadd dX0_person_14 ?_
    refine TGo.sip 300 dX0_person_15 (by decide) ?_
    refine TGo.cF (csS3 (y2 := mX0_in) 1 rfl dX0_person_18 q598 q599 okX0_in npX0_in rfl rfl) (kX0_in (by omega) (by omega) (by omega)) ?_
    refine TGo.ifb_eq 34 dX0_person_21 (by decide) (fun h21 => ?_) (fun h21 => ?_)
    · refine TGo.al0 dX0_person_34 rfl ?_
      refine TGo.icm1 dX0_person_35 ?_
      refine TGo.cS (csV1 (y2 := mX0_refuse) (t := 8) 1 rfl (hB 0 (by decide)) rfl rfl dX0_person_36 q601 q603 qs1 okX0_refuse npX0_refuse rfl rfl) (kX0_refuse hB hc (by omega)) (fun v36 V36 h36 => ?_)
      obtain ⟨rfl, hc36, hf36⟩ := h36
      refine TGo.iret dX0_person_39 rfl ?_
      first
      | (exfalso; omega)
      | (refine hR.leaf W (FrX.rf.tr hf36) hc36 ((zTell_2 rfl).trans rfl) ((zTell_2 rfl).trans rfl) (StA.rf.tell) ?_
         unfold zp_person
         (repeat (first | rw [if_pos (by first | rfl | assumption | omega)] | rw [if_neg (by first | decide | assumption | omega)]))
         (try first | rfl))
    · refine TGo.il3 dX0_person_24 rfl ?_
      refine TGo.ic1 dX0_person_25 ?_
      refine TGo.bip 9 dX0_person_26 (by decide) ?_
      refine TGo.cF (csS3 (y2 := mX0_in) 1 rfl dX0_person_28 q598 q599 okX0_in npX0_in rfl rfl) (kX0_in (by omega) (by omega) (by omega)) ?_
      refine TGo.ifb_ne 40 dX0_person_31 (by decide) (fun h31 => ?_) (fun h31 => ?_)
      · refine TGo.al0 dX0_person_40 rfl ?_
        refine TGo.getS (t := 8) 2 2 (B + 2) (hB 0 (by decide)) rfl fgX0_16_0 dX0_person_41 rfl rfl rfl ?_
        refine TGo.getS (t := 9) 5 5 (B + 26) (hB 2 (by decide)) rfl fgX0_126_1 dX0_person_44 rfl rfl rfl ?_
        refine TGo.cF (csV0 (y2 := mJ2_size) (t := 20) 1 rfl (hB 26 (by decide)) rfl rfl dX0_person_47 q756 q757 q758 okJ2_size npJ2_size rfl rfl) (kJ2_size hp1.1) ?_
        refine TGo.toz (z.2 3 1) (Int.toNat_of_nonneg (by omega)) ?_
        refine TGo.bip 8 dX0_person_50 (by decide) ?_
        refine TGo.icmp_ne 62 dX0_person_52 (by decide) (by omega) (fun h52 => ?_) (fun h52 => ?_)
        · refine TGo.known (fun kn => ?_)
          refine TGo.al0 dX0_person_62 rfl ?_
          refine TGo.getS (t := 8) 2 2 (B + 2) (hB 0 (by decide)) rfl fgX0_16_0 dX0_person_63 rfl rfl rfl ?_
          refine TGo.getS (t := 9) 5 5 (B + 26) (hB 2 (by decide)) rfl fgX0_126_1 dX0_person_66 rfl rfl rfl ?_
          refine TGo.new (ci := 11) (N := 3) nwX0_148 dX0_person_69 rfl rfl (fun z69 e69 => ?_)
          have hraw : va_up sh nn.1 (111, 0) nn.1 = (111, 0) := va_up_self _ _ _
          refine TGo.dup dX0_person_72 rfl ?_
          refine TGo.il1 dX0_person_73 rfl ?_
          refine TGo.il2 dX0_person_74 rfl ?_
          refine TGo.il3 dX0_person_75 rfl ?_
          refine TGo.callG (csI3 (y2 := mX11_init) 2 rfl dX0_person_76 q781 q782 rfl rfl okX11_init npX11_init rfl rfl) (kX11_init hraw) (fun o76 sh76 nn76 V76 e76 h76 => ?_)
          obtain ⟨rfl, rfl, rfl, rfl⟩ := h76
          have hB26 : B + 26 < nn.1 := kn _ (by rw [hB 26 (by decide)]; decide)
          have hlt : ∀ a, a < nn.1 → (va_up (va_up sh nn.1 (111, 0)) nn.1 (19, 0)) a = sh a := fun a ha => (va_up_ne _ _ (by omega)).trans (va_up_ne _ _ (by omega))
          have hxP : (va_up (va_up sh nn.1 (111, 0)) nn.1 (19, 0)) nn.1 = (19, 0) := va_up_self _ _ _
          have hB1 : XSh B (va_up (va_up sh nn.1 (111, 0)) nn.1 (19, 0)) := fun i hi => (hlt _ (kn _ (by rw [hB i hi]; exact (xNz hi).2.1))).trans (hB i hi)
          have hVP : ∀ a, a ≠ nn.1 → (vI (vI (vI V nn.1 0 b) nn.1 1 d) nn.1 2 m).1 a = V.1 a := fun a ha => (u2_a ha).trans ((u2_a ha).trans (u2_a ha))
          have hL1 : LiR (va_up (va_up sh nn.1 (111, 0)) nn.1 (19, 0)) (vI (vI (vI V nn.1 0 b) nn.1 1 d) nn.1 2 m) (B + 26) ap cp (z.2 3 1).toNat gp := hp1.1.keep (fun a ha => hlt a (kn a ha)) (congrFun (hVP _ (by omega)) 2) rfl rfl
          show TGo _ _ _ _ _ _ _ _ _ _
          refine TGo.callG (csV1 (y2 := mJ2_add) (t := 20) 7 rfl (hB1 26 (by decide)) rfl rfl dX0_person_79 q799 q800 q801 okJ2_add npJ2_add rfl rfl) (kJ2_add hL1 hxP rfl (by omega)) (fun o79 sh79 nn79 V79 e79 h79 => ?_)
          obtain ⟨rfl, A1, c1, q1, q2, q3, q4⟩ := h79
          have hap : ap < nn.1 := kn ap (by rw [hp1.1.2.2.2.1]; show (5 : Nat) ≠ 0; decide)
          have hs79 : ∀ a, a < nn.1 → sh79 a = sh a := fun a ha => by
            rcases q2 with ⟨-, -, e, -⟩ | ⟨-, e, -, -⟩
            · rw [e]; exact hlt a ha
            · rw [e]; exact (va_up_ne _ _ (by show a ≠ nn.1 + 1; omega)).trans (hlt a ha)
          have hx79 : sh79 nn.1 = (19, 0) := by
            rcases q2 with ⟨-, -, e, -⟩ | ⟨-, e, -, -⟩
            · rw [e]; exact hxP
            · rw [e]; exact (va_up_ne _ _ (by show nn.1 ≠ nn.1 + 1; omega)).trans hxP
          have hnn : (nn.1 < nn79.1 ∧ nn79.1 ≤ nn.1 + 2) ∧ nn.2 ≤ nn79.2 ∧ nn79.2 ≤ nn.2 + 2003 := by
            rcases q2 with ⟨-, -, -, e⟩ | ⟨-, -, e, e2⟩
            · rw [e]; show (nn.1 < nn.1 + 1 ∧ nn.1 + 1 ≤ nn.1 + 2) ∧ nn.2 ≤ nn.2 + 3 ∧ nn.2 + 3 ≤ nn.2 + 2003; omega
            · rw [e]; show (nn.1 < nn.1 + 1 + 1 ∧ nn.1 + 1 + 1 ≤ nn.1 + 2) ∧ nn.2 ≤ nn.2 + 3 + c1 ∧ nn.2 + 3 + c1 ≤ nn.2 + 2003; omega
          have hA79 : A1 = ap ∨ (nn.1 < A1 ∧ A1 < nn79.1) := by
            rcases q2 with ⟨e, -, -, -⟩ | ⟨e, -, e2, -⟩
            · exact Or.inl e
            · rw [e, e2]; exact Or.inr ⟨by show nn.1 < nn.1 + 1; omega, by show nn.1 + 1 < nn.1 + 1 + 1; omega⟩
          have hAn : nn.1 ∉ [B + 26, A1] := by simp; omega
          have hV79 : ∀ a, a < nn.1 → a ≠ B + 26 → a ≠ A1 → V79.1 a = V.1 a ∧ V79.2.1 a = V.2.1 a ∧ V79.2.2 a = V.2.2 a := fun a ha h1 h2 => by
            have q := q3 a (by simp; exact ⟨h1, h2⟩)
            exact ⟨q.1.trans (hVP a (by omega)), q.2.1, q.2.2⟩
          have hx0 : V79.1 nn.1 0 = b ∧ V79.1 nn.1 1 = d ∧ V79.1 nn.1 2 = m := by
            rw [(q3 nn.1 hAn).1]
            exact ⟨(u2_n (Or.inr (by decide))).trans ((u2_n (Or.inr (by decide))).trans u2_s), (u2_n (Or.inr (by decide))).trans u2_s, u2_s⟩
          have hR79 := hR.addP (A1 := A1) (c1 := c1) (b := b) (d := d) (m := m) W hp1 hp2 ⟨av, al, cv, cl, gv, gl, hne, ⟨hv1, hv2⟩, hl1, hl2⟩ hs79 q1 hA79 hV79 q4 hx79 hx0 hnn.1.1 (by omega)
          obtain ⟨hB3, -, hc79, -⟩ := id hR79
          show TGo _ _ _ _ _ _ _ _ _ _
          refine TGo.pop dX0_person_82 rfl ?_
          refine TGo.al0 dX0_person_83 rfl ?_
          refine TGo.al0 dX0_person_84 rfl ?_
          refine TGo.getS (t := 8) 2 2 (B + 2) (hB3 0 (by decide)) rfl fgX0_16_0 dX0_person_85 rfl rfl rfl ?_
          refine TGo.getS (t := 9) 5 5 (B + 26) (hB3 2 (by decide)) rfl fgX0_126_1 dX0_person_88 rfl rfl rfl ?_
          refine TGo.cF (csV0 (y2 := mJ2_size) (t := 20) 1 rfl (hB3 26 (by decide)) rfl rfl dX0_person_91 q756 q757 q758 okJ2_size npJ2_size rfl rfl) (kJ2_size q1) ?_
          refine TGo.toz (z.2 3 1 + 1) (by omega) ?_
          refine TGo.ic1 dX0_person_94 ?_
          refine TGo.isub dX0_person_95 ?_
          refine TGo.toz (z.2 3 1) (by omega) ?_
          refine TGo.cS (csV1 (y2 := mX0_done) (t := 8) 1 rfl (hB3 0 (by decide)) rfl rfl dX0_person_96 q695 q697 qs3 okX0_done npX0_done rfl rfl) (kX0_done hB3 hc79) (fun v96 V96 h96 => ?_)
          obtain ⟨rfl, hc96, hf96⟩ := h96
          refine TGo.iret dX0_person_99 rfl ?_
          have e : zp_person z b d m = (z.2 3 1, zi (za (za (za (za z 3 (238 + 3 * z.2 3 1) b) 3 (238 + 3 * z.2 3 1 + 1) d) 3 (238 + 3 * z.2 3 1 + 2) m) 3 1 (z.2 3 1 + 1)) 1 0) := by
            unfold zp_person
            rw [if_neg (fun q => q ⟨by assumption, by assumption, by assumption⟩), if_neg (by omega), zT0 (by omega)]
          rw [e]
          exact ⟨rfl, ⟨_, hR79.wr0 hf96 hc96 rfl rfl rfl⟩, ⟨by omega, by omega⟩, by omega, by omega⟩
        · refine TGo.al0 dX0_person_55 rfl ?_
          refine TGo.bip (-5) dX0_person_56 (by decide) ?_
          refine TGo.cS (csV1 (y2 := mX0_refuse) (t := 8) 1 rfl (hB 0 (by decide)) rfl rfl dX0_person_58 q601 q603 qs1 okX0_refuse npX0_refuse rfl rfl) (kX0_refuse hB hc (by omega)) (fun v58 V58 h58 => ?_)
          obtain ⟨rfl, hc58, hf58⟩ := h58
          refine TGo.iret dX0_person_61 rfl ?_
          first
          | (exfalso; omega)
          | (refine hR.leaf W (FrX.rf.tr hf58) hc58 ((zTell_2 rfl).trans rfl) ((zTell_2 rfl).trans rfl) (StA.rf.tell) ?_
             unfold zp_person
             (repeat (first | rw [if_pos (by first | rfl | assumption | omega)] | rw [if_neg (by first | decide | assumption | omega)]))
             (try first | rfl))
      · refine TGo.al0 dX0_person_34 rfl ?_
        refine TGo.icm1 dX0_person_35 ?_
        refine TGo.cS (csV1 (y2 := mX0_refuse) (t := 8) 1 rfl (hB 0 (by decide)) rfl rfl dX0_person_36 q601 q603 qs1 okX0_refuse npX0_refuse rfl rfl) (kX0_refuse hB hc (by omega)) (fun v36 V36 h36 => ?_)
        obtain ⟨rfl, hc36, hf36⟩ := h36
        refine TGo.iret dX0_person_39 rfl ?_
        first
        | (exfalso; omega)
        | (refine hR.leaf W (FrX.rf.tr hf36) hc36 ((zTell_2 rfl).trans rfl) ((zTell_2 rfl).trans rfl) (StA.rf.tell) ?_
           unfold zp_person
           (repeat (first | rw [if_pos (by first | rfl | assumption | omega)] | rw [if_neg (by first | decide | assumption | omega)]))
           (try first | rfl))
set_option maxHeartbeats 4000000 in
theorem kX0_drawn {E : ET} {sh : SHT} {nn : Nat × Nat} {V : VT} {B : Nat} {ow : Nat → Nat} {z : ZT} {a b w : Int} (hR : XR ow sh nn V B z) (W : RWZ (z.2 3)) (w75 : z.1 75 = 0 ∨ z.1 75 = 1) (w74 : 0 ≤ z.1 74 ∧ z.1 74 ≤ 8) (ra : R32 a) (rb : R32 b) (rw : R32 w) : TC E mX0_drawn 3 [.ref B, .int (iI a), .int (iI b), .int (iI w)] sh nn V (XP B nn (zp_drawn z a b w)) := by
  obtain ⟨hB, -, hc, -⟩ := id hR
  obtain ⟨dp, hdp⟩ : ∃ dp, dp = (if z.1 75 = 1 then z.1 74 else -1) := ⟨_, rfl⟩
  have hd : (z.1 75 = 1 ∧ dp = z.1 74) ∨ (z.1 75 = 0 ∧ dp = -1) := by
    rcases w75 with e | e
    · exact Or.inr ⟨e, by rw [hdp, if_neg (by omega)]⟩
    · exact Or.inl ⟨e, by rw [hdp, if_pos e]⟩
  refine TC.intro [some (.ref B), some (.int (iI a)), some (.int (iI b)), some (.int (iI w))] rfl ?_
  refine TGo.al0 dX0_drawn_0 rfl ?_
  refine TGo.getI (t := 8) 20 20 (hB 0 (by decide)) rfl fgX0_98_0 dX0_drawn_1 rfl rfl rfl ?_
  refine TGo.toz _ (hc.2.1.2.2.2.2.trans hdp.symm) ?_
  refine TGo.icm1 dX0_drawn_4 ?_
  refine TGo.icmp_eq 17 dX0_drawn_5 (by decide) (by omega) (fun h5 => ?_) (fun h5 => ?_)
  · refine TGo.icm1 dX0_drawn_17 ?_
    refine TGo.iret dX0_drawn_18 rfl ?_
    first
    | (exfalso; omega)
    | (refine hR.same ?_
       unfold zp_drawn
       first
       | (rw [if_pos (by omega)])
       | (rw [if_neg (by omega), if_pos (by omega), if_pos (by omega)])
       | (rw [if_neg (by omega), if_pos (by omega), if_neg (by omega)])
       | (rw [if_neg (by omega), if_neg (by omega), if_pos (by assumption)])
       | (rw [if_neg (by omega), if_neg (by omega), if_neg (by assumption)]))
  · refine TGo.il3 dX0_drawn_8 rfl ?_
    refine TGo.ic0 dX0_drawn_9 ?_
    refine TGo.ic1 dX0_drawn_10 ?_
    refine TGo.cF (csS3 (y2 := mX0_in) 1 rfl dX0_drawn_11 q598 q599 okX0_in npX0_in rfl rfl) (kX0_in (by omega) (by omega) (by omega)) ?_
    refine TGo.ifb_ne 19 dX0_drawn_14 (by decide) (fun h14 => ?_) (fun h14 => ?_)
    · refine TGo.il3 dX0_drawn_19 rfl ?_
      refine TGo.ic1 dX0_drawn_20 ?_
      refine TGo.icmp_ne 53 dX0_drawn_21 (by decide) (by omega) (fun h21 => ?_) (fun h21 => ?_)
      · refine TGo.il1 dX0_drawn_53 rfl ?_
        refine TGo.il2 dX0_drawn_54 rfl ?_
        refine TGo.cF (csS2 (y2 := mX0_isRule) 2 rfl dX0_drawn_55 q715 q716 okX0_isRule npX0_isRule rfl rfl) (kX0_isRule (by omega) (by omega)) ?_
        refine TGo.ifb_eq 78 dX0_drawn_58 (by decide) (fun h58 => ?_) (fun h58 => ?_)
        · refine TGo.icm1 dX0_drawn_78 ?_
          refine TGo.iret dX0_drawn_79 rfl ?_
          first
          | (exfalso; omega)
          | (refine hR.same ?_
             unfold zp_drawn
             first
             | (rw [if_pos (by omega)])
             | (rw [if_neg (by omega), if_pos (by omega), if_pos (by omega)])
             | (rw [if_neg (by omega), if_pos (by omega), if_neg (by omega)])
             | (rw [if_neg (by omega), if_neg (by omega), if_pos (by assumption)])
             | (rw [if_neg (by omega), if_neg (by omega), if_neg (by assumption)]))
        · refine TGo.al0 dX0_drawn_61 rfl ?_
          refine TGo.getS (t := 8) 18 18 (B + 65) (hB 0 (by decide)) rfl fgX0_92_0 dX0_drawn_62 rfl rfl rfl ?_
          refine TGo.getS (t := 10) 0 0 (B + 66) (hB 65 (by decide)) rfl fgX0_187_2 dX0_drawn_65 rfl rfl rfl ?_
          refine TGo.bip 6 dX0_drawn_68 (by decide) ?_
          refine TGo.il1 dX0_drawn_70 rfl ?_
          refine TGo.imul dX0_drawn_71 ?_
          refine TGo.il2 dX0_drawn_72 rfl ?_
          refine TGo.iadd dX0_drawn_73 ?_
          refine TGo.iald dX0_drawn_74 (hB 66 (by decide)) (by omega) rfl ?_
          refine TGo.toz _ ((hc.2.2.2.2 (by omega)).1 _ (by omega) (by omega)) ?_
          refine TGo.goto 79 dX0_drawn_75 (by decide) ?_
          refine TGo.iret dX0_drawn_79 rfl ?_
          first
          | (exfalso; omega)
          | (refine hR.same ?_
             unfold zp_drawn
             first
             | (rw [if_pos (by omega)])
             | (rw [if_neg (by omega), if_pos (by omega), if_pos (by omega)])
             | (rw [if_neg (by omega), if_pos (by omega), if_neg (by omega)])
             | (rw [if_neg (by omega), if_neg (by omega), if_pos (by assumption)])
             | (rw [if_neg (by omega), if_neg (by omega), if_neg (by assumption)]))
      · refine TGo.il2 dX0_drawn_24 rfl ?_
        refine TGo.if_ne 51 dX0_drawn_25 (by decide) (by omega) (fun h25 => ?_) (fun h25 => ?_)
        · refine TGo.icm1 dX0_drawn_51 ?_
          refine TGo.iret dX0_drawn_52 rfl ?_
          first
          | (exfalso; omega)
          | (refine hR.same ?_
             unfold zp_drawn
             first
             | (rw [if_pos (by omega)])
             | (rw [if_neg (by omega), if_pos (by omega), if_pos (by omega)])
             | (rw [if_neg (by omega), if_pos (by omega), if_neg (by omega)])
             | (rw [if_neg (by omega), if_neg (by omega), if_pos (by assumption)])
             | (rw [if_neg (by omega), if_neg (by omega), if_neg (by assumption)]))
        · refine TGo.il1 dX0_drawn_28 rfl ?_
          refine TGo.ic0 dX0_drawn_29 ?_
          refine TGo.al0 dX0_drawn_30 rfl ?_
          refine TGo.getI (t := 8) 20 20 (hB 0 (by decide)) rfl fgX0_98_0 dX0_drawn_31 rfl rfl rfl ?_
          refine TGo.toz _ (hc.2.1.2.2.2.2.trans hdp.symm) ?_
          refine TGo.ic1 dX0_drawn_34 ?_
          refine TGo.isub dX0_drawn_35 ?_
          refine TGo.cF (csS3 (y2 := mX0_in) 1 rfl dX0_drawn_36 q598 q599 okX0_in npX0_in rfl rfl) (kX0_in (by omega) (by omega) (by omega)) ?_
          refine TGo.ifb_eq 51 dX0_drawn_39 (by decide) (fun h39 => ?_) (fun h39 => ?_)
          · refine TGo.icm1 dX0_drawn_51 ?_
            refine TGo.iret dX0_drawn_52 rfl ?_
            first
            | (exfalso; omega)
            | (refine hR.same ?_
               unfold zp_drawn
               first
               | (rw [if_pos (by omega)])
               | (rw [if_neg (by omega), if_pos (by omega), if_pos (by omega)])
               | (rw [if_neg (by omega), if_pos (by omega), if_neg (by omega)])
               | (rw [if_neg (by omega), if_neg (by omega), if_pos (by assumption)])
               | (rw [if_neg (by omega), if_neg (by omega), if_neg (by assumption)]))
          · refine TGo.al0 dX0_drawn_42 rfl ?_
            refine TGo.getS (t := 8) 19 19 (B + 68) (hB 0 (by decide)) rfl fgX0_95_0 dX0_drawn_43 rfl rfl rfl ?_
            refine TGo.il1 dX0_drawn_46 rfl ?_
            refine TGo.iald dX0_drawn_47 (hB 68 (by decide)) (by omega) rfl ?_
            refine TGo.toz _ ((hc.2.2.2.2 (by omega)).2 _ (by omega) (by omega)) ?_
            refine TGo.goto 52 dX0_drawn_48 (by decide) ?_
            refine TGo.iret dX0_drawn_52 rfl ?_
            first
            | (exfalso; omega)
            | (refine hR.same ?_
               unfold zp_drawn
               first
               | (rw [if_pos (by omega)])
               | (rw [if_neg (by omega), if_pos (by omega), if_pos (by omega)])
               | (rw [if_neg (by omega), if_pos (by omega), if_neg (by omega)])
               | (rw [if_neg (by omega), if_neg (by omega), if_pos (by assumption)])
               | (rw [if_neg (by omega), if_neg (by omega), if_neg (by assumption)]))
    · refine TGo.icm1 dX0_drawn_17 ?_
      refine TGo.iret dX0_drawn_18 rfl ?_
      first
      | (exfalso; omega)
      | (refine hR.same ?_
         unfold zp_drawn
         first
         | (rw [if_pos (by omega)])
         | (rw [if_neg (by omega), if_pos (by omega), if_pos (by omega)])
         | (rw [if_neg (by omega), if_pos (by omega), if_neg (by omega)])
         | (rw [if_neg (by omega), if_neg (by omega), if_pos (by assumption)])
         | (rw [if_neg (by omega), if_neg (by omega), if_neg (by assumption)]))
