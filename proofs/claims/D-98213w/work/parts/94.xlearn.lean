/-! X: begin, learn -/
set_option maxRecDepth 100000
/-- the heap grew: what was, stays -/
def GrV (nn : Nat × Nat) (sh sh' : SHT) (V V' : VT) : Prop := ∀ a, a < nn.1 → sh' a = sh a ∧ V'.1 a = V.1 a ∧ V'.2.1 a = V.2.1 a ∧ V'.2.2 a = V.2.2 a
theorem GrV.rf {nn : Nat × Nat} {sh : SHT} {V : VT} : GrV nn sh sh V V := fun _ _ => ⟨rfl, rfl, rfl, rfl⟩
theorem GrV.tr {nn n1 : Nat × Nat} {sh s1 s2 : SHT} {V V1 V2 : VT} (h : GrV nn sh s1 V V1) (h2 : GrV n1 s1 s2 V1 V2) (hn : nn.1 ≤ n1.1) : GrV nn sh s2 V V2 := fun a ha => by
  obtain ⟨p1, p2, p3, p4⟩ := h a ha
  obtain ⟨q1, q2, q3, q4⟩ := h2 a (by omega)
  exact ⟨q1.trans p1, q2.trans p2, q3.trans p3, q4.trans p4⟩
theorem XR.mv {ow ow' : Nat → Nat} {sh sh' : SHT} {nn nn' : Nat × Nat} {V V' : VT} {B : Nat} {z : ZT} (h : XR ow sh nn V B z) (kp : ∀ a, ow a ≠ 0 → ow' a = ow a ∧ sh' a = sh a ∧ V'.1 a = V.1 a ∧ V'.2.1 a = V.2.1 a ∧ V'.2.2 a = V.2.2 a) (hn : ∀ a, ow' a ≠ 0 → a < nn'.1) : XR ow' sh' nn' V' B z := by
  obtain ⟨h1, h2, h3, h4, h5, h6⟩ := h
  have k1 : ∀ i, xOk i = true → ow (B + i) ≠ 0 := fun i hi => by rw [h2 i hi]; decide
  refine ⟨fun i hi => (kp _ (k1 i hi)).2.1.trans (h1 i hi), fun i hi => (kp _ (k1 i hi)).1.trans (h2 i hi), h3.fr (fun i hi h => ?_), h4.keep (fun a ha => kp a (by rcases ha with e | e <;> omega)), fun k hk => ?_, hn⟩
  · have hok : ∀ j, j < 69 → ¬ (26 ≤ j ∧ j ≤ 31) → xOk j = true := by decide
    have q := (kp _ (k1 i (hok i hi h))).2.2
    exact ⟨q.1, q.2.2⟩
  · rw [(kp _ (k1 32 (by decide))).2.2.2.2]
    rcases h5 k hk with q | ⟨q1, I, q2, q3⟩
    · exact Or.inl q
    · exact Or.inr ⟨q1, I, q2, q3.keep (fun a ha => kp a (by rcases ha with e | e <;> omega))⟩
theorem XR.alloc {ow : Nat → Nat} {sh sh' : SHT} {nn nn' : Nat × Nat} {V V' : VT} {B : Nat} {z : ZT} (h : XR ow sh nn V B z) (g : GrV nn sh sh' V V') (hn : nn.1 ≤ nn'.1) : XR ow sh' nn' V' B z :=
  h.mv (fun a ha => ⟨rfl, g a (h.2.2.2.2.2 a ha)⟩) (fun a ha => Nat.lt_of_lt_of_le (h.2.2.2.2.2 a ha) hn)
/-- cells of nobody are frozen -/
abbrev owF (ow : Nat → Nat) (L : List Nat) : Nat → Nat := fun a => if a ∈ L then 4 else ow a
theorem XR.frz {ow : Nat → Nat} {sh : SHT} {nn : Nat × Nat} {V : VT} {B : Nat} {z : ZT} (h : XR ow sh nn V B z) (L : List Nat) (hL : ∀ a, a ∈ L → ow a = 0 ∧ a < nn.1) : XR (owF ow L) sh nn V B z :=
  h.mv (fun a ha => ⟨if_neg (fun q => ha (hL a q).1), rfl, rfl, rfl, rfl⟩) (fun a ha => by
    by_cases e : a ∈ L
    · exact (hL a e).2
    · exact h.2.2.2.2.2 a (fun q => ha (by show (if a ∈ L then 4 else ow a) = 0; rw [if_neg e]; exact q)))
theorem XC.rows {V : VT} {B : Nat} {z z' : ZT} (h : XC V B z) (h3 : ∀ i, (i = 0 ∨ (4 ≤ i ∧ i < 238) ∨ (730 ≤ i ∧ i < 780)) → z'.2 3 i = z.2 3 i) (h1 : z'.1 = z.1) (h2 : ∀ k, k ≠ 3 → z'.2 k = z.2 k) : XC V B z' := by
  obtain ⟨⟨n1, n2, n3, n4, n5, n6, n7⟩, s1, s2, s3, s4⟩ := h
  refine ⟨⟨n1, ?_, fun i i0 i1 => ?_, fun i i0 i1 => ?_, fun i i0 i1 => ?_, fun i i0 i1 => ?_, fun p hp6 hp r r0 r1 => ?_⟩, ?_, fun k k0 k1 => ?_, fun i i0 i1 => ?_, fun hh => ?_⟩
  · rw [h3 0 (by omega), h3 5 (by omega), h3 6 (by omega), h3 4 (by omega)]; exact n2
  · rw [h3 _ (by omega)]; exact n3 i i0 i1
  · rw [h3 _ (by omega)]; exact n4 i i0 i1
  · rw [h3 _ (by omega)]; exact n5 i i0 i1
  · rw [h3 _ (by omega)]; exact n6 i i0 i1
  · rw [h3 0 (by omega)] at hp
    have w := n7 p hp6 hp r r0 r1
    show _ = wZ (z'.2 3 (22 + 36 * p + r)) ∧ (z'.2 3 (22 + 36 * p + r) ≠ -1 → _ = nZ (z'.2 3 (22 + 36 * p + r)))
    rw [h3 _ (by omega)]; exact w
  · rw [h1]; exact s1
  · rw [h2 2 (by decide)]; exact s2 k k0 k1
  · rw [h2 7 (by decide)]; exact s3 i i0 i1
  · rw [h2 72 (by decide), h2 73 (by decide)]; rw [h1] at hh; exact s4 hh
/-- a frozen version more -/
theorem XR.addV {ow : Nat → Nat} {sh sh' : SHT} {nn nn' : Nat × Nat} {V V' : VT} {B : Nat} {z z' : ZT} {x A1 c1 ap av al cp cv cl : Nat} {gp gv gl : Nat → Nat} (hR : XR ow sh nn V B z) (W : RWZ (z.2 3)) (hne : ap ≠ av ∧ ap ≠ al ∧ av ≠ al) (p1 : StL ow sh V 1 (B + 26) ap cp (z.2 3 1).toNat gp) (p2 : ∀ k : Nat, (k : Int) < z.2 3 1 → PeR ow sh V (gp k) (z.2 3) k) (v1 : StL ow sh V 1 (B + 28) av cv (z.2 3 2).toNat gv) (v2 : ∀ k : Nat, (k : Int) < z.2 3 2 → VeR ow sh V (gv k) (z.2 3) k) (l1 : StL ow sh V 1 (B + 30) al cl (z.2 3 3).toNat gl) (l2 : ∀ k : Nat, (k : Int) < z.2 3 3 → LaR ow sh V (gl k) (z.2 3) k)
    (hx : VeR ow sh V x (z'.2 3) (z.2 3 2)) (h12 : z.2 3 2 < 12) (hs : ∀ a, a < nn.1 → sh' a = sh a) (hL : LiR sh' V' (B + 28) A1 c1 ((z.2 3 2).toNat + 1) (fun i => if i = (z.2 3 2).toNat then x else gv i)) (hA : A1 = av ∨ (nn.1 ≤ A1 ∧ A1 < nn'.1)) (hV : ∀ a, a < nn.1 → a ≠ B + 28 → a ≠ A1 → V'.1 a = V.1 a ∧ V'.2.1 a = V.2.1 a ∧ V'.2.2 a = V.2.2 a) (hn : nn.1 ≤ nn'.1)
    (hE : ∀ i : Int, 0 ≤ i → i < (c1 : Int) → ∀ y, V'.2.2 A1 i = some y → y = x ∨ ∃ j : Int, (0 ≤ j ∧ j < (cv : Int)) ∧ V.2.2 av j = some y)
    (f : ∀ i, i ≠ 2 → ¬ (262 + 3 * z.2 3 2 ≤ i ∧ i ≤ 262 + 3 * z.2 3 2 + 2) → ¬ (298 + 36 * z.2 3 2 ≤ i ∧ i < 298 + 36 * z.2 3 2 + 36) → z'.2 3 i = z.2 3 i) (f2 : z'.2 3 2 = z.2 3 2 + 1) (z1 : z'.1 = z.1) (z2 : ∀ k, k ≠ 3 → z'.2 k = z.2 k) :
    XR (fun a => if a = A1 then 1 else ow a) sh' nn' V' B z' := by
  obtain ⟨r1, r2, r3, r4, r5, r6⟩ := hR
  have w1 := W.1.2.1
  have w2 := W.1.2.2.1
  obtain ⟨a1, ⟨a2, a3⟩, a4⟩ := v1
  have hst : ∀ i, xOk i = true → B + i < nn.1 ∧ B + i ≠ av := fun i hi => ⟨r6 _ (by rw [r2 i hi]; decide), fun e => by
    have q1 := r1 i hi
    have q2 := a1.2.2.2.1
    rw [← e, q1] at q2
    exact (xNz hi).2.2 (congrArg Prod.fst q2)⟩
  have hA1 : ∀ i, xOk i = true → B + i ≠ A1 := fun i hi => by
    have q := hst i hi
    rcases hA with e | e
    · rw [e]; exact q.2
    · omega
  have kp : ∀ a, ow a ≠ 0 → a ≠ B + 28 → a ≠ A1 → (if a = A1 then 1 else ow a) = ow a ∧ sh' a = sh a ∧ V'.1 a = V.1 a ∧ V'.2.1 a = V.2.1 a ∧ V'.2.2 a = V.2.2 a := fun a ha h1 h2 => ⟨if_neg h2, hs a (r6 a ha), hV a (r6 a ha) h1 h2⟩
  have k4 : Kp (fun x => x = 4) ow (fun a => if a = A1 then 1 else ow a) sh sh' V V' := fun a ha => by
    have ha : ow a = 4 := ha
    refine kp a (by omega) (fun e => by rw [e, a2] at ha; omega) (fun e => ?_)
    rcases hA with e2 | e2
    · rw [e, e2, a3] at ha; omega
    · have := r6 a (by omega); omega
  have kl : ∀ a, ow a = 1 → a ≠ B + 28 → a ≠ av → (if a = A1 then 1 else ow a) = ow a ∧ sh' a = sh a ∧ V'.1 a = V.1 a ∧ V'.2.1 a = V.2.1 a ∧ V'.2.2 a = V.2.2 a := fun a ha h1 h2 => by
    refine kp a (by omega) h1 ?_
    rcases hA with e2 | e2
    · rw [e2]; exact h2
    · have := r6 a (by omega); omega
  have h20 : ∀ {L A c n : Nat} {g : Nat → Nat}, LiR sh V L A c n g → A ≠ B + 28 := fun h e => by
    have q := h.2.2.2.1
    rw [e, r1 28 (by decide)] at q
    exact absurd (show (20 : Nat) = 5 from congrArg Prod.fst q) (by decide)
  refine ⟨fun i hi => (hs _ (hst i hi).1).trans (r1 i hi), fun i hi => (if_neg (hA1 i hi)).trans (r2 i hi), ?_, ?_, ?_, ?_⟩
  · refine (r3.fr (fun i hi h => ?_)).rows (fun i hi => f i (by omega) (by omega) (by omega)) z1 z2
    have hok : ∀ j, j < 69 → ¬ (26 ≤ j ∧ j ≤ 31) → xOk j = true := by decide
    have q := hV (B + i) (hst i (hok i hi h)).1 (by omega) (hA1 i (hok i hi h))
    exact ⟨q.1, q.2.2⟩
  · have hAp : ap ≠ A1 := by
      rcases hA with e | e
      · rw [e]; exact hne.1
      · have := r6 ap (by rw [p1.2.1.2]; decide); omega
    have hAl : A1 ≠ al := by
      rcases hA with e | e
      · rw [e]; exact hne.2.2
      · have := r6 al (by rw [l1.2.1.2]; decide); omega
    have hxf : ow x = 4 := hx.1
    refine ⟨ap, A1, al, cp, c1, cl, gp, (fun i => if i = (z.2 3 2).toNat then x else gv i), gl, ⟨hAp, hne.2.1, hAl⟩, ⟨?_, fun k hk => ?_⟩, ⟨?_, fun k hk => ?_⟩, ?_, fun k hk => ?_⟩
    · rw [f 1 (by omega) (by omega) (by omega)]
      exact p1.keep2 (kl _ p1.2.1.1 (by omega) (hst 26 (by decide)).2) (kl _ p1.2.1.2 (h20 p1.1) hne.1) k4
    · rw [f 1 (by omega) (by omega) (by omega)] at hk
      have q := (p2 k hk).keep k4
      unfold PeR at q ⊢
      rw [f _ (by omega) (by omega) (by omega), f _ (by omega) (by omega) (by omega), f _ (by omega) (by omega) (by omega)]; exact q
    · rw [f2, show (z.2 3 2 + 1).toNat = (z.2 3 2).toNat + 1 by omega]
      refine ⟨hL, ⟨(if_neg (hA1 28 (by decide))).trans a2, if_pos rfl⟩, fun i i0 i1 y hy => ?_⟩
      rcases hE i i0 i1 y hy with e | ⟨j, hj, e⟩
      · rw [e]; exact (k4 x hxf).1.trans hxf
      · have q := a4 j hj.1 hj.2 y e
        exact (k4 y q).1.trans q
    · rw [f2] at hk
      by_cases e : k = (z.2 3 2).toNat
      · have ek : (k : Int) = z.2 3 2 := by omega
        show VeR _ _ _ (if k = (z.2 3 2).toNat then x else gv k) _ _
        rw [if_pos e, ek]
        exact hx.keep k4
      · show VeR _ _ _ (if k = (z.2 3 2).toNat then x else gv k) _ _
        rw [if_neg e]
        obtain ⟨q1, q2, q3, S, q4, q5, q6, q7⟩ := (v2 k (by omega)).keep k4
        refine ⟨q1, q2, ?_, S, q4, q5, q6, q7.cg (fun r r0 r1 => f _ (by omega) (by omega) (by omega))⟩
        rw [f _ (by omega) (by omega) (by omega), f _ (by omega) (by omega) (by omega), f _ (by omega) (by omega) (by omega)]; exact q3
    · rw [f 3 (by omega) (by omega) (by omega)]
      exact l1.keep2 (kl _ l1.2.1.1 (by omega) (hst 30 (by decide)).2) (kl _ l1.2.1.2 (h20 l1.1) (fun e => hne.2.2 e.symm)) k4
    · rw [f 3 (by omega) (by omega) (by omega)] at hk
      have q := (l2 k hk).keep k4
      have et : txZ (z'.2 3) = txZ (z.2 3) := funext fun i => by
        unfold txZ
        by_cases e : 780 ≤ i
        · rw [if_pos e, if_pos e]; exact f i (by omega) (by omega) (by omega)
        · rw [if_neg e, if_neg e]
      unfold LaR at q ⊢
      rw [et]; exact q
  · intro k hk
    have hB : V'.2.2 (B + 32) = V.2.2 (B + 32) := (hV _ (hst 32 (by decide)).1 (by omega) (hA1 32 (by decide))).2.2
    have ei : imZ z' k = imZ z k := by unfold imZ; rw [z2 4 (by decide)]
    rw [hB, z2 5 (by decide), ei]
    rcases r5 k hk with q | ⟨q1, I, q2, q3⟩
    · exact Or.inl q
    · refine Or.inr ⟨q1, I, q2, q3.keep (fun a ha => ?_)⟩
      have ha : ow a = 2 + k ∨ ow a = 4 := ha
      refine kp a (by omega) (fun e => by rw [e, a2] at ha; omega) (fun e => ?_)
      rcases hA with e2 | e2
      · rw [e, e2, a3] at ha; omega
      · have := r6 a (by omega); omega
  · intro a ha
    by_cases e : a = A1
    · rcases hA with e2 | e2
      · have := r6 av (by rw [a3]; decide); omega
      · omega
    · have ha : (if a = A1 then 1 else ow a) ≠ 0 := ha
      rw [if_neg e] at ha
      have := r6 a ha; omega
theorem VeR.sc {ow : Nat → Nat} {sh : SHT} {B : Nat} {V V' : VT} {x : Nat} {f : Int → Int} {k : Int} (h : VeR ow sh V x f k) (hf : F36 B V V') (how : ∀ i, xOk i = true → ow (B + i) = 1) : VeR ow sh V' x f k := h.keep (fun a ha => ⟨rfl, rfl, hf.s.o how (by have ha : ow a = 4 := ha; omega)⟩)
theorem ScV.says {V : VT} {S : Nat} {g : Int → Int} {p w n x : Int} (h : ScV V S g) (hw : w = wZ x) (hn : x ≠ -1 → n = nZ x) : ScV (vI (vI V (S + 1) p w) (S + 2) p n) S (zu g p x) := fun r r0 r1 => by
  show u2 (u2 V.1 (S + 1) p w) (S + 2) p n (S + 1) r = wZ (zu g p x r) ∧ (zu g p x r ≠ -1 → u2 (u2 V.1 (S + 1) p w) (S + 2) p n (S + 2) r = nZ (zu g p x r))
  by_cases e : r = p
  · rw [e, zu_s, u2_s, u2_n (Or.inl (by omega)), u2_s]
    exact ⟨hw, hn⟩
  · rw [zu_n e, u2_n (Or.inr e), u2_n (Or.inr e), u2_n (Or.inr e), u2_n (Or.inr e)]
    exact h r r0 r1
set_option maxHeartbeats 4000000 in
theorem lX2_init {E : ET} {sh : SHT} {nn : Nat × Nat} {A : Nat} {V0 : VT} (hA : sh A = (102, 0)) (h1 : sh (A + 1) = (1, 36)) (hw : V0.2.2 A 0 = some (A + 1)) : ∀ (n j : Nat) (V : VT), 36 - j < n → j ≤ 36 → Fr [A + 1] V0 V → (∀ r, 0 ≤ r → r < (j : Int) → V.1 (A + 1) r = -1) → TGo E mX2_init 2 22 [some (.ref A), some (.int (iI (((j) : Nat) : Int)))] [] sh nn V (fun o sh' nn' V' => o = .inl none ∧ sh' = sh ∧ nn' = nn ∧ Fr [A + 1] V0 V' ∧ ∀ r, 0 ≤ r → r < 36 → V'.1 (A + 1) r = -1) := by
  intro n
  induction n with
  | zero => intro j V h; omega
  | succ n ih =>
    intro j V hn hj hz hx
    refine TGo.il1 dX2_init_22 rfl ?_
    refine TGo.bip 36 dX2_init_23 (by decide) ?_
    refine TGo.icmp_ge 41 dX2_init_25 (by decide) (by omega) (fun h25 => ?_) (fun h25 => ?_)
    · refine TGo.vret dX2_init_41 rfl ?_
      obtain rfl : j = 36 := by omega
      exact ⟨rfl, rfl, rfl, hz, fun r r0 r1 => hx r r0 (by omega)⟩
    · refine TGo.al0 dX2_init_28 rfl ?_
      refine TGo.getQ (t := 102) 0 0 (A + 1) hA rfl fgX2_9_2 dX2_init_29 rfl ⟨rfl, (by rw [hz.2]; exact hw)⟩ rfl ?_
      refine TGo.il1 dX2_init_32 rfl ?_
      refine TGo.icm1 dX2_init_33 ?_
      refine TGo.iast dX2_init_34 h1 (by omega) rfl ?_
      refine TGo.iinc dX2_init_35 rfl rfl rfl ?_
      refine TGo.goto 22 dX2_init_38 (by decide) ?_
      exact TGo.seq [some (.ref A), some (.int (iI ((((j + 1)) : Nat) : Int)))] [] _ (rfl) rfl rfl (ih (j + 1) _ (by omega) (by omega) (hz.i (by simp)) (fun r h0 h1 => by
        by_cases e : r = (j : Int)
        · rw [e]; exact u2_s
        · exact (u2_n (Or.inr e)).trans (hx r h0 (by omega))))
set_option maxHeartbeats 4000000 in
theorem kX2_init {E : ET} {sh : SHT} {nn : Nat × Nat} {V : VT} {A : Nat} (hA : sh A = (102, 0)) (hn : nn.1 = A + 1) : TC E mX2_init 2 [.ref A] sh nn V (fun o sh' nn' V' => o = .inl none ∧ (ScS sh' A ∧ ∀ b, b ≠ A → b ≠ A + 1 → b ≠ A + 2 → sh' b = sh b) ∧ (nn'.1 = A + 3 ∧ nn'.2 = nn.2 + 72) ∧ (∀ b, b ≠ A → b ≠ A + 1 → b ≠ A + 2 → V'.1 b = V.1 b ∧ V'.2.1 b = V.2.1 b ∧ V'.2.2 b = V.2.2 b) ∧ ScV V' A (fun _ => -1)) := by
  obtain ⟨n1, n2⟩ := nn
  obtain rfl : n1 = A + 1 := hn
  refine TC.intro [some (.ref A), none] rfl ?_
  refine TGo.settle 2 rfl rfl (Or.inr hA) ?_
  refine TGo.al0 dX2_init_0 rfl ?_
  refine TGo.objInit dX2_init_1 q175 q161 q162 rfl rfl ?_
  refine TGo.al0 dX2_init_4 rfl ?_
  refine TGo.bip 36 dX2_init_5 (by decide) ?_
  refine TGo.newI 36 dX2_init_7 q189 (by omega) rfl (fun z7 e7 => ?_)
  have hA1 : va_up sh (A + 1) (1, 36) A = (102, 0) := (va_up_ne _ _ (by omega)).trans hA
  have hB1 : va_up sh (A + 1) (1, 36) (A + 1) = (1, 36) := va_up_self _ _ _
  refine TGo.putQF (t := 102) 0 0 hA1 rfl fpX2_9_2 rfl dX2_init_9 rfl ⟨rfl, fun _ => ⟨rfl, rfl⟩, rfl, rfl⟩ rfl ?_
  refine TGo.al0 dX2_init_12 rfl ?_
  refine TGo.bip 36 dX2_init_13 (by decide) ?_
  refine TGo.newI 36 dX2_init_15 q189 (by omega) rfl (fun z15 e15 => ?_)
  have hA2 : va_up (va_up sh (A + 1) (1, 36)) (A + 2) (1, 36) A = (102, 0) := (va_up_ne _ _ (by omega)).trans hA1
  have hB2 : va_up (va_up sh (A + 1) (1, 36)) (A + 2) (1, 36) (A + 1) = (1, 36) := (va_up_ne _ _ (by omega)).trans hB1
  have hC2 : va_up (va_up sh (A + 1) (1, 36)) (A + 2) (1, 36) (A + 2) = (1, 36) := va_up_self _ _ _
  refine TGo.putQF (t := 102) 1 1 hA2 rfl fpX2_15_2 rfl dX2_init_17 rfl ⟨rfl, fun _ => ⟨rfl, rfl⟩, rfl, rfl⟩ rfl ?_
  refine TGo.ic0 dX2_init_20 ?_
  refine TGo.is1 dX2_init_21 rfl rfl ?_
  refine (lX2_init (A := A) hA2 hB2 ((u2_n (Or.inr (by decide))).trans u2_s) 37 0 _ (by omega) (by omega) Fr.rf (fun r h0 h1 => by omega)).mono ?_
  rintro o sh' nn' V' ⟨rfl, rfl, rfl, hf, hw⟩
  have hv1 : ∀ b, b ≠ A + 1 → V'.1 b = V.1 b := fun b hb => hf.1 b (by simpa using hb)
  have hv0 : V'.2.2 A 0 = some (A + 1) := by rw [hf.2]; exact (u2_n (Or.inr (by decide))).trans u2_s
  have hv2 : V'.2.2 A 1 = some (A + 2) := by rw [hf.2]; exact u2_s
  refine ⟨hA2, fun k hk => ?_, rfl, ⟨⟨va_up_self _ _ _, (va_up_ne _ _ (by omega)).trans hB2, (va_up_ne _ _ (by omega)).trans hC2⟩, fun b b0 b1 b2 => (va_up_ne _ _ b0).trans ((va_up_ne _ _ b2).trans (va_up_ne _ _ b1))⟩, ⟨rfl, rfl⟩, fun b b0 b1 b2 => ⟨hv1 b b1, by rw [hf.2], by rw [hf.2]; exact (u2_a b0).trans (u2_a b0)⟩, fun r r0 r1 => ⟨hw r r0 r1, fun q => absurd rfl q⟩⟩
  rcases (show k = 0 ∨ k = 1 by have hk : k < 2 := hk; omega) with e | e
  · subst e
    show va_rf (some (A + 1)) = va_rf (V'.2.2 A 0)
    rw [hv0]
  · subst e
    show va_rf (some (A + 2)) = va_rf (V'.2.2 A 1)
    rw [hv2]
set_option maxHeartbeats 4000000 in
theorem kX2_copy {E : ET} {sh : SHT} {nn : Nat × Nat} {V : VT} {S : Nat} {g : Int → Int} (hS : ScS sh S) (hv : ScV V S g) : TC E mX2_copy 3 [.ref S] sh nn V (fun o sh' nn' V' => o = .inl (some (.ref nn.1)) ∧ ScS sh' nn.1 ∧ GrV nn sh sh' V V' ∧ (nn'.1 = nn.1 + 3 ∧ nn'.2 = nn.2 + 74) ∧ ScV V' nn.1 g) := by
  refine TGo.known (fun kn => ?_)
  have k0 := kn S (by rw [hS.1]; decide)
  have k1 := kn (S + 1) (by rw [hS.2.1]; decide)
  have k2 := kn (S + 2) (by rw [hS.2.2]; decide)
  refine TC.intro [some (.ref S), none] rfl ?_
  refine TGo.new (ci := 2) (N := 2) nwX2_10 dX2_copy_0 rfl rfl (fun z0 e0 => ?_)
  refine TGo.dup dX2_copy_3 rfl ?_
  refine TGo.callG (csI0 (y2 := mX2_init) 2 rfl dX2_copy_4 q1464 q173 rfl rfl okX2_init npX2_init rfl rfl) (kX2_init (va_up_self _ _ _) rfl) (fun o4 sh4 nn4 V4 e4 h4 => ?_)
  obtain ⟨rfl, ⟨hSA, hs4⟩, hn4, hv4, hg4⟩ := h4
  have hG4 : GrV nn sh sh4 V V4 := fun a ha => ⟨(hs4 a (by omega) (by omega) (by omega)).trans (va_up_ne _ _ (by omega)), hv4 a (by omega) (by omega) (by omega)⟩
  show TGo _ _ _ _ _ _ _ _ _ _
  refine TGo.as1 dX2_copy_7 rfl rfl ?_
  have hS4 : ScS sh4 S := ⟨(hG4 _ k0).1.trans hS.1, (hG4 _ k1).1.trans hS.2.1, (hG4 _ k2).1.trans hS.2.2⟩
  have hv9 : ScV V4 S g := fun r r0 r1 => by rw [(hG4 _ k1).2.1, (hG4 _ k2).2.1]; exact hv r r0 r1
  refine TGo.al1 dX2_copy_8 rfl ?_
  refine TGo.al0 dX2_copy_9 rfl ?_
  refine TGo.cN (csV1 (y2 := mX2_takes) (t := 10) 1 rfl hSA.1 rfl rfl dX2_copy_10 q1465 q610 q611 okX2_takes npX2_takes rfl rfl) (kX2_takes hSA hS4 (by omega)) (fun V10 h10 => ?_)
  obtain ⟨hv10, hg10⟩ := h10
  refine TGo.al1 dX2_copy_13 rfl ?_
  refine TGo.aret dX2_copy_14 rfl ?_
  exact ⟨rfl, hSA, hG4.tr (n1 := nn) (fun a ha => ⟨rfl, hv10 a (by omega) (by omega)⟩) (Nat.le_refl _), ⟨hn4.1, by rw [hn4.2]⟩, hg10 g hv9⟩
set_option maxHeartbeats 4000000 in
theorem kX27_init {E : ET} {sh : SHT} {nn : Nat × Nat} {V : VT} {A S : Nat} {b d m : Int} (hA : sh A = (127, 0)) (h10 : sh S = (10, 0)) : TC E mX27_init 2 [.ref A, .int (iI b), .int (iI d), .int (iI m), .ref S] sh nn V (fun o sh' nn' V' => o = .inl none ∧ sh' = va_up sh A (35, 0) ∧ nn' = nn ∧ V' = vR (vI (vI (vI V A 0 b) A 1 d) A 2 m) A 3 (some S)) := by
  refine TC.intro [some (.ref A), some (.int (iI b)), some (.int (iI d)), some (.int (iI m)), some (.ref S)] rfl ?_
  refine TGo.settle 27 rfl rfl (Or.inr hA) ?_
  refine TGo.al0 dX27_init_0 rfl ?_
  refine TGo.objInit dX27_init_1 q1474 q161 q162 rfl rfl ?_
  refine TGo.al0 dX27_init_4 rfl ?_
  refine TGo.il1 dX27_init_5 rfl ?_
  refine TGo.putIF (t := 127) 0 0 hA rfl fpX27_7_27 rfl dX27_init_6 rfl rfl rfl ?_
  refine TGo.al0 dX27_init_9 rfl ?_
  refine TGo.il2 dX27_init_10 rfl ?_
  refine TGo.putIF (t := 127) 1 1 hA rfl fpX27_13_27 rfl dX27_init_11 rfl rfl rfl ?_
  refine TGo.al0 dX27_init_14 rfl ?_
  refine TGo.il3 dX27_init_15 rfl ?_
  refine TGo.putIF (t := 127) 2 2 hA rfl fpX27_16_27 rfl dX27_init_16 rfl rfl rfl ?_
  refine TGo.al0 dX27_init_19 rfl ?_
  refine TGo.al dX27_init_20 rfl ?_
  refine TGo.putQF (t := 127) 3 3 hA rfl fpX27_19_27 rfl dX27_init_22 rfl ⟨rfl, fun _ => ⟨rfl, rfl⟩, rfl, rfl⟩ rfl ?_
  refine TGo.vret dX27_init_25 rfl ?_
  exact ⟨hA, fun k hk => by rcases (show k = 0 ∨ k = 1 ∨ k = 2 ∨ k = 3 by have hk : k < 4 := hk; omega) with e | e | e | e <;> subst e <;> rfl, rfl, rfl, rfl, rfl⟩
set_option maxHeartbeats 4000000 in
theorem kX0_adds {E : ET} {sh : SHT} {nn : Nat × Nat} {V : VT} {B S : Nat} {ow : Nat → Nat} {z : ZT} {g : Int → Int} {a h t : Int} (hR : XR ow sh nn V B z) (W : RWZ (z.2 3)) (h2 : z.2 3 2 < 12) (hS : ow S = 4 ∧ ow (S + 1) = 4 ∧ ow (S + 2) = 4) (hSs : ScS sh S) (hSv : ScV V S g) {R : Int → Int} (hR1 : ∀ i, ¬ (298 + 36 * z.2 3 2 ≤ i ∧ i < 298 + 36 * z.2 3 2 + 36) → R i = z.2 3 i) (hR2 : ∀ r, 0 ≤ r → r < 36 → R (298 + 36 * z.2 3 2 + r) = g r) : TC E mX0_adds 8 [.ref B, .int (iI a), .int (iI h), .int (iI t), .ref S] sh nn V (fun o sh' nn' V' => o = .inl (some (.int (iI (z.2 3 2, zi (addZ (zA z 3 R) a h t) 1 0).1))) ∧ XE B sh' nn' V' (z.2 3 2, zi (addZ (zA z 3 R) a h t) 1 0).2 ∧ (nn.1 ≤ nn'.1 ∧ nn'.1 ≤ nn.1 + 2) ∧ nn.2 ≤ nn'.2 ∧ nn'.2 ≤ nn.2 + 2004) := by
  obtain ⟨hB, -, hc, -⟩ := id hR
  have hw2 := W.1.2.2.1
  have hraw : va_up sh nn.1 (127, 0) nn.1 = (127, 0) := va_up_self _ _ _
  have hS10 : va_up sh nn.1 (127, 0) S = (10, 0) := (va_up_ne _ _ (fun e => by have := hR.2.2.2.2.2 S (by omega); omega)).trans hSs.1
  refine TC.intro [some (.ref B), some (.int (iI a)), some (.int (iI h)), some (.int (iI t)), some (.ref S)] rfl ?_
  refine TGo.al0 dX0_adds_0 rfl ?_
  refine TGo.getS (t := 8) 2 2 (B + 2) (hB 0 (by decide)) rfl fgX0_16_0 dX0_adds_1 rfl rfl rfl ?_
  refine TGo.getS (t := 9) 6 6 (B + 28) (hB 2 (by decide)) rfl fgX0_136_1 dX0_adds_4 rfl rfl rfl ?_
  refine TGo.new (ci := 27) (N := 4) nwX0_143 dX0_adds_7 rfl rfl (fun z7 e7 => ?_)
  refine TGo.dup dX0_adds_10 rfl ?_
  refine TGo.il1 dX0_adds_11 rfl ?_
  refine TGo.il2 dX0_adds_12 rfl ?_
  refine TGo.il3 dX0_adds_13 rfl ?_
  refine TGo.al dX0_adds_14 rfl ?_
  refine TGo.callG (csI4 (y2 := mX27_init) 2 rfl dX0_adds_16 q1471 q1472 rfl rfl okX27_init npX27_init rfl rfl) (kX27_init hraw hS10) (fun o16 sh16 nn16 V16 e16 h16 => ?_)
  obtain ⟨rfl, rfl, rfl, rfl⟩ := h16
  have hG : GrV nn sh (va_up (va_up sh nn.1 (127, 0)) nn.1 (35, 0)) V (vR (vI (vI (vI V nn.1 0 a) nn.1 1 h) nn.1 2 t) nn.1 3 (some S)) := fun b hb => ⟨(va_up_ne _ _ (by omega)).trans (va_up_ne _ _ (by omega)), (u2_a (by omega)).trans ((u2_a (by omega)).trans (u2_a (by omega))), rfl, u2_a (by omega)⟩
  have hxV : (va_up (va_up sh nn.1 (127, 0)) nn.1 (35, 0)) nn.1 = (35, 0) := va_up_self _ _ _
  have ho0 : ow nn.1 = 0 := Classical.byContradiction (fun q => by have := hR.2.2.2.2.2 _ q; omega)
  have hRf := (hR.alloc (nn' := (nn.1 + 1, nn.2 + 4)) hG (by show nn.1 ≤ nn.1 + 1; omega)).frz [nn.1] (fun b hb => by
    rw [List.mem_singleton] at hb; rw [hb]; exact ⟨ho0, by show nn.1 < nn.1 + 1; omega⟩)
  have hw4 : owF ow [nn.1] S = 4 ∧ owF ow [nn.1] (S + 1) = 4 ∧ owF ow [nn.1] (S + 2) = 4 := by
    have l0 := hR.2.2.2.2.2 S (by omega)
    have l1 := hR.2.2.2.2.2 (S + 1) (by omega)
    have l2 := hR.2.2.2.2.2 (S + 2) (by omega)
    unfold owF
    rw [if_neg (by rw [List.mem_singleton]; omega), if_neg (by rw [List.mem_singleton]; omega), if_neg (by rw [List.mem_singleton]; omega)]
    exact hS
  have hl0 := hR.2.2.2.2.2 S (by omega)
  have hl1 := hR.2.2.2.2.2 (S + 1) (by omega)
  have hl2 := hR.2.2.2.2.2 (S + 2) (by omega)
  have hSs1 : ScS (va_up (va_up sh nn.1 (127, 0)) nn.1 (35, 0)) S := ⟨(hG _ hl0).1.trans hSs.1, (hG _ hl1).1.trans hSs.2.1, (hG _ hl2).1.trans hSs.2.2⟩
  have hSv1 : ScV (vR (vI (vI (vI V nn.1 0 a) nn.1 1 h) nn.1 2 t) nn.1 3 (some S)) S g := fun r r0 r1 => by rw [(hG _ hl1).2.1, (hG _ hl2).2.1]; exact hSv r r0 r1
  have zn2 : (addZ (zA z 3 R) a h t).2 3 2 = z.2 3 2 + 1 := by
    unfold addZ
    rw [zf3s, zA_s, hR1 2 (by omega)]
  have zf : ∀ i, i ≠ 2 → ¬ (262 + 3 * z.2 3 2 ≤ i ∧ i ≤ 262 + 3 * z.2 3 2 + 2) → (addZ (zA z 3 R) a h t).2 3 i = R i := fun i i2 i3 => by
    unfold addZ
    rw [zA_s, hR1 2 (by omega), zf3 i2, zf3 (by omega), zf3 (by omega), zf3 (by omega), zA_s]
  have zv : (addZ (zA z 3 R) a h t).2 3 (262 + 3 * z.2 3 2) = a ∧ (addZ (zA z 3 R) a h t).2 3 (262 + 3 * z.2 3 2 + 1) = h ∧ (addZ (zA z 3 R) a h t).2 3 (262 + 3 * z.2 3 2 + 2) = t := by
    unfold addZ
    rw [zA_s, hR1 2 (by omega)]
    refine ⟨?_, ?_, ?_⟩
    · rw [zf3 (by omega), zf3 (by omega), zf3 (by omega), zf3s]
    · rw [zf3 (by omega), zf3 (by omega), zf3s]
    · rw [zf3 (by omega), zf3s]
  have z1 : (addZ (zA z 3 R) a h t).1 = z.1 := rfl
  have z2 : ∀ k, k ≠ 3 → (addZ (zA z 3 R) a h t).2 k = z.2 k := fun k hk => by
    have e : (k == 3) = false := by simpa using hk
    unfold addZ
    rw [za_2 e, za_2 e, za_2 e, za_2 e, zA_2 e]
  have hVx : VeR (owF ow [nn.1]) (va_up (va_up sh nn.1 (127, 0)) nn.1 (35, 0)) (vR (vI (vI (vI V nn.1 0 a) nn.1 1 h) nn.1 2 t) nn.1 3 (some S)) nn.1 ((addZ (zA z 3 R) a h t).2 3) (z.2 3 2) := by
    refine ⟨if_pos (List.mem_singleton.mpr rfl), hxV, ⟨?_, ?_, ?_⟩, S, u2_s, hw4, hSs1, hSv1.cg (fun r r0 r1 => ?_)⟩
    · rw [zv.1]; exact (u2_n (Or.inr (by decide))).trans ((u2_n (Or.inr (by decide))).trans u2_s)
    · rw [zv.2.1]; exact (u2_n (Or.inr (by decide))).trans u2_s
    · rw [zv.2.2]; exact u2_s
    · rw [zf _ (by omega) (by omega)]; exact hR2 r r0 r1
  obtain ⟨ap, av, al, cp, cv, cl, gp, gv, gl, hne, ⟨hp1, hp2⟩, ⟨hv1, hv2⟩, hl3, hl4⟩ := id hRf.2.2.2.1
  have hB1 := hRf.1
  show TGo _ _ _ _ _ _ _ _ _ _
  refine TGo.callG (csV1 (y2 := mJ2_add) (t := 20) 7 rfl (hB1 28 (by decide)) rfl rfl dX0_adds_19 q799 q800 q801 okJ2_add npJ2_add rfl rfl) (kJ2_add hv1.1 hxV rfl (by omega)) (fun o19 sh19 nn19 V19 e19 h19 => ?_)
  obtain ⟨rfl, A1, c1, q1, q2, q3, q4⟩ := h19
  have hav := hRf.2.2.2.2.2 av (by rw [hv1.2.1.2]; decide)
  have hs19 : ∀ b, b < nn.1 + 1 → sh19 b = (va_up (va_up sh nn.1 (127, 0)) nn.1 (35, 0)) b := fun b hb => by
    rcases q2 with ⟨-, -, e, -⟩ | ⟨-, e, -, -⟩
    · rw [e]
    · rw [e]; exact va_up_ne _ _ (by show b ≠ nn.1 + 1; omega)
  have hnn : (nn.1 + 1 ≤ nn19.1 ∧ nn19.1 ≤ nn.1 + 2) ∧ nn.2 ≤ nn19.2 ∧ nn19.2 ≤ nn.2 + 2004 := by
    rcases q2 with ⟨-, -, -, e⟩ | ⟨-, -, e, e2⟩
    · rw [e]; show (nn.1 + 1 ≤ nn.1 + 1 ∧ nn.1 + 1 ≤ nn.1 + 2) ∧ nn.2 ≤ nn.2 + 4 ∧ nn.2 + 4 ≤ nn.2 + 2004; omega
    · rw [e]; show (nn.1 + 1 ≤ nn.1 + 1 + 1 ∧ nn.1 + 1 + 1 ≤ nn.1 + 2) ∧ nn.2 ≤ nn.2 + 4 + c1 ∧ nn.2 + 4 + c1 ≤ nn.2 + 2004; omega
  have hA19 : A1 = av ∨ (nn.1 + 1 ≤ A1 ∧ A1 < nn19.1) := by
    rcases q2 with ⟨e, -, -, -⟩ | ⟨e, -, e2, -⟩
    · exact Or.inl e
    · rw [e, e2]; exact Or.inr ⟨Nat.le_refl _, by show nn.1 + 1 < nn.1 + 1 + 1; omega⟩
  have hR19 := hRf.addV (A1 := A1) (c1 := c1) (z' := (addZ (zA z 3 R) a h t)) (x := nn.1) W hne hp1 hp2 hv1 hv2 hl3 hl4 hVx h2 hs19 q1 hA19 (fun b _ b1 b2 => q3 b (by simp; exact ⟨b1, b2⟩)) hnn.1.1 q4 (fun i i2 i3 i4 => (zf i i2 i3).trans (hR1 i i4)) zn2 z1 z2
  obtain ⟨hB3, -, hc19, -⟩ := id hR19
  show TGo _ _ _ _ _ _ _ _ _ _
  refine TGo.pop dX0_adds_22 rfl ?_
  refine TGo.al0 dX0_adds_23 rfl ?_
  refine TGo.al0 dX0_adds_24 rfl ?_
  refine TGo.getS (t := 8) 2 2 (B + 2) (hB3 0 (by decide)) rfl fgX0_16_0 dX0_adds_25 rfl rfl rfl ?_
  refine TGo.getS (t := 9) 6 6 (B + 28) (hB3 2 (by decide)) rfl fgX0_136_1 dX0_adds_28 rfl rfl rfl ?_
  refine TGo.cF (csV0 (y2 := mJ2_size) (t := 20) 1 rfl (hB3 28 (by decide)) rfl rfl dX0_adds_31 q756 q757 q758 okJ2_size npJ2_size rfl rfl) (kJ2_size q1) ?_
  refine TGo.toz (z.2 3 2 + 1) (by omega) ?_
  refine TGo.ic1 dX0_adds_34 ?_
  refine TGo.isub dX0_adds_35 ?_
  refine TGo.toz (z.2 3 2) (by omega) ?_
  refine TGo.cS (csV1 (y2 := mX0_done) (t := 8) 1 rfl (hB3 0 (by decide)) rfl rfl dX0_adds_36 q695 q697 qs3 okX0_done npX0_done rfl rfl) (kX0_done hB3 hc19) (fun v36 V36 h36 => ?_)
  obtain ⟨rfl, hc36, hf36⟩ := h36
  refine TGo.iret dX0_adds_39 rfl ?_
  exact ⟨rfl, ⟨_, hR19.wr0 hf36 hc36 rfl rfl rfl⟩, ⟨by omega, by omega⟩, by omega, by omega⟩
set_option maxHeartbeats 4000000 in
theorem kX0_begin {E : ET} {sh : SHT} {nn : Nat × Nat} {V : VT} {B : Nat} {ow : Nat → Nat} {z : ZT} {a p : Int} (hR : XR ow sh nn V B z) (W : RWZ (z.2 3)) (WL : LawsZ (z.2 3)) (ra : R32 a) (rp : R32 p) : TC E mX0_begin 213 [.ref B, .int (iI a), .int (iI p)] sh nn V (XP B nn (zp_begin z a p)) := by
  obtain ⟨hB, -, hc, -⟩ := id hR
  have w0 := W.1.1
  have w1 := W.1.2.1
  have w2 := W.1.2.2.1
  have w7 := W.1.2.2.2.2.2.2.2.1
  obtain ⟨ap, av, al, cp, cv, cl, gp, gv, gl, hne, ⟨hp1, hp2⟩, ⟨hv1, hv2⟩, hl1, hl2⟩ := id hR.2.2.2.1
  refine TC.intro [some (.ref B), some (.int (iI a)), some (.int (iI p))] rfl ?_
  refine TGo.al0 dX0_begin_0 rfl ?_
  refine TGo.il1 dX0_begin_1 rfl ?_
  refine TGo.cF (csV1 (y2 := mX0_isPart) (t := 8) 2 rfl (hB 0 (by decide)) rfl rfl dX0_begin_2 q721 q723 qs4 okX0_isPart npX0_isPart rfl rfl) (kX0_isPart hB hc w0 (by omega)) ?_
  refine TGo.ifb_eq 16 dX0_begin_5 (by decide) (fun h5 => ?_) (fun h5 => ?_)
  · refine TGo.al0 dX0_begin_16 rfl ?_
    refine TGo.bip (-2) dX0_begin_17 (by decide) ?_
    refine TGo.cS (csV1 (y2 := mX0_refuse) (t := 8) 1 rfl (hB 0 (by decide)) rfl rfl dX0_begin_19 q601 q603 qs1 okX0_refuse npX0_refuse rfl rfl) (kX0_refuse hB hc (by omega)) (fun v19 V19 h19 => ?_)
    obtain ⟨rfl, hc19, hf19⟩ := h19
    refine TGo.iret dX0_begin_22 rfl ?_
    first
    | (exfalso; omega)
    | (refine hR.leaf W (FrX.rf.tr hf19) hc19 ((zTell_2 rfl).trans rfl) ((zTell_2 rfl).trans rfl) (StA.rf.tell) ?_
       unfold zp_begin
       (repeat (first | rw [if_pos (by first | rfl | assumption | omega)] | rw [if_neg (by first | decide | assumption | omega)]))
       (try first | rfl))
  · refine TGo.al0 dX0_begin_8 rfl ?_
    refine TGo.il2 dX0_begin_9 rfl ?_
    refine TGo.cF (csV1 (y2 := mX0_isPerson) (t := 8) 2 rfl (hB 0 (by decide)) rfl rfl dX0_begin_10 q815 q817 qs7 okX0_isPerson npX0_isPerson rfl rfl) (kX0_isPerson hR W (by omega)) ?_
    refine TGo.ifb_ne 23 dX0_begin_13 (by decide) (fun h13 => ?_) (fun h13 => ?_)
    · refine TGo.al0 dX0_begin_23 rfl ?_
      refine TGo.il2 dX0_begin_24 rfl ?_
      refine TGo.al0 dX0_begin_25 rfl ?_
      refine TGo.cF (csV0 (y2 := mX0_year) (t := 8) 1 rfl (hB 0 (by decide)) rfl rfl dX0_begin_26 q827 q829 qs8 okX0_year npX0_year rfl rfl) (kX0_year hB hc) ?_
      refine TGo.cF (csV2 (y2 := mX0_isAlive) (t := 8) 4 rfl (hB 0 (by decide)) rfl rfl dX0_begin_29 q1455 q1457 qs17 okX0_isAlive npX0_isAlive rfl rfl) (kX0_isAlive hR W (by omega) (by omega)) ?_
      refine TGo.ifb_eq 49 dX0_begin_32 (by decide) (fun h32 => ?_) (fun h32 => ?_)
      · refine TGo.al0 dX0_begin_49 rfl ?_
        refine TGo.bip (-3) dX0_begin_50 (by decide) ?_
        refine TGo.cS (csV1 (y2 := mX0_refuse) (t := 8) 1 rfl (hB 0 (by decide)) rfl rfl dX0_begin_52 q601 q603 qs1 okX0_refuse npX0_refuse rfl rfl) (kX0_refuse hB hc (by omega)) (fun v52 V52 h52 => ?_)
        obtain ⟨rfl, hc52, hf52⟩ := h52
        refine TGo.iret dX0_begin_55 rfl ?_
        first
        | (exfalso; omega)
        | (refine hR.leaf W (FrX.rf.tr hf52) hc52 ((zTell_2 rfl).trans rfl) ((zTell_2 rfl).trans rfl) (StA.rf.tell) ?_
           unfold zp_begin
           (repeat (first | rw [if_pos (by first | rfl | assumption | omega)] | rw [if_neg (by first | decide | assumption | omega)]))
           (try first | rfl))
      · refine TGo.al0 dX0_begin_35 rfl ?_
        refine TGo.il2 dX0_begin_36 rfl ?_
        refine TGo.il1 dX0_begin_37 rfl ?_
        refine TGo.icm1 dX0_begin_38 ?_
        refine TGo.al0 dX0_begin_39 rfl ?_
        refine TGo.cF (csV0 (y2 := mX0_year) (t := 8) 1 rfl (hB 0 (by decide)) rfl rfl dX0_begin_40 q827 q829 qs8 okX0_year npX0_year rfl rfl) (kX0_year hB hc) ?_
        refine TGo.cS (csV4 (y2 := mX0_isBarred) (t := 8) 212 rfl (hB 0 (by decide)) rfl rfl dX0_begin_43 q1439 q1441 qs16 okX0_isBarred npX0_isBarred rfl rfl) (kX0_isBarred hR W WL (by omega) (by omega) (by omega) (by omega)) (fun v43 V43 h43 => ?_)
        obtain ⟨rfl, hR43, hF43⟩ := h43
        obtain ⟨-, -, hc43, -⟩ := id hR43
        obtain ⟨ap, av, al, cp, cv, cl, gp, gv, gl, hne, ⟨hp1, hp2⟩, ⟨hv1, hv2⟩, hl1, hl2⟩ := id hR43.2.2.2.1
        refine TGo.ifb_eq 56 dX0_begin_46 (by decide) (fun h46 => ?_) (fun h46 => ?_)
        · refine TGo.al0 dX0_begin_56 rfl ?_
          refine TGo.getS (t := 8) 2 2 (B + 2) (hB 0 (by decide)) rfl fgX0_16_0 dX0_begin_57 rfl rfl rfl ?_
          refine TGo.getS (t := 9) 6 6 (B + 28) (hB 2 (by decide)) rfl fgX0_136_1 dX0_begin_60 rfl rfl rfl ?_
          refine TGo.cF (csV0 (y2 := mJ2_size) (t := 20) 1 rfl (hB 28 (by decide)) rfl rfl dX0_begin_63 q756 q757 q758 okJ2_size npJ2_size rfl rfl) (kJ2_size hv1.1) ?_
          refine TGo.toz (z.2 3 2) (Int.toNat_of_nonneg (by omega)) ?_
          refine TGo.bip 12 dX0_begin_66 (by decide) ?_
          refine TGo.icmp_ne 80 dX0_begin_68 (by decide) (by omega) (fun h68 => ?_) (fun h68 => ?_)
          · have hSa : ScS sh (B + (4 + 3 * a.toNat)) := hB.sc (by omega)
            have hsa : ScV V43 (B + (4 + 3 * a.toNat)) (fun r => z.2 3 (22 + 36 * a + r)) := by
              have q := hc43.scr (p := a.toNat) (by omega) (by omega)
              rw [Int.toNat_of_nonneg (by omega)] at q
              exact q
            refine TGo.al0 dX0_begin_80 rfl ?_
            refine TGo.il1 dX0_begin_81 rfl ?_
            refine TGo.il2 dX0_begin_82 rfl ?_
            refine TGo.icm1 dX0_begin_83 ?_
            refine TGo.al0 dX0_begin_84 rfl ?_
            refine TGo.getS (t := 8) 2 2 (B + 2) (hB 0 (by decide)) rfl fgX0_16_0 dX0_begin_85 rfl rfl rfl ?_
            refine TGo.getS (t := 9) 0 0 (B + 3) (hB 2 (by decide)) rfl fgX0_170_1 dX0_begin_88 rfl rfl rfl ?_
            refine TGo.il1 dX0_begin_91 rfl ?_
            refine TGo.aaldSq (B + (4 + 3 * a.toNat)) dX0_begin_92 (hB 3 (by decide)) (by omega) rfl (hc43.srf (by omega)) ?_
            refine TGo.callG (csV0 (y2 := mX2_copy) (t := 10) 3 rfl hSa.1 rfl rfl dX0_begin_93 q1459 q1460 q1461 okX2_copy npX2_copy rfl rfl) (kX2_copy hSa hsa) (fun o93 sh93 nn93 V93 e93 h93 => ?_)
            obtain ⟨rfl, hSc, hGc, hnc, hvc⟩ := h93
            have hR93 := (hR43.alloc (nn' := nn93) hGc (by omega)).frz [nn.1, nn.1 + 1, nn.1 + 2] (fun b hb => by
              simp only [List.mem_cons, List.not_mem_nil, or_false] at hb
              exact ⟨Classical.byContradiction (fun q => by have := hR43.2.2.2.2.2 b q; omega), by omega⟩)
            obtain ⟨hB93, -, -, -⟩ := id hR93
            show TGo _ _ _ _ _ _ _ _ _ _
            refine TGo.callG (csV4 (y2 := mX0_adds) (t := 8) 8 rfl (hB93 0 (by decide)) rfl rfl dX0_begin_96 q1466 q1468 qs18 okX0_adds npX0_adds rfl rfl) (kX0_adds (R := (zc (z.2 3) (298 + 36 * z.2 3 2) 36 (z.2 3) (22 + 36 * a))) hR93 W (by omega) ⟨if_pos (by simp), if_pos (by simp), if_pos (by simp)⟩ hSc hvc (fun i hi => zc_out (by omega)) (fun r r0 r1 => (zc_in (by omega)).trans (congrArg _ (by omega)))) (fun o96 sh96 nn96 V96 e96 h96 => ?_)
            obtain ⟨rfl, hE, hb1, hb2⟩ := h96
            show TGo _ _ _ _ _ _ _ _ _ _
            refine TGo.iret dX0_begin_99 rfl ?_
            have e : zp_begin z a p = (z.2 3 2, zi (addZ (zA z 3 (zc (z.2 3) (298 + 36 * z.2 3 2) 36 (z.2 3) (22 + 36 * a))) a p (-1)) 1 0) := by
              unfold zp_begin
              rw [if_neg (by omega), if_neg (by omega), if_neg (by omega), zT0 (by omega)]
            rw [e]
            exact ⟨rfl, hE, ⟨by omega, by omega⟩, by omega, by omega⟩
          · refine TGo.al0 dX0_begin_71 rfl ?_
            refine TGo.bip (-5) dX0_begin_72 (by decide) ?_
            refine TGo.cS (csV1 (y2 := mX0_refuse) (t := 8) 1 rfl (hB 0 (by decide)) rfl rfl dX0_begin_74 q601 q603 qs1 okX0_refuse npX0_refuse rfl rfl) (kX0_refuse hB hc43 (by omega)) (fun v74 V74 h74 => ?_)
            obtain ⟨rfl, hc74, hf74⟩ := h74
            refine TGo.goto 99 dX0_begin_77 (by decide) ?_
            refine TGo.iret dX0_begin_99 rfl ?_
            first
            | (exfalso; omega)
            | (refine hR.leaf W ((FrX.rf.tr hF43.x).tr hf74) hc74 ((zTell_2 rfl).trans rfl) ((zTell_2 rfl).trans rfl) (StA.rf.tell) ?_
               unfold zp_begin
               (repeat (first | rw [if_pos (by first | rfl | assumption | omega)] | rw [if_neg (by first | decide | assumption | omega)]))
               (try first | rfl))
        · refine TGo.al0 dX0_begin_49 rfl ?_
          refine TGo.bip (-3) dX0_begin_50 (by decide) ?_
          refine TGo.cS (csV1 (y2 := mX0_refuse) (t := 8) 1 rfl (hB 0 (by decide)) rfl rfl dX0_begin_52 q601 q603 qs1 okX0_refuse npX0_refuse rfl rfl) (kX0_refuse hB hc43 (by omega)) (fun v52 V52 h52 => ?_)
          obtain ⟨rfl, hc52, hf52⟩ := h52
          refine TGo.iret dX0_begin_55 rfl ?_
          first
          | (exfalso; omega)
          | (refine hR.leaf W ((FrX.rf.tr hF43.x).tr hf52) hc52 ((zTell_2 rfl).trans rfl) ((zTell_2 rfl).trans rfl) (StA.rf.tell) ?_
             unfold zp_begin
             (repeat (first | rw [if_pos (by first | rfl | assumption | omega)] | rw [if_neg (by first | decide | assumption | omega)]))
             (try first | rfl))
    · refine TGo.al0 dX0_begin_16 rfl ?_
      refine TGo.bip (-2) dX0_begin_17 (by decide) ?_
      refine TGo.cS (csV1 (y2 := mX0_refuse) (t := 8) 1 rfl (hB 0 (by decide)) rfl rfl dX0_begin_19 q601 q603 qs1 okX0_refuse npX0_refuse rfl rfl) (kX0_refuse hB hc (by omega)) (fun v19 V19 h19 => ?_)
      obtain ⟨rfl, hc19, hf19⟩ := h19
      refine TGo.iret dX0_begin_22 rfl ?_
      first
      | (exfalso; omega)
      | (refine hR.leaf W (FrX.rf.tr hf19) hc19 ((zTell_2 rfl).trans rfl) ((zTell_2 rfl).trans rfl) (StA.rf.tell) ?_
         unfold zp_begin
         (repeat (first | rw [if_pos (by first | rfl | assumption | omega)] | rw [if_neg (by first | decide | assumption | omega)]))
         (try first | rfl))
set_option maxHeartbeats 4000000 in
theorem kX11_meets {E : ET} {sh : SHT} {nn : Nat × Nat} {V : VT} {A A2 : Nat} {b b2 : Int} (hA : sh A = (19, 0)) (hA2 : sh A2 = (19, 0)) (h0 : V.1 A 0 = b) (h02 : V.1 A2 0 = b2) (rb : R32 b) (rb2 : R32 b2) : TF E mX11_meets 2 [.ref A, .ref A2] sh nn V (.int (iI (max b b2))) := by
  refine TC.intro [some (.ref A), some (.ref A2)] rfl ?_
  refine TGo.al0 dX11_meets_0 rfl ?_
  refine TGo.getI (t := 19) 0 0 hA rfl fgX11_7_11 dX11_meets_1 rfl rfl rfl ?_
  refine TGo.toz _ (h0) ?_
  refine TGo.al1 dX11_meets_4 rfl ?_
  refine TGo.getI (t := 19) 0 0 hA2 rfl fgX11_7_11 dX11_meets_5 rfl rfl rfl ?_
  refine TGo.toz _ (h02) ?_
  refine TGo.mmax dX11_meets_8 q1513 (by omega) rfl (by omega) ?_
  refine TGo.iret dX11_meets_11 rfl ?_
  exact ⟨rfl, rfl, rfl, rfl⟩
set_option maxHeartbeats 4000000 in
theorem kX11_together {E : ET} {sh : SHT} {nn : Nat × Nat} {V : VT} {A A2 : Nat} {b b2 e e2 : Int} (hA : sh A = (19, 0)) (hA2 : sh A2 = (19, 0)) (h0 : V.1 A 0 = b) (h02 : V.1 A2 0 = b2) (h1 : V.1 A 1 = e) (h12 : V.1 A2 1 = e2) (rb : R32 b) (rb2 : R32 b2) (re : R32 e) (re2 : R32 e2) : TF E mX11_together 3 [.ref A, .ref A2] sh nn V (.int (iI (min e e2 - max b b2))) := by
  refine TC.intro [some (.ref A), some (.ref A2)] rfl ?_
  refine TGo.al0 dX11_together_0 rfl ?_
  refine TGo.getI (t := 19) 1 1 hA rfl fgX11_13_11 dX11_together_1 rfl rfl rfl ?_
  refine TGo.toz _ (h1) ?_
  refine TGo.al1 dX11_together_4 rfl ?_
  refine TGo.getI (t := 19) 1 1 hA2 rfl fgX11_13_11 dX11_together_5 rfl rfl rfl ?_
  refine TGo.toz _ (h12) ?_
  refine TGo.mmin dX11_together_8 q1508 (by omega) rfl (by omega) ?_
  refine TGo.al0 dX11_together_11 rfl ?_
  refine TGo.al1 dX11_together_12 rfl ?_
  refine TGo.cF (csV1 (y2 := mX11_meets) (t := 19) 2 rfl hA rfl rfl dX11_together_13 q1509 q1510 q1511 okX11_meets npX11_meets rfl rfl) (kX11_meets hA hA2 h0 h02 rb rb2) ?_
  refine TGo.isub dX11_together_16 ?_
  refine TGo.iret dX11_together_17 rfl ?_
  exact ⟨rfl, rfl, rfl, rfl⟩
set_option maxHeartbeats 4000000 in
theorem kX0_canLearn {E : ET} {sh : SHT} {nn : Nat × Nat} {V : VT} {B x : Nat} {ow : Nat → Nat} {z : ZT} {v : Int} {p : Int} (hR : XR ow sh nn V B z) (W : RWZ (z.2 3)) (WL : LawsZ (z.2 3)) (hx : VeR ow sh V x (z.2 3) v) (hv : 0 ≤ v ∧ v < z.2 3 2) (hp : 0 ≤ p ∧ p < z.2 3 1) : TS E mX0_canLearn 213 [.ref B, .ref x, .int (iI p)] sh nn V (fun o V' => o = .int (iI (bZ (¬ ((z.2 3 (262 + 3 * v + 1)) = p ∨ ¬ ((z.2 3 (238 + 3 * (z.2 3 (262 + 3 * v + 1)))) ≤ z.2 3 7 ∧ z.2 3 7 < (z.2 3 (238 + 3 * (z.2 3 (262 + 3 * v + 1)) + 1))) ∨ ¬ ((z.2 3 (238 + 3 * p)) ≤ z.2 3 7 ∧ z.2 3 7 < (z.2 3 (238 + 3 * p + 1))) ∨ tellZ (z.2 3) 2 p (z.2 3 (262 + 3 * v)) (z.2 3 (262 + 3 * v + 1)) (z.2 3 7) 0 = 1 ∨ (min (z.2 3 (238 + 3 * p + 1)) (z.2 3 (238 + 3 * (z.2 3 (262 + 3 * v + 1)) + 1)) - max (z.2 3 (238 + 3 * p)) (z.2 3 (238 + 3 * (z.2 3 (262 + 3 * v + 1))))) < hourZ (z.2 3) p (z.2 3 (262 + 3 * v)) (z.2 3 (262 + 3 * v + 1)) (z.2 3 7))))) ∧ XR ow sh nn V' B z ∧ F36 B V V') := by
  obtain ⟨hB, how, hc, -⟩ := id hR
  have w0 := W.1.1
  have w1 := W.1.2.1
  have w2 := W.1.2.2.1
  have w7 := W.1.2.2.2.2.2.2.2.1
  have hwv := W.2.2.2.2.1 v hv.1 hv.2
  refine TC.intro [some (.ref B), some (.ref x), some (.int (iI p))] rfl ?_
  refine TGo.al1 dX0_canLearn_0 rfl ?_
  refine TGo.getI (t := 35) 1 1 hx.2.1 rfl fgX0_340_27 dX0_canLearn_1 rfl rfl rfl ?_
  refine TGo.toz _ (hx.2.2.1.2.1) ?_
  refine TGo.il2 dX0_canLearn_4 rfl ?_
  refine TGo.icmp_eq 55 dX0_canLearn_5 (by decide) (by omega) (fun h5 => ?_) (fun h5 => ?_)
  · refine TGo.ic0 dX0_canLearn_55 ?_
    refine TGo.zret dX0_canLearn_56 rfl (by first | exact Or.inl rfl | exact Or.inr rfl | exact bZ_or _ | assumption) ?_
    first
    | (exfalso; omega)
    | (refine ⟨_, rfl, rfl, rfl, ?_, hR, F36.rf⟩
       first
       | (rw [bZ_t (by omega)])
       | (rw [bZ_f (by omega)]))
  · refine TGo.al0 dX0_canLearn_8 rfl ?_
    refine TGo.al1 dX0_canLearn_9 rfl ?_
    refine TGo.getI (t := 35) 1 1 hx.2.1 rfl fgX0_340_27 dX0_canLearn_10 rfl rfl rfl ?_
    refine TGo.toz _ (hx.2.2.1.2.1) ?_
    refine TGo.al0 dX0_canLearn_13 rfl ?_
    refine TGo.cF (csV0 (y2 := mX0_year) (t := 8) 1 rfl (hB 0 (by decide)) rfl rfl dX0_canLearn_14 q827 q829 qs8 okX0_year npX0_year rfl rfl) (kX0_year hB hc) ?_
    refine TGo.cF (csV2 (y2 := mX0_isAlive) (t := 8) 4 rfl (hB 0 (by decide)) rfl rfl dX0_canLearn_17 q1455 q1457 qs17 okX0_isAlive npX0_isAlive rfl rfl) (kX0_isAlive hR W (by omega) (by omega)) ?_
    refine TGo.ifb_eq 55 dX0_canLearn_20 (by decide) (fun h20 => ?_) (fun h20 => ?_)
    · refine TGo.ic0 dX0_canLearn_55 ?_
      refine TGo.zret dX0_canLearn_56 rfl (by first | exact Or.inl rfl | exact Or.inr rfl | exact bZ_or _ | assumption) ?_
      first
      | (exfalso; omega)
      | (refine ⟨_, rfl, rfl, rfl, ?_, hR, F36.rf⟩
         first
         | (rw [bZ_t (by omega)])
         | (rw [bZ_f (by omega)]))
    · refine TGo.al0 dX0_canLearn_23 rfl ?_
      refine TGo.il2 dX0_canLearn_24 rfl ?_
      refine TGo.al0 dX0_canLearn_25 rfl ?_
      refine TGo.cF (csV0 (y2 := mX0_year) (t := 8) 1 rfl (hB 0 (by decide)) rfl rfl dX0_canLearn_26 q827 q829 qs8 okX0_year npX0_year rfl rfl) (kX0_year hB hc) ?_
      refine TGo.cF (csV2 (y2 := mX0_isAlive) (t := 8) 4 rfl (hB 0 (by decide)) rfl rfl dX0_canLearn_29 q1455 q1457 qs17 okX0_isAlive npX0_isAlive rfl rfl) (kX0_isAlive hR W (by omega) (by omega)) ?_
      refine TGo.ifb_eq 55 dX0_canLearn_32 (by decide) (fun h32 => ?_) (fun h32 => ?_)
      · refine TGo.ic0 dX0_canLearn_55 ?_
        refine TGo.zret dX0_canLearn_56 rfl (by first | exact Or.inl rfl | exact Or.inr rfl | exact bZ_or _ | assumption) ?_
        first
        | (exfalso; omega)
        | (refine ⟨_, rfl, rfl, rfl, ?_, hR, F36.rf⟩
           first
           | (rw [bZ_t (by omega)])
           | (rw [bZ_f (by omega)]))
      · refine TGo.al0 dX0_canLearn_35 rfl ?_
        refine TGo.il2 dX0_canLearn_36 rfl ?_
        refine TGo.al1 dX0_canLearn_37 rfl ?_
        refine TGo.getI (t := 35) 0 0 hx.2.1 rfl fgX0_204_27 dX0_canLearn_38 rfl rfl rfl ?_
        refine TGo.toz _ (hx.2.2.1.1) ?_
        refine TGo.al1 dX0_canLearn_41 rfl ?_
        refine TGo.getI (t := 35) 1 1 hx.2.1 rfl fgX0_340_27 dX0_canLearn_42 rfl rfl rfl ?_
        refine TGo.toz _ (hx.2.2.1.2.1) ?_
        refine TGo.al0 dX0_canLearn_45 rfl ?_
        refine TGo.cF (csV0 (y2 := mX0_year) (t := 8) 1 rfl (hB 0 (by decide)) rfl rfl dX0_canLearn_46 q827 q829 qs8 okX0_year npX0_year rfl rfl) (kX0_year hB hc) ?_
        refine TGo.cS (csV4 (y2 := mX0_isBarred) (t := 8) 212 rfl (hB 0 (by decide)) rfl rfl dX0_canLearn_49 q1439 q1441 qs16 okX0_isBarred npX0_isBarred rfl rfl) (kX0_isBarred hR W WL (by omega) (by omega) (by omega) (by omega)) (fun v49 V49 h49 => ?_)
        obtain ⟨rfl, hR49, hF49⟩ := h49
        obtain ⟨-, -, hc49, -⟩ := id hR49
        obtain ⟨ap, av, al, cp, cv, cl, gp, gv, gl, hne, ⟨hp1, hp2⟩, ⟨hv1, hv2⟩, hl1, hl2⟩ := id hR49.2.2.2.1
        have hx49 := hx.sc hF49 how
        have hPH : PeR ow sh V49 (gp (z.2 3 (262 + 3 * v + 1)).toNat) (z.2 3) (z.2 3 (262 + 3 * v + 1)) := by have q := hp2 (z.2 3 (262 + 3 * v + 1)).toNat (by omega); rw [Int.toNat_of_nonneg (by omega)] at q; exact q
        have hPp : PeR ow sh V49 (gp p.toNat) (z.2 3) p := by have q := hp2 p.toNat (by omega); rw [Int.toNat_of_nonneg (by omega)] at q; exact q
        have wH := W.2.2.2.1 (z.2 3 (262 + 3 * v + 1)) (by omega) (by omega)
        have wp := W.2.2.2.1 p (by omega) (by omega)
        refine TGo.ifb_eq 57 dX0_canLearn_52 (by decide) (fun h52 => ?_) (fun h52 => ?_)
        · refine TGo.al0 dX0_canLearn_57 rfl ?_
          refine TGo.getS (t := 8) 2 2 (B + 2) (hB 0 (by decide)) rfl fgX0_16_0 dX0_canLearn_58 rfl rfl rfl ?_
          refine TGo.getS (t := 9) 5 5 (B + 26) (hB 2 (by decide)) rfl fgX0_126_1 dX0_canLearn_61 rfl rfl rfl ?_
          refine TGo.al1 dX0_canLearn_64 rfl ?_
          refine TGo.getI (t := 35) 1 1 hx.2.1 rfl fgX0_340_27 dX0_canLearn_65 rfl rfl rfl ?_
          refine TGo.toz _ (hx49.2.2.1.2.1) ?_
          refine TGo.toz (((z.2 3 (262 + 3 * v + 1)).toNat : Nat) : Int) (Int.toNat_of_nonneg (by omega)).symm ?_
          refine TGo.cF (csV1 (y2 := mJ2_get) (t := 20) 3 rfl (hB 26 (by decide)) rfl rfl dX0_canLearn_68 q760 q761 q762 okJ2_get npJ2_get rfl rfl) (kJ2_get hp1.1 (k := (z.2 3 (262 + 3 * v + 1)).toNat) (by omega)) ?_
          refine TGo.castO (t := 19) dX0_canLearn_71 q779 hPH.2.1 rfl rfl (Or.inl rfl) ?_
          refine TGo.al0 dX0_canLearn_74 rfl ?_
          refine TGo.getS (t := 8) 2 2 (B + 2) (hB 0 (by decide)) rfl fgX0_16_0 dX0_canLearn_75 rfl rfl rfl ?_
          refine TGo.getS (t := 9) 5 5 (B + 26) (hB 2 (by decide)) rfl fgX0_126_1 dX0_canLearn_78 rfl rfl rfl ?_
          refine TGo.il2 dX0_canLearn_81 rfl ?_
          refine TGo.toz ((p.toNat : Nat) : Int) (Int.toNat_of_nonneg (by omega)).symm ?_
          refine TGo.cF (csV1 (y2 := mJ2_get) (t := 20) 3 rfl (hB 26 (by decide)) rfl rfl dX0_canLearn_82 q760 q761 q762 okJ2_get npJ2_get rfl rfl) (kJ2_get hp1.1 (k := p.toNat) (by omega)) ?_
          refine TGo.castO (t := 19) dX0_canLearn_85 q779 hPp.2.1 rfl rfl (Or.inl rfl) ?_
          refine TGo.cF (csV1 (y2 := mX11_together) (t := 19) 3 rfl hPH.2.1 rfl rfl dX0_canLearn_88 q1504 q1505 q1506 okX11_together npX11_together rfl rfl) (kX11_together hPH.2.1 hPp.2.1 hPH.2.2.1 hPp.2.2.1 hPH.2.2.2.1 hPp.2.2.2.1 (by omega) (by omega) (by omega) (by omega)) ?_
          refine TGo.al0 dX0_canLearn_91 rfl ?_
          refine TGo.il2 dX0_canLearn_92 rfl ?_
          refine TGo.al1 dX0_canLearn_93 rfl ?_
          refine TGo.getI (t := 35) 0 0 hx.2.1 rfl fgX0_204_27 dX0_canLearn_94 rfl rfl rfl ?_
          refine TGo.toz _ (hx49.2.2.1.1) ?_
          refine TGo.al1 dX0_canLearn_97 rfl ?_
          refine TGo.getI (t := 35) 1 1 hx.2.1 rfl fgX0_340_27 dX0_canLearn_98 rfl rfl rfl ?_
          refine TGo.toz _ (hx49.2.2.1.2.1) ?_
          refine TGo.al0 dX0_canLearn_101 rfl ?_
          refine TGo.cF (csV0 (y2 := mX0_year) (t := 8) 1 rfl (hB 0 (by decide)) rfl rfl dX0_canLearn_102 q827 q829 qs8 okX0_year npX0_year rfl rfl) (kX0_year hB hc49) ?_
          refine TGo.cS (csV4 (y2 := mX0_hours) (t := 8) 212 rfl (hB 0 (by decide)) rfl rfl dX0_canLearn_105 q1435 q1437 qs15 okX0_hours npX0_hours rfl rfl) (kX0_hours hR49 W WL (by omega) (by omega) (by omega) (by omega)) (fun v105 V105 h105 => ?_)
          obtain ⟨rfl, hR105, hF105⟩ := h105
          have hhr := hourZ_r (z.2 3) p (z.2 3 (262 + 3 * v)) (z.2 3 (262 + 3 * v + 1)) (z.2 3 7)
          refine TGo.icmp_lt 115 dX0_canLearn_108 (by decide) (by omega) (fun h108 => ?_) (fun h108 => ?_)
          · refine TGo.ic0 dX0_canLearn_115 ?_
            refine TGo.zret dX0_canLearn_116 rfl (by first | exact Or.inl rfl | exact Or.inr rfl | exact bZ_or _ | assumption) ?_
            first
            | (exfalso; omega)
            | (refine ⟨_, rfl, rfl, rfl, ?_, hR105, (hF49.tr hF105)⟩
               first
               | (rw [bZ_t (by omega)])
               | (rw [bZ_f (by omega)]))
          · refine TGo.ic1 dX0_canLearn_111 ?_
            refine TGo.goto 116 dX0_canLearn_112 (by decide) ?_
            refine TGo.zret dX0_canLearn_116 rfl (by first | exact Or.inl rfl | exact Or.inr rfl | exact bZ_or _ | assumption) ?_
            first
            | (exfalso; omega)
            | (refine ⟨_, rfl, rfl, rfl, ?_, hR105, (hF49.tr hF105)⟩
               first
               | (rw [bZ_t (by omega)])
               | (rw [bZ_f (by omega)]))
        · refine TGo.ic0 dX0_canLearn_55 ?_
          refine TGo.zret dX0_canLearn_56 rfl (by first | exact Or.inl rfl | exact Or.inr rfl | exact bZ_or _ | assumption) ?_
          first
          | (exfalso; omega)
          | (refine ⟨_, rfl, rfl, rfl, ?_, hR49, hF49⟩
             first
             | (rw [bZ_t (by omega)])
             | (rw [bZ_f (by omega)]))
set_option maxHeartbeats 4000000 in
theorem lX0_watched {E : ET} {sh : SHT} {nn : Nat × Nat} {B S A : Nat} {z : ZT} {kn : Int → Int} {sl : Int} {V0 : VT} (hB : XSh B sh) (hS : ScS sh S) (hA : ScS sh A) (W : RWZ (z.2 3)) (P : PlZ kn (fun i => z.2 3 (730 + i)) (z.2 3 5).toNat) (hsl : R32 sl) (K : ∀ V, Fr [A + 1, A + 2] V0 V → XC V B z ∧ ScV V S kn) : ∀ (n j : Nat) (V : VT) (x : Option Value), (z.2 3 5).toNat - j < n → j ≤ (z.2 3 5).toNat → Fr [A + 1, A + 2] V0 V → (ScV V A (lrZ kn (fun i => z.2 3 (730 + i)) sl (j)).1) → TGo E mX0_watched 3 17 [some (.ref B), some (.ref S), some (.int (iI sl)), some (.ref A), some (.int (iI (lrZ kn (fun i => z.2 3 (730 + i)) sl (j)).2.2)), some (.int (iI (lrZ kn (fun i => z.2 3 (730 + i)) sl (j)).2.1)), some (.int (iI (((j) : Nat) : Int))), x] [] sh nn V (fun o sh' nn' V' => o = .inl (some (.ref A)) ∧ sh' = sh ∧ nn' = nn ∧ Fr [A + 1, A + 2] V0 V' ∧ ScV V' A (lrZ kn (fun i => z.2 3 (730 + i)) sl ((z.2 3 5).toNat)).1) := by
  intro n
  induction n with
  | zero => intro j V x h; omega
  | succ n ih =>
    intro j V x hn hj hz hx
    obtain ⟨hc, hv⟩ := K V hz
    have w5 := W.1.2.2.2.2.2.1
    have hlr := lrZ_r (sl := sl) P j hj
    have hcj := fun (q : (j : Int) < z.2 3 5) => P.2 (j : Int) (by omega) (by omega)
    refine TGo.il dX0_watched_17 rfl ?_
    refine TGo.al0 dX0_watched_19 rfl ?_
    refine TGo.getS (t := 8) 2 2 (B + 2) (hB 0 (by decide)) rfl fgX0_16_0 dX0_watched_20 rfl rfl rfl ?_
    refine TGo.getI (t := 9) 9 9 (hB 2 (by decide)) rfl fgX0_321_1 dX0_watched_23 rfl rfl rfl ?_
    refine TGo.toz _ (hc.1.2.1.2.1) ?_
    refine TGo.icmp_ge 132 dX0_watched_26 (by decide) (by omega) (fun h26 => ?_) (fun h26 => ?_)
    · refine TGo.al3 dX0_watched_132 rfl ?_
      refine TGo.aret dX0_watched_133 rfl ?_
      have e : lrZ kn (fun i => z.2 3 (730 + i)) sl (z.2 3 5).toNat = (lrZ kn (fun i => z.2 3 (730 + i)) sl (j)) := by
        rcases Nat.eq_or_lt_of_le hj with q | q
        · rw [← q]
        · exact lrZ_stay (by omega) _ hj
      exact ⟨rfl, rfl, rfl, hz, by rw [e]; exact hx⟩
    · refine TGo.il dX0_watched_29 rfl ?_
      refine TGo.icm1 dX0_watched_31 ?_
      refine TGo.icmp_eq 132 dX0_watched_32 (by decide) (by omega) (fun h32 => ?_) (fun h32 => ?_)
      · refine TGo.al3 dX0_watched_132 rfl ?_
        refine TGo.aret dX0_watched_133 rfl ?_
        have e : lrZ kn (fun i => z.2 3 (730 + i)) sl (z.2 3 5).toNat = (lrZ kn (fun i => z.2 3 (730 + i)) sl (j)) := by
          rcases Nat.eq_or_lt_of_le hj with q | q
          · rw [← q]
          · exact lrZ_stay (by omega) _ hj
        exact ⟨rfl, rfl, rfl, hz, by rw [e]; exact hx⟩
      · have hcj := hcj (by omega)
        have hcj : 0 ≤ z.2 3 (730 + (j : Int)) ∧ z.2 3 (730 + (j : Int)) < 6 := by first | exact hcj | exact ⟨hcj.1, by have := hcj.2; omega⟩
        have hkr : cOK (kn (6 * (lrZ kn (fun i => z.2 3 (730 + i)) sl (j)).2.2 + z.2 3 (730 + (j : Int)))) := P.1 _ (by omega) (by omega)
        have hw1 := wZ_r hkr
        have hw2 := nZ_r hkr
        have hkr2 : -1 ≤ kn (6 * (lrZ kn (fun i => z.2 3 (730 + i)) sl (j)).2.2 + z.2 3 (730 + (j : Int))) ∧ kn (6 * (lrZ kn (fun i => z.2 3 (730 + i)) sl (j)).2.2 + z.2 3 (730 + (j : Int))) < 60 := hkr
        have e0 : ¬ (lrZ kn (fun i => z.2 3 (730 + i)) sl (j)).2.2 = -1 := by omega
        refine TGo.bip 6 dX0_watched_35 (by decide) ?_
        refine TGo.il dX0_watched_37 rfl ?_
        refine TGo.imul dX0_watched_39 ?_
        refine TGo.al0 dX0_watched_40 rfl ?_
        refine TGo.getS (t := 8) 2 2 (B + 2) (hB 0 (by decide)) rfl fgX0_16_0 dX0_watched_41 rfl rfl rfl ?_
        refine TGo.getS (t := 9) 2 2 (B + 23) (hB 2 (by decide)) rfl fgX0_324_1 dX0_watched_44 rfl rfl rfl ?_
        refine TGo.il dX0_watched_47 rfl ?_
        refine TGo.iald dX0_watched_49 (hB 23 (by decide)) (by omega) rfl ?_
        refine TGo.toz _ (hc.1.2.2.2.1 _ (by omega) (by omega)) ?_
        refine TGo.iadd dX0_watched_50 ?_
        refine TGo.toz (6 * (lrZ kn (fun i => z.2 3 (730 + i)) sl (j)).2.2 + z.2 3 (730 + (j : Int))) (by omega) ?_
        refine TGo.is dX0_watched_51 rfl rfl ?_
        refine TGo.al1 dX0_watched_53 rfl ?_
        refine TGo.il dX0_watched_54 rfl ?_
        refine TGo.cF (csV1 (y2 := mX2_next) (t := 10) 2 rfl hS.1 rfl rfl dX0_watched_56 q740 q741 q742 okX2_next npX2_next rfl rfl) (kX2_next hS hv (by omega) hkr) ?_
        refine TGo.is dX0_watched_59 rfl rfl ?_
        refine TGo.al1 dX0_watched_61 rfl ?_
        refine TGo.il dX0_watched_62 rfl ?_
        refine TGo.cF (csV1 (y2 := mX2_isHole) (t := 10) 1 rfl hS.1 rfl rfl dX0_watched_64 q1518 q745 q746 okX2_isHole npX2_isHole rfl rfl) (kX2_isHole hS hv (by omega) hkr) ?_
        refine TGo.ifb_ne 126 dX0_watched_67 (by decide) (fun h67 => ?_) (fun h67 => ?_)
        · refine TGo.iinc dX0_watched_126 rfl rfl rfl ?_
          refine TGo.goto 17 dX0_watched_129 (by decide) ?_
          exact TGo.seq [some (.ref B), some (.ref S), some (.int (iI sl)), some (.ref A), some (.int (iI (lrZ kn (fun i => z.2 3 (730 + i)) sl ((j + 1))).2.2)), some (.int (iI (lrZ kn (fun i => z.2 3 (730 + i)) sl ((j + 1))).2.1)), some (.int (iI ((((j + 1)) : Nat) : Int))), _] [] _ (by rw [lrZ, if_neg e0]; first | (rw [if_pos ⟨by assumption, by assumption⟩]; rfl) | (rw [if_neg (fun q => by first | exact absurd (by assumption) q.1 | exact q.1 (by assumption) | exact absurd q.2 (by assumption))]; rfl)) rfl rfl (ih (j + 1) _ _ (by omega) (by omega) hz (by
            rw [lrZ, if_neg e0]
            first
            | (rw [if_neg (fun q => by first | exact absurd (by assumption) q.1 | exact q.1 (by assumption) | exact absurd q.2 (by assumption))]; exact hx)
            | (rw [if_pos ⟨by assumption, by assumption⟩]
               refine hx.says ?_ (fun _ => ?_)
               · unfold wZ
                 first
                 | (rw [if_pos (by assumption), if_neg (by omega)]; omega)
                 | (rw [if_neg (by assumption), if_neg (by omega)]; omega)
               · unfold nZ
                 first
                 | (rw [if_pos (by assumption), if_neg (by omega)]; omega)
                 | (rw [if_neg (by assumption), if_neg (by omega)]; omega))))
        · refine TGo.al3 dX0_watched_70 rfl ?_
          refine TGo.il dX0_watched_71 rfl ?_
          refine TGo.cF (csV1 (y2 := mX2_isHole) (t := 10) 1 rfl hA.1 rfl rfl dX0_watched_73 q1518 q745 q746 okX2_isHole npX2_isHole rfl rfl) (kX2_isHole hA hx (by omega) (hlr.1 _)) ?_
          refine TGo.ifb_ne 82 dX0_watched_76 (by decide) (fun h76 => ?_) (fun h76 => ?_)
          · have ek : wZ (kn (6 * (lrZ kn (fun i => z.2 3 (730 + i)) sl (j)).2.2 + z.2 3 (730 + (j : Int)))) = kn (6 * (lrZ kn (fun i => z.2 3 (730 + i)) sl (j)).2.2 + z.2 3 (730 + (j : Int))) / 6 ∧ nZ (kn (6 * (lrZ kn (fun i => z.2 3 (730 + i)) sl (j)).2.2 + z.2 3 (730 + (j : Int)))) = kn (6 * (lrZ kn (fun i => z.2 3 (730 + i)) sl (j)).2.2 + z.2 3 (730 + (j : Int))) % 6 := by unfold wZ nZ; rw [if_neg (by omega), if_neg (by omega)]; exact ⟨rfl, rfl⟩
            refine TGo.al3 dX0_watched_82 rfl ?_
            refine TGo.il dX0_watched_83 rfl ?_
            refine TGo.il dX0_watched_85 rfl ?_
            refine TGo.il2 dX0_watched_87 rfl ?_
            refine TGo.icmp_ne 106 dX0_watched_88 (by decide) (by omega) (fun h88 => ?_) (fun h88 => ?_)
            · refine TGo.al1 dX0_watched_106 rfl ?_
              refine TGo.getS (t := 10) 0 0 (S + 1) hS.1 rfl fgX0_187_2 dX0_watched_107 rfl rfl rfl ?_
              refine TGo.il dX0_watched_110 rfl ?_
              refine TGo.iald dX0_watched_112 hS.2.1 (by omega) rfl ?_
              refine TGo.toz _ ((hv _ (by omega) (by omega)).1) ?_
              refine TGo.al1 dX0_watched_113 rfl ?_
              refine TGo.getS (t := 10) 1 1 (S + 2) hS.1 rfl fgX0_361_2 dX0_watched_114 rfl rfl rfl ?_
              refine TGo.il dX0_watched_117 rfl ?_
              refine TGo.iald dX0_watched_119 hS.2.2 (by omega) rfl ?_
              refine TGo.toz _ (((hv _ (by omega) (by omega)).2 (by omega))) ?_
              refine TGo.cWn (csV3 (y2 := mX2_says) (t := 10) 1 rfl hA.1 rfl rfl dX0_watched_120 q725 q726 q727 okX2_says npX2_says rfl rfl) (kX2_says hA (by omega)) ?_
              
              refine TGo.iinc dX0_watched_123 rfl rfl rfl ?_
              refine TGo.iinc dX0_watched_126 rfl rfl rfl ?_
              refine TGo.goto 17 dX0_watched_129 (by decide) ?_
              exact TGo.seq [some (.ref B), some (.ref S), some (.int (iI sl)), some (.ref A), some (.int (iI (lrZ kn (fun i => z.2 3 (730 + i)) sl ((j + 1))).2.2)), some (.int (iI (lrZ kn (fun i => z.2 3 (730 + i)) sl ((j + 1))).2.1)), some (.int (iI ((((j + 1)) : Nat) : Int))), _] [] _ (by rw [lrZ, if_neg e0]; first | (rw [if_pos ⟨by assumption, by assumption⟩]; rfl) | (rw [if_neg (fun q => by first | exact absurd (by assumption) q.1 | exact q.1 (by assumption) | exact absurd q.2 (by assumption))]; rfl)) rfl rfl (ih (j + 1) _ _ (by omega) (by omega) ((hz.i (by simp)).i (by simp)) (by
                rw [lrZ, if_neg e0]
                first
                | (rw [if_neg (fun q => by first | exact absurd (by assumption) q.1 | exact q.1 (by assumption) | exact absurd q.2 (by assumption))]; exact hx)
                | (rw [if_pos ⟨by assumption, by assumption⟩]
                   refine hx.says ?_ (fun _ => ?_)
                   · unfold wZ
                     first
                     | (rw [if_pos (by assumption), if_neg (by omega)]; omega)
                     | (rw [if_neg (by assumption), if_neg (by omega)]; omega)
                   · unfold nZ
                     first
                     | (rw [if_pos (by assumption), if_neg (by omega)]; omega)
                     | (rw [if_neg (by assumption), if_neg (by omega)]; omega))))
            · refine TGo.al1 dX0_watched_91 rfl ?_
              refine TGo.getS (t := 10) 0 0 (S + 1) hS.1 rfl fgX0_187_2 dX0_watched_92 rfl rfl rfl ?_
              refine TGo.il dX0_watched_95 rfl ?_
              refine TGo.iald dX0_watched_97 hS.2.1 (by omega) rfl ?_
              refine TGo.toz _ ((hv _ (by omega) (by omega)).1) ?_
              refine TGo.ic1 dX0_watched_98 ?_
              refine TGo.iadd dX0_watched_99 ?_
              refine TGo.bip 10 dX0_watched_100 (by decide) ?_
              refine TGo.irem dX0_watched_102 (by omega) ?_
              refine TGo.goto 113 dX0_watched_103 (by decide) ?_
              refine TGo.al1 dX0_watched_113 rfl ?_
              refine TGo.getS (t := 10) 1 1 (S + 2) hS.1 rfl fgX0_361_2 dX0_watched_114 rfl rfl rfl ?_
              refine TGo.il dX0_watched_117 rfl ?_
              refine TGo.iald dX0_watched_119 hS.2.2 (by omega) rfl ?_
              refine TGo.toz _ (((hv _ (by omega) (by omega)).2 (by omega))) ?_
              refine TGo.cWn (csV3 (y2 := mX2_says) (t := 10) 1 rfl hA.1 rfl rfl dX0_watched_120 q725 q726 q727 okX2_says npX2_says rfl rfl) (kX2_says hA (by omega)) ?_
              
              refine TGo.iinc dX0_watched_123 rfl rfl rfl ?_
              refine TGo.iinc dX0_watched_126 rfl rfl rfl ?_
              refine TGo.goto 17 dX0_watched_129 (by decide) ?_
              exact TGo.seq [some (.ref B), some (.ref S), some (.int (iI sl)), some (.ref A), some (.int (iI (lrZ kn (fun i => z.2 3 (730 + i)) sl ((j + 1))).2.2)), some (.int (iI (lrZ kn (fun i => z.2 3 (730 + i)) sl ((j + 1))).2.1)), some (.int (iI ((((j + 1)) : Nat) : Int))), _] [] _ (by rw [lrZ, if_neg e0]; first | (rw [if_pos ⟨by assumption, by assumption⟩]; rfl) | (rw [if_neg (fun q => by first | exact absurd (by assumption) q.1 | exact q.1 (by assumption) | exact absurd q.2 (by assumption))]; rfl)) rfl rfl (ih (j + 1) _ _ (by omega) (by omega) ((hz.i (by simp)).i (by simp)) (by
                rw [lrZ, if_neg e0]
                first
                | (rw [if_neg (fun q => by first | exact absurd (by assumption) q.1 | exact q.1 (by assumption) | exact absurd q.2 (by assumption))]; exact hx)
                | (rw [if_pos ⟨by assumption, by assumption⟩]
                   refine hx.says ?_ (fun _ => ?_)
                   · unfold wZ
                     first
                     | (rw [if_pos (by assumption), if_neg (by omega)]; omega)
                     | (rw [if_neg (by assumption), if_neg (by omega)]; omega)
                   · unfold nZ
                     first
                     | (rw [if_pos (by assumption), if_neg (by omega)]; omega)
                     | (rw [if_neg (by assumption), if_neg (by omega)]; omega))))
          · refine TGo.goto 126 dX0_watched_79 (by decide) ?_
            refine TGo.iinc dX0_watched_126 rfl rfl rfl ?_
            refine TGo.goto 17 dX0_watched_129 (by decide) ?_
            exact TGo.seq [some (.ref B), some (.ref S), some (.int (iI sl)), some (.ref A), some (.int (iI (lrZ kn (fun i => z.2 3 (730 + i)) sl ((j + 1))).2.2)), some (.int (iI (lrZ kn (fun i => z.2 3 (730 + i)) sl ((j + 1))).2.1)), some (.int (iI ((((j + 1)) : Nat) : Int))), _] [] _ (by rw [lrZ, if_neg e0]; first | (rw [if_pos ⟨by assumption, by assumption⟩]; rfl) | (rw [if_neg (fun q => by first | exact absurd (by assumption) q.1 | exact q.1 (by assumption) | exact absurd q.2 (by assumption))]; rfl)) rfl rfl (ih (j + 1) _ _ (by omega) (by omega) hz (by
              rw [lrZ, if_neg e0]
              first
              | (rw [if_neg (fun q => by first | exact absurd (by assumption) q.1 | exact q.1 (by assumption) | exact absurd q.2 (by assumption))]; exact hx)
              | (rw [if_pos ⟨by assumption, by assumption⟩]
                 refine hx.says ?_ (fun _ => ?_)
                 · unfold wZ
                   first
                   | (rw [if_pos (by assumption), if_neg (by omega)]; omega)
                   | (rw [if_neg (by assumption), if_neg (by omega)]; omega)
                 · unfold nZ
                   first
                   | (rw [if_pos (by assumption), if_neg (by omega)]; omega)
                   | (rw [if_neg (by assumption), if_neg (by omega)]; omega))))
set_option maxHeartbeats 4000000 in
theorem kX0_watched {E : ET} {sh : SHT} {nn : Nat × Nat} {V : VT} {B S : Nat} {z : ZT} {kn : Int → Int} {sl : Int} (hB : XSh B sh) (hc : XC V B z) (W : RWZ (z.2 3)) (hS : ScS sh S) (hv : ScV V S kn) (P : PlZ kn (fun i => z.2 3 (730 + i)) (z.2 3 5).toNat) (hsl : R32 sl) : TC E mX0_watched 3 [.ref B, .ref S, .int (iI sl)] sh nn V (fun o sh' nn' V' => o = .inl (some (.ref nn.1)) ∧ ScS sh' nn.1 ∧ GrV nn sh sh' V V' ∧ (nn'.1 = nn.1 + 3 ∧ nn'.2 = nn.2 + 74) ∧ ScV V' nn.1 (lrZ kn (fun i => z.2 3 (730 + i)) sl ((z.2 3 5).toNat)).1) := by
  refine TGo.known (fun kn2 => ?_)
  have k0 := kn2 S (by rw [hS.1]; decide)
  have k1 := kn2 (S + 1) (by rw [hS.2.1]; decide)
  have k2 := kn2 (S + 2) (by rw [hS.2.2]; decide)
  have kB : ∀ i, xOk i = true → B + i < nn.1 := fun i hi => kn2 _ (by rw [hB i hi]; exact (xNz hi).2.1)
  refine TC.intro [some (.ref B), some (.ref S), some (.int (iI sl)), none, none, none, none, none] rfl ?_
  refine TGo.new (ci := 2) (N := 2) nwX0_48 dX0_watched_0 rfl rfl (fun z0 e0 => ?_)
  refine TGo.dup dX0_watched_3 rfl ?_
  refine TGo.callG (csI0 (y2 := mX2_init) 2 rfl dX0_watched_4 q381 q173 rfl rfl okX2_init npX2_init rfl rfl) (kX2_init (va_up_self _ _ _) rfl) (fun o4 sh4 nn4 V4 e4 h4 => ?_)
  obtain ⟨rfl, ⟨hSA, hs4⟩, hn4, hv4, hg4⟩ := h4
  have hG4 : GrV nn sh sh4 V V4 := fun a ha => ⟨(hs4 a (by omega) (by omega) (by omega)).trans (va_up_ne _ _ (by omega)), hv4 a (by omega) (by omega) (by omega)⟩
  show TGo _ _ _ _ _ _ _ _ _ _
  refine TGo.as3 dX0_watched_7 rfl rfl ?_
  refine TGo.ic0 dX0_watched_8 ?_
  refine TGo.is dX0_watched_9 rfl rfl ?_
  refine TGo.ic0 dX0_watched_11 ?_
  refine TGo.is dX0_watched_12 rfl rfl ?_
  refine TGo.ic0 dX0_watched_14 ?_
  refine TGo.is dX0_watched_15 rfl rfl ?_
  have hB4 : XSh B sh4 := fun i hi => (hG4 _ (kB i hi)).1.trans (hB i hi)
  have hS4 : ScS sh4 S := ⟨(hG4 _ k0).1.trans hS.1, (hG4 _ k1).1.trans hS.2.1, (hG4 _ k2).1.trans hS.2.2⟩
  have hok : ∀ j, j < 69 → ¬ (26 ≤ j ∧ j ≤ 31) → xOk j = true := by decide
  refine (lX0_watched (A := nn.1) (V0 := V4) hB4 hS4 hSA W P hsl (fun V' hf => ⟨hc.fr (fun i hi h => ?_), fun r r0 r1 => ?_⟩) ((z.2 3 5).toNat + 1) 0 _ _ (by omega) (by omega) Fr.rf hg4).mono ?_
  · have q := kB i (hok i hi h)
    have q2 := hG4 _ q
    exact ⟨(hf.1 _ (by simp; omega)).trans q2.2.1, by rw [hf.2]; exact q2.2.2.2⟩
  · rw [hf.1 _ (show S + 1 ∉ [nn.1 + 1, nn.1 + 2] by simp; omega), hf.1 _ (show S + 2 ∉ [nn.1 + 1, nn.1 + 2] by simp; omega), (hG4 _ k1).2.1, (hG4 _ k2).2.1]; exact hv r r0 r1
  · rintro o sh' nn' V' ⟨rfl, rfl, rfl, hf, hg⟩
    exact ⟨rfl, hSA, hG4.tr (n1 := nn) (fun a ha => ⟨rfl, hf.1 _ (by simp; omega), by rw [hf.2], by rw [hf.2]⟩) (Nat.le_refl _), ⟨hn4.1, by rw [hn4.2]⟩, hg⟩
set_option maxHeartbeats 4000000 in
theorem kX0_learn {E : ET} {sh : SHT} {nn : Nat × Nat} {V : VT} {B : Nat} {ow : Nat → Nat} {z : ZT} {v p sl : Int} (hR : XR ow sh nn V B z) (W : RWZ (z.2 3)) (WL : LawsZ (z.2 3)) (rv : R32 v) (rp : R32 p) (rsl : R32 sl) : TC E mX0_learn 214 [.ref B, .int (iI v), .int (iI p), .int (iI sl)] sh nn V (XP B nn (zp_learn z v p sl)) := by
  obtain ⟨hB, -, hc, -⟩ := id hR
  have w0 := W.1.1
  have w1 := W.1.2.1
  have w2 := W.1.2.2.1
  have w5 := W.1.2.2.2.2.2.1
  have w7 := W.1.2.2.2.2.2.2.2.1
  have how := hR.2.1
  obtain ⟨ap, av, al, cp, cv, cl, gp, gv, gl, hne, ⟨hp1, hp2⟩, ⟨hv1, hv2⟩, hl1, hl2⟩ := id hR.2.2.2.1
  refine TC.intro [some (.ref B), some (.int (iI v)), some (.int (iI p)), some (.int (iI sl)), none] rfl ?_
  refine TGo.il3 dX0_learn_0 rfl ?_
  refine TGo.icm1 dX0_learn_1 ?_
  refine TGo.icmp_ge 11 dX0_learn_2 (by decide) (by omega) (fun h2 => ?_) (fun h2 => ?_)
  · refine TGo.al0 dX0_learn_11 rfl ?_
    refine TGo.il1 dX0_learn_12 rfl ?_
    refine TGo.cF (csV1 (y2 := mX0_isVersion) (t := 8) 2 rfl (hB 0 (by decide)) rfl rfl dX0_learn_13 q1496 q1498 qs19 okX0_isVersion npX0_isVersion rfl rfl) (kX0_isVersion hR W (by omega)) ?_
    refine TGo.ifb_eq 27 dX0_learn_16 (by decide) (fun h16 => ?_) (fun h16 => ?_)
    · refine TGo.al0 dX0_learn_27 rfl ?_
      refine TGo.bip (-2) dX0_learn_28 (by decide) ?_
      refine TGo.cS (csV1 (y2 := mX0_refuse) (t := 8) 1 rfl (hB 0 (by decide)) rfl rfl dX0_learn_30 q601 q603 qs1 okX0_refuse npX0_refuse rfl rfl) (kX0_refuse hB hc (by omega)) (fun v30 V30 h30 => ?_)
      obtain ⟨rfl, hc30, hf30⟩ := h30
      refine TGo.iret dX0_learn_33 rfl ?_
      first
      | (exfalso; omega)
      | (refine hR.leaf W (FrX.rf.tr hf30) hc30 ((zTell_2 rfl).trans rfl) ((zTell_2 rfl).trans rfl) (StA.rf.tell) ?_
         unfold zp_learn
         (repeat (first | rw [if_pos (by first | rfl | assumption | omega)] | rw [if_neg (by first | decide | assumption | omega)]))
         (try first | rfl))
    · refine TGo.al0 dX0_learn_19 rfl ?_
      refine TGo.il2 dX0_learn_20 rfl ?_
      refine TGo.cF (csV1 (y2 := mX0_isPerson) (t := 8) 2 rfl (hB 0 (by decide)) rfl rfl dX0_learn_21 q815 q817 qs7 okX0_isPerson npX0_isPerson rfl rfl) (kX0_isPerson hR W (by omega)) ?_
      refine TGo.ifb_ne 34 dX0_learn_24 (by decide) (fun h24 => ?_) (fun h24 => ?_)
      · refine TGo.al0 dX0_learn_34 rfl ?_
        refine TGo.getS (t := 8) 2 2 (B + 2) (hB 0 (by decide)) rfl fgX0_16_0 dX0_learn_35 rfl rfl rfl ?_
        refine TGo.getS (t := 9) 6 6 (B + 28) (hB 2 (by decide)) rfl fgX0_136_1 dX0_learn_38 rfl rfl rfl ?_
        refine TGo.il1 dX0_learn_41 rfl ?_
        refine TGo.toz ((v.toNat : Nat) : Int) (Int.toNat_of_nonneg (by omega)).symm ?_
        refine TGo.cF (csV1 (y2 := mJ2_get) (t := 20) 3 rfl (hB 28 (by decide)) rfl rfl dX0_learn_42 q760 q761 q762 okJ2_get npJ2_get rfl rfl) (kJ2_get hv1.1 (k := v.toNat) (by omega)) ?_
        have hx : VeR ow sh V (gv v.toNat) (z.2 3) v := by
          have q := hv2 v.toNat (by omega)
          rw [Int.toNat_of_nonneg (by omega)] at q
          exact q
        have hwv := W.2.2.2.2.1 v (by omega) (by omega)
        refine TGo.castO (t := 35) dX0_learn_45 q774 hx.2.1 rfl rfl (Or.inl rfl) ?_
        refine TGo.as dX0_learn_48 rfl rfl ?_
        refine TGo.al0 dX0_learn_50 rfl ?_
        refine TGo.al dX0_learn_51 rfl ?_
        refine TGo.il2 dX0_learn_53 rfl ?_
        refine TGo.cS (csV2 (y2 := mX0_canLearn) (t := 8) 213 rfl (hB 0 (by decide)) rfl rfl dX0_learn_54 q1500 q1502 qs20 okX0_canLearn npX0_canLearn rfl rfl) (kX0_canLearn hR W WL hx (by omega) (by omega)) (fun v54 V54 h54 => ?_)
        obtain ⟨rfl, hR54, hF54⟩ := h54
        obtain ⟨-, -, hc54, -⟩ := id hR54
        obtain ⟨ap, av, al, cp, cv, cl, gp, gv2, gl, hne, ⟨hp1, hp2⟩, ⟨hv1, hv2⟩, hl1, hl2⟩ := id hR54.2.2.2.1
        have hx54 := hx.sc hF54 how
        refine TGo.ifb_ne 67 dX0_learn_57 (by decide) (fun h57 => ?_) (fun h57 => ?_)
        · refine TGo.al0 dX0_learn_67 rfl ?_
          refine TGo.getS (t := 8) 2 2 (B + 2) (hB 0 (by decide)) rfl fgX0_16_0 dX0_learn_68 rfl rfl rfl ?_
          refine TGo.getS (t := 9) 6 6 (B + 28) (hB 2 (by decide)) rfl fgX0_136_1 dX0_learn_71 rfl rfl rfl ?_
          refine TGo.cF (csV0 (y2 := mJ2_size) (t := 20) 1 rfl (hB 28 (by decide)) rfl rfl dX0_learn_74 q756 q757 q758 okJ2_size npJ2_size rfl rfl) (kJ2_size hv1.1) ?_
          refine TGo.toz (z.2 3 2) (Int.toNat_of_nonneg (by omega)) ?_
          refine TGo.bip 12 dX0_learn_77 (by decide) ?_
          refine TGo.icmp_ne 91 dX0_learn_79 (by decide) (by omega) (fun h79 => ?_) (fun h79 => ?_)
          · obtain ⟨v0, v1, v2, S, v3, v4, v5, v6⟩ := id hx54
            have hPL : PlZ (fun r => z.2 3 (298 + 36 * v + r)) (fun i => z.2 3 (730 + i)) (z.2 3 5).toNat := ⟨fun r r0 r1 => W.2.2.2.2.2.1 v r (by omega) (by omega) r0 r1, fun k k0 k1 => W.2.2.2.2.2.2.1 k k0 (by omega)⟩
            refine TGo.al0 dX0_learn_91 rfl ?_
            refine TGo.al dX0_learn_92 rfl ?_
            refine TGo.getI (t := 35) 0 0 hx.2.1 rfl fgX0_204_27 dX0_learn_94 rfl rfl rfl ?_
            refine TGo.toz _ (hx54.2.2.1.1) ?_
            refine TGo.il2 dX0_learn_97 rfl ?_
            refine TGo.il1 dX0_learn_98 rfl ?_
            refine TGo.al0 dX0_learn_99 rfl ?_
            refine TGo.al dX0_learn_100 rfl ?_
            refine TGo.getQ (t := 35) 3 3 S hx.2.1 rfl fgX0_145_27 dX0_learn_102 rfl ⟨rfl, v3⟩ rfl ?_
            refine TGo.il3 dX0_learn_105 rfl ?_
            refine TGo.callG (csV2 (y2 := mX0_watched) (t := 8) 3 rfl (hB 0 (by decide)) rfl rfl dX0_learn_106 q1514 q1516 qs21 okX0_watched npX0_watched rfl rfl) (kX0_watched (nn := nn) hB hc54 W v5 v6 hPL (by omega)) (fun o106 sh106 nn106 V106 e106 h106 => ?_)
            obtain ⟨rfl, hSc, hGc, hnc, hvc⟩ := h106
            have hR106 := (hR54.alloc (nn' := nn106) hGc (by omega)).frz [nn.1, nn.1 + 1, nn.1 + 2] (fun b hb => by
              simp only [List.mem_cons, List.not_mem_nil, or_false] at hb
              exact ⟨Classical.byContradiction (fun q => by have := hR54.2.2.2.2.2 b q; omega), by omega⟩)
            obtain ⟨hB106, -, -, -⟩ := id hR106
            show TGo _ _ _ _ _ _ _ _ _ _
            refine TGo.callG (csV4 (y2 := mX0_adds) (t := 8) 8 rfl (hB106 0 (by decide)) rfl rfl dX0_learn_109 q1466 q1468 qs18 okX0_adds npX0_adds rfl rfl) (kX0_adds (R := (zc (z.2 3) (298 + 36 * z.2 3 2) 36 (lrZ (fun r => z.2 3 (298 + 36 * v + r)) (fun i => z.2 3 (730 + i)) sl (z.2 3 5).toNat).1 0)) hR106 W (by omega) ⟨if_pos (by simp), if_pos (by simp), if_pos (by simp)⟩ hSc hvc (fun i hi => zc_out (by omega)) (fun r r0 r1 => (zc_in (by omega)).trans (congrArg _ (by omega)))) (fun o109 sh109 nn109 V109 e109 h109 => ?_)
            obtain ⟨rfl, hE, hb1, hb2⟩ := h109
            show TGo _ _ _ _ _ _ _ _ _ _
            refine TGo.iret dX0_learn_112 rfl ?_
            have e : zp_learn z v p sl = (z.2 3 2, zi (addZ (zA z 3 (zc (z.2 3) (298 + 36 * z.2 3 2) 36 (lrZ (fun r => z.2 3 (298 + 36 * v + r)) (fun i => z.2 3 (730 + i)) sl (z.2 3 5).toNat).1 0)) (z.2 3 (262 + 3 * v)) p v) 1 0) := by
              unfold zp_learn
              rw [if_neg (by omega), if_neg (by omega), if_neg (by omega), if_neg (by omega), zT0 (by omega)]
            rw [e]
            exact ⟨rfl, hE, ⟨by omega, by omega⟩, by omega, by omega⟩
          · refine TGo.al0 dX0_learn_82 rfl ?_
            refine TGo.bip (-5) dX0_learn_83 (by decide) ?_
            refine TGo.cS (csV1 (y2 := mX0_refuse) (t := 8) 1 rfl (hB 0 (by decide)) rfl rfl dX0_learn_85 q601 q603 qs1 okX0_refuse npX0_refuse rfl rfl) (kX0_refuse hB hc54 (by omega)) (fun v85 V85 h85 => ?_)
            obtain ⟨rfl, hc85, hf85⟩ := h85
            refine TGo.goto 112 dX0_learn_88 (by decide) ?_
            refine TGo.iret dX0_learn_112 rfl ?_
            first
            | (exfalso; omega)
            | (refine hR.leaf W ((FrX.rf.tr hF54.x).tr hf85) hc85 ((zTell_2 rfl).trans rfl) ((zTell_2 rfl).trans rfl) (StA.rf.tell) ?_
               unfold zp_learn
               (repeat (first | rw [if_pos (by first | rfl | assumption | omega)] | rw [if_neg (by first | decide | assumption | omega)]))
               (try first | rfl))
        · refine TGo.al0 dX0_learn_60 rfl ?_
          refine TGo.bip (-3) dX0_learn_61 (by decide) ?_
          refine TGo.cS (csV1 (y2 := mX0_refuse) (t := 8) 1 rfl (hB 0 (by decide)) rfl rfl dX0_learn_63 q601 q603 qs1 okX0_refuse npX0_refuse rfl rfl) (kX0_refuse hB hc54 (by omega)) (fun v63 V63 h63 => ?_)
          obtain ⟨rfl, hc63, hf63⟩ := h63
          refine TGo.iret dX0_learn_66 rfl ?_
          first
          | (exfalso; omega)
          | (refine hR.leaf W ((FrX.rf.tr hF54.x).tr hf63) hc63 ((zTell_2 rfl).trans rfl) ((zTell_2 rfl).trans rfl) (StA.rf.tell) ?_
             unfold zp_learn
             (repeat (first | rw [if_pos (by first | rfl | assumption | omega)] | rw [if_neg (by first | decide | assumption | omega)]))
             (try first | rfl))
      · refine TGo.al0 dX0_learn_27 rfl ?_
        refine TGo.bip (-2) dX0_learn_28 (by decide) ?_
        refine TGo.cS (csV1 (y2 := mX0_refuse) (t := 8) 1 rfl (hB 0 (by decide)) rfl rfl dX0_learn_30 q601 q603 qs1 okX0_refuse npX0_refuse rfl rfl) (kX0_refuse hB hc (by omega)) (fun v30 V30 h30 => ?_)
        obtain ⟨rfl, hc30, hf30⟩ := h30
        refine TGo.iret dX0_learn_33 rfl ?_
        first
        | (exfalso; omega)
        | (refine hR.leaf W (FrX.rf.tr hf30) hc30 ((zTell_2 rfl).trans rfl) ((zTell_2 rfl).trans rfl) (StA.rf.tell) ?_
           unfold zp_learn
           (repeat (first | rw [if_pos (by first | rfl | assumption | omega)] | rw [if_neg (by first | decide | assumption | omega)]))
           (try first | rfl))
  · refine TGo.al0 dX0_learn_5 rfl ?_
    refine TGo.icm1 dX0_learn_6 ?_
    refine TGo.cS (csV1 (y2 := mX0_refuse) (t := 8) 1 rfl (hB 0 (by decide)) rfl rfl dX0_learn_7 q601 q603 qs1 okX0_refuse npX0_refuse rfl rfl) (kX0_refuse hB hc (by omega)) (fun v7 V7 h7 => ?_)
    obtain ⟨rfl, hc7, hf7⟩ := h7
    refine TGo.iret dX0_learn_10 rfl ?_
    first
    | (exfalso; omega)
    | (refine hR.leaf W (FrX.rf.tr hf7) hc7 ((zTell_2 rfl).trans rfl) ((zTell_2 rfl).trans rfl) (StA.rf.tell) ?_
       unfold zp_learn
       (repeat (first | rw [if_pos (by first | rfl | assumption | omega)] | rw [if_neg (by first | decide | assumption | omega)]))
       (try first | rfl))
