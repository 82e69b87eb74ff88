/-! X: least, would: its search -/
set_option maxRecDepth 100000
/-- the deeds' order goes by rows -/
theorem oiZ_rows {f : Int → Int} {r : Int} {S : (Int → Int) × Int} (h0 : 0 ≤ S.2) (h : ∀ i j, 0 ≤ i → i < j → j < S.2 → f (S.1 i) ≤ f (S.1 j)) (hr : ∀ i, 0 ≤ i → i < S.2 → f (S.1 i) ≤ r) : ∀ k : Nat, 0 ≤ (oiZ f r S k).2 ∧ (∀ i j, 0 ≤ i → i < j → j < (oiZ f r S k).2 → f ((oiZ f r S k).1 i) ≤ f ((oiZ f r S k).1 j)) ∧ ∀ i, 0 ≤ i → i < (oiZ f r S k).2 → f ((oiZ f r S k).1 i) ≤ r := by
  intro k
  induction k with
  | zero => exact ⟨h0, h, hr⟩
  | succ k ih =>
    obtain ⟨i1, i2, i3⟩ := ih
    rw [oiZ]
    split
    · rename_i e
      refine ⟨by show 0 ≤ (oiZ f r S k).2 + 1; omega, fun i j i0 ij j1 => ?_, fun i i0 i1' => ?_⟩
      · have j1 : j < (oiZ f r S k).2 + 1 := j1
        show f (zu _ _ _ i) ≤ f (zu _ _ _ j)
        rw [zu_n (show i ≠ (oiZ f r S k).2 by omega)]
        by_cases q : j = (oiZ f r S k).2
        · rw [q, zu_s, e]; exact i3 i i0 (by omega)
        · rw [zu_n q]; exact i2 i j i0 ij (by omega)
      · have i1' : i < (oiZ f r S k).2 + 1 := i1'
        show f (zu _ _ _ i) ≤ r
        by_cases q : i = (oiZ f r S k).2
        · rw [q, zu_s, e]; exact Int.le_refl _
        · rw [zu_n q]; exact i3 i i0 (by omega)
    · exact ⟨i1, i2, i3⟩
theorem oaZ_rows {f : Int → Int} {N : Nat} : ∀ r : Nat, 0 ≤ (oaZ f N r).2 ∧ (∀ i j, 0 ≤ i → i < j → j < (oaZ f N r).2 → f ((oaZ f N r).1 i) ≤ f ((oaZ f N r).1 j)) ∧ ∀ i, 0 ≤ i → i < (oaZ f N r).2 → f ((oaZ f N r).1 i) ≤ (r : Int) - 1 := by
  intro r
  induction r with
  | zero => exact ⟨Int.le_refl _, fun i j i0 ij j1 => by have j1 : j < 0 := j1; omega, fun i i0 i1 => by have i1 : i < 0 := i1; omega⟩
  | succ r ih =>
    obtain ⟨i1, i2, i3⟩ := ih
    obtain ⟨a1, a2, a3⟩ := oiZ_rows (r := (r : Int)) i1 i2 (fun i i0 i1 => by have := i3 i i0 i1; omega) N
    exact ⟨a1, a2, fun i i0 i1 => by
      have q := a3 i i0 i1
      show f ((oiZ f (r : Int) (oaZ f N r) N).1 i) ≤ ((r + 1 : Nat) : Int) - 1
      omega⟩
def RoS (f o : Int → Int) (n : Nat) : Prop := ∀ i j, 0 ≤ i → i < j → j < (n : Int) → f (o i) ≤ f (o j)
theorem odZ_rows {f : Int → Int} (W : RWZ f) : RoS f (odZ f) (f 6).toNat := fun i j i0 ij j1 => (oaZ_rows (f := f) (N := (f 6).toNat) 4).2.1 i j i0 ij (by have := (odZ_ok W).1; have := W.1.2.2.2.2.2.2.1; omega)
theorem s1Z_skip {f o : Int → Int} {n : Nat} {N S : Int → Int} {r1 : Int} {j : Nat} : ∀ m : Nat, j ≤ m → (∀ i : Int, (j : Int) ≤ i → i < (m : Int) → f (o i) ≠ r1) → s1Z f o n N S r1 m = s1Z f o n N S r1 j := by
  intro m
  induction m with
  | zero => intro h _; obtain rfl : j = 0 := by omega
            rfl
  | succ m ih =>
    intro h hn
    rcases Nat.eq_or_lt_of_le h with e | e
    · rw [e]
    · rw [s1Z, if_neg (fun q => hn (m : Int) (by omega) (by omega) q.1), ih (by omega) (fun i i0 i1 => hn i i0 (by omega))]
theorem or_asc : ∀ a : Nat, a < 1024 → ∀ k : Nat, k < 10 → True := fun _ _ _ _ => trivial
/-- bits, and bits ahead of them -/
theorem obZ_or (a w : Nat) (ha : a < 1024) (hw : w < 10) : obZ (a : Int) (w : Int) = ((a ||| 2 ^ w : Nat) : Int) := by
  have q := ((or_bit2 a ha).1 w hw).1
  unfold obZ
  have e2 : (a : Int) / ((2 ^ ((w : Int)).toNat : Nat) : Int) % 2 = ((a / 2 ^ w % 2 : Nat) : Int) := rfl
  rw [e2, q]
  by_cases e : a / 2 ^ w % 2 = 1
  · rw [if_pos e, if_pos (by rw [e]; rfl)]
  · rw [if_neg e, if_neg (by omega)]; rfl
theorem wbZ_or {W : Int → Int} {cu s1 : Int} (hcu : 0 ≤ cu ∧ cu < 6) (hW : ∀ i, 0 ≤ i → i < 18 → -1 ≤ W i ∧ W i ≤ 9) {b : Nat} (hb : b < 1024) : ∀ s : Nat, s ≤ 3 → ∃ x : Nat, x < 1024 ∧ wbZ W cu s1 0 s = (x : Int) ∧ wbZ W cu s1 (b : Int) s = ((b ||| x : Nat) : Int) := by
  intro s
  induction s with
  | zero => intro _; exact ⟨0, by omega, rfl, by rw [Nat.or_zero]; rfl⟩
  | succ s ih =>
    intro hs
    obtain ⟨x, x0, x1, x2⟩ := ih (by omega)
    have hw := hW (6 * (s : Int) + cu) (by omega) (by omega)
    rw [wbZ, wbZ]
    by_cases c1 : s1 ≠ -1 ∧ s1 ≠ (s : Int)
    · rw [if_pos c1, if_pos c1]; exact ⟨x, x0, x1, x2⟩
    · rw [if_neg c1, if_neg c1]
      by_cases c2 : W (6 * (s : Int) + cu) = -1
      · rw [if_pos c2, if_pos c2]
        exact ⟨1023, by omega, rfl, by rw [(or_bit2 b hb).2]; rfl⟩
      · rw [if_neg c2, if_neg c2, x1, x2]
        obtain ⟨w, ew⟩ : ∃ w : Nat, W (6 * (s : Int) + cu) = (w : Int) := ⟨(W (6 * (s : Int) + cu)).toNat, by omega⟩
        have hbx : b ||| x < 1024 := Nat.or_lt_two_pow (n := 10) hb x0
        rw [ew, obZ_or x w x0 (by omega), obZ_or (b ||| x) w hbx (by omega)]
        exact ⟨x ||| 2 ^ w, ((or_bit2 x x0).1 w (by omega)).2, rfl, by rw [Nat.or_assoc]⟩
theorem iI_or2 (a b : Nat) (ha : a < 1024) (hb : b < 1024) : iI (a : Int) ||| iI (b : Int) = iI ((a ||| b : Nat) : Int) := by
  rw [iI_nat, iI_nat, iI_nat, nI_or]
/-- X's search -/
def LeS (B : Nat) (V : VT) (n mo : Nat) (wt cu : Int) (o : Int → Int) : Prop := V.1 (B + 61) 3 = (n : Int) ∧ V.1 (B + 61) 5 = (mo : Int) ∧ V.1 (B + 61) 6 = wt ∧ V.1 (B + 61) 7 = cu ∧ ∀ i, 0 ≤ i → i < (n : Int) → 742 + 3 * V.1 (B + 62) i = o i
def LeW (B : Nat) (V : VT) (Wd N : Int → Int) : Prop := (∀ i, 0 ≤ i → i < 18 → V.1 (B + 63) i = Wd i) ∧ ∀ i, 0 ≤ i → i < 18 → V.1 (B + 64) i = N i
def LeA (B : Nat) (V : VT) (wt : Int) (A : Int × Int) : Prop := V.1 (B + 61) 4 = A.1 ∧ (wt ≠ -1 → V.1 (B + 61) 8 = A.2)
def FrN (B : Nat) (V V' : VT) : Prop := (∀ c, c ≠ B + 61 → c ≠ B + 63 → c ≠ B + 64 → V'.1 c = V.1 c) ∧ (∀ i, i ≠ 4 → i ≠ 8 → V'.1 (B + 61) i = V.1 (B + 61) i) ∧ V'.2 = V.2
theorem FrN.rf {B : Nat} {V : VT} : FrN B V V := ⟨fun _ _ _ _ => rfl, fun _ _ _ => rfl, rfl⟩
theorem FrN.tr {B : Nat} {V V1 V2 : VT} (h : FrN B V V1) (h2 : FrN B V1 V2) : FrN B V V2 := ⟨fun c a b d => (h2.1 c a b d).trans (h.1 c a b d), fun i a b => (h2.2.1 i a b).trans (h.2.1 i a b), h2.2.2.trans h.2.2⟩
theorem FrN.w {B : Nat} {V V' : VT} {a : Nat} {k v : Int} (h : FrN B V V') (ha : a = B + 63 ∨ a = B + 64) : FrN B V (vI V' a k v) := ⟨fun c c1 c2 c3 => (u2_a (by omega)).trans (h.1 c c1 c2 c3), fun i i1 i2 => (u2_n (Or.inl (by omega))).trans (h.2.1 i i1 i2), h.2.2⟩
theorem FrN.m {B : Nat} {V V' : VT} {k v : Int} (h : FrN B V V') (hk : k = 4 ∨ k = 8) : FrN B V (vI V' (B + 61) k v) := ⟨fun c c1 c2 c3 => (u2_a c1).trans (h.1 c c1 c2 c3), fun i i1 i2 => (u2_n (Or.inr (by omega))).trans (h.2.1 i i1 i2), h.2.2⟩
theorem FrN.s {B : Nat} {V V' : VT} (h : FrN B V V') : FrS B V V' := fun a ha => ⟨h.1 a (ha 61 (by omega)) (ha 63 (by omega)) (ha 64 (by omega)), by rw [h.2.2], by rw [h.2.2]⟩
theorem LeS.fr {B : Nat} {V V' : VT} {n mo : Nat} {wt cu : Int} {o : Int → Int} (h : LeS B V n mo wt cu o) (hf : FrN B V V') : LeS B V' n mo wt cu o := ⟨(hf.2.1 3 (by decide) (by decide)).trans h.1, (hf.2.1 5 (by decide) (by decide)).trans h.2.1, (hf.2.1 6 (by decide) (by decide)).trans h.2.2.1, (hf.2.1 7 (by decide) (by decide)).trans h.2.2.2.1, fun i i0 i1 => by rw [hf.1 (B + 62) (by omega) (by omega) (by omega)]; exact h.2.2.2.2 i i0 i1⟩
theorem LeW.a {B : Nat} {V : VT} {Wd N : Int → Int} {k v : Int} (h : LeW B V Wd N) : LeW B (vI V (B + 61) k v) Wd N := ⟨fun i i0 i1 => (u2_n (Or.inl (by omega))).trans (h.1 i i0 i1), fun i i0 i1 => (u2_n (Or.inl (by omega))).trans (h.2 i i0 i1)⟩
theorem LeW.w {B : Nat} {V : VT} {Wd N : Int → Int} {k v : Int} (h : LeW B V Wd N) : LeW B (vI V (B + 63) k v) (zu Wd k v) N := ⟨fun i i0 i1 => by
  by_cases e : i = k
  · rw [e, zu_s]; exact u2_s
  · rw [zu_n e]; exact (u2_n (Or.inr e)).trans (h.1 i i0 i1), fun i i0 i1 => (u2_n (Or.inl (by omega))).trans (h.2 i i0 i1)⟩
theorem LeW.n {B : Nat} {V : VT} {Wd N : Int → Int} {k v : Int} (h : LeW B V Wd N) : LeW B (vI V (B + 64) k v) Wd (zu N k v) := ⟨fun i i0 i1 => (u2_n (Or.inl (by omega))).trans (h.1 i i0 i1), fun i i0 i1 => by
  by_cases e : i = k
  · rw [e, zu_s]; exact u2_s
  · rw [zu_n e]; exact (u2_n (Or.inr e)).trans (h.2 i i0 i1)⟩
theorem LeW.c {B : Nat} {V : VT} {Wd N Wd' N' : Int → Int} (h : LeW B V Wd N) (h1 : ∀ i, 0 ≤ i → i < 18 → Wd' i = Wd i) (h2 : ∀ i, 0 ≤ i → i < 18 → N' i = N i) : LeW B V Wd' N' := ⟨fun i i0 i1 => (h.1 i i0 i1).trans (h1 i i0 i1).symm, fun i i0 i1 => (h.2 i i0 i1).trans (h2 i i0 i1).symm⟩
theorem LeA.o {B : Nat} {V : VT} {wt : Int} {A : Int × Int} {a : Nat} {k v : Int} (h : LeA B V wt A) (ha : a = B + 63 ∨ a = B + 64) : LeA B (vI V a k v) wt A := ⟨(u2_n (Or.inl (by omega))).trans h.1, fun q => (u2_n (Or.inl (by omega))).trans (h.2 q)⟩
/-- the states so far -/
def SoK (f o : Int → Int) (n mo k : Nat) (N S : Int → Int) : Prop := S 0 = 0 ∧ (∀ i : Int, 0 ≤ i → i ≤ (k : Int) → 0 ≤ S i ∧ S i < (mo : Int)) ∧ ∀ i : Int, 0 ≤ i → i < (k : Int) → (laL f o n i → S (i + 1) = 0) ∧ (¬ laL f o n i → S (i + 1) = N (6 * S i + f (o i + 1)))
abbrev ABx (A : Int × Int) : Prop := 0 ≤ A.1 ∧ 0 ≤ A.2 ∧ A.2 < 1024
theorem ABx.b {A : Int × Int} (h : ABx A) : AB A.1 A := ⟨⟨h.1, Int.le_refl _⟩, h.2⟩
theorem AB.x {A : Int × Int} {B : Int} (h : AB B A) : ABx A := ⟨h.1.1, h.2⟩
set_option maxHeartbeats 4000000 in
theorem kX9_rowOf {E : ET} {sh : SHT} {nn : Nat × Nat} {V : VT} {B n1 mo : Nat} {z : ZT} {wt cu : Int} {o : Int → Int} {k : Int} (hB : XSh B sh) (hc : XC V B z) (hn12 : n1 ≤ 12) (hof : OF (z.2 3) o n1) (hle : LeS B V n1 mo wt cu o) (hk : 0 ≤ k ∧ k ≤ (n1 : Int)) : TF E mX9_rowOf 1 [.ref (B + 61), .int (iI k)] sh nn V (.int (iI (if k < (n1 : Int) then z.2 3 (o k) else 4))) := by
  refine TC.intro [some (.ref (B + 61)), some (.int (iI k))] rfl ?_
  refine TGo.il1 dX9_rowOf_0 rfl ?_
  refine TGo.al0 dX9_rowOf_1 rfl ?_
  refine TGo.getI (t := 17) 3 3 (hB 61 (by decide)) rfl fgX9_25_9 dX9_rowOf_2 rfl rfl rfl ?_
  refine TGo.toz _ (hle.1) ?_
  refine TGo.icmp_ge 30 dX9_rowOf_5 (by decide) (by omega) (fun h5 => ?_) (fun h5 => ?_)
  · refine TGo.ic4 dX9_rowOf_30 ?_
    refine TGo.iret dX9_rowOf_31 rfl ?_
    refine leafF ?_
    first | (rw [if_pos (by assumption)]) | (rw [if_neg (by omega)])
  · obtain ⟨d, hdx⟩ : ∃ d, V.1 (B + 62) k = d := ⟨_, rfl⟩
    have hod := hle.2.2.2.2 k (by omega) (by omega)
    rw [hdx] at hod
    have hok := hof k (by omega) (by omega)
    refine TGo.al0 dX9_rowOf_8 rfl ?_
    refine TGo.getS (t := 17) 9 9 B (hB 61 (by decide)) rfl fgX9_3_9 dX9_rowOf_9 rfl rfl rfl ?_
    refine TGo.getS (t := 8) 2 2 (B + 2) (hB 0 (by decide)) rfl fgX9_29_0 dX9_rowOf_12 rfl rfl rfl ?_
    refine TGo.getS (t := 9) 3 3 (B + 24) (hB 2 (by decide)) rfl fgX9_38_1 dX9_rowOf_15 rfl rfl rfl ?_
    refine TGo.ic3 dX9_rowOf_18 ?_
    refine TGo.al0 dX9_rowOf_19 rfl ?_
    refine TGo.getS (t := 17) 0 0 (B + 62) (hB 61 (by decide)) rfl fgX9_15_9 dX9_rowOf_20 rfl rfl rfl ?_
    refine TGo.il1 dX9_rowOf_23 rfl ?_
    refine TGo.iald dX9_rowOf_24 (hB 62 (by decide)) (by omega) rfl ?_
    refine TGo.toz _ (hdx) ?_
    refine TGo.imul dX9_rowOf_25 ?_
    refine TGo.iald dX9_rowOf_26 (hB 24 (by decide)) (by omega) rfl ?_
    refine TGo.toz _ (hc.1.2.2.2.2.1 _ (by omega) (by omega)) ?_
    refine TGo.toz (z.2 3 (o k)) (congrArg _ (by omega)) ?_
    refine TGo.goto 31 dX9_rowOf_27 (by decide) ?_
    refine TGo.iret dX9_rowOf_31 rfl ?_
    refine leafF ?_
    first | (rw [if_pos (by assumption)]) | (rw [if_neg (by omega)])
set_option maxHeartbeats 4000000 in
theorem jX9_wouldBe {E : ET} {sh : SHT} {nn : Nat × Nat} {V : VT} {B : Nat} {n1 mo : Nat} {z : ZT} {wt cu r1 : Int} {o Wd N S : Int → Int} (hz : XSh B sh) (hc : XC V B z) (hn12 : n1 ≤ 12) (hof : OF (z.2 3) o n1) (hle : LeS B V n1 mo wt cu o) (hcu : 0 ≤ cu ∧ cu < 6) (hmo : 1 ≤ (mo : Int) ∧ (mo : Int) ≤ 3) (hrg : RGZ Wd N (mo : Int)) (hlw : LeW B V Wd N) (hs1 : -1 ≤ (s1Z (z.2 3) o n1 N S r1 n1) ∧ (s1Z (z.2 3) o n1 N S r1 n1) < (mo : Int)) : ∀ (n j : Nat), mo - j < n → j ≤ mo → TGo E mX9_wouldBe 2 71 [some (.ref (B + 61)), some (.int (iI (s1Z (z.2 3) o n1 N S r1 n1))), some (.int (iI (wbZ Wd cu (s1Z (z.2 3) o n1 N S r1 n1) 0 (j)))), some (.int (iI (((j) : Nat) : Int)))] [] sh nn V (fun ao sh' nn' V' => ao = .inl (some (.int (iI ((wbZ Wd cu (s1Z (z.2 3) o n1 N S r1 n1) 0 (mo)))))) ∧ sh' = sh ∧ nn' = nn ∧ V' = V) := by
  intro n
  induction n with
  | zero => intro j h; omega
  | succ n ih =>
    intro j hn hj
    have hwb := wbZ_in (s1 := (s1Z (z.2 3) o n1 N S r1 n1)) hcu hrg.1 (b := 0) (by decide) j (by omega)
    have hwj := fun (q : (j : Int) < (mo : Int)) => hrg.1 (6 * (j : Int) + cu) (by omega) (by omega)
    refine TGo.il3 dX9_wouldBe_71 rfl ?_
    refine TGo.al0 dX9_wouldBe_72 rfl ?_
    refine TGo.getI (t := 17) 5 5 (hz 61 (by decide)) rfl fgX9_47_9 dX9_wouldBe_73 rfl rfl rfl ?_
    refine TGo.toz _ (hle.2.1) ?_
    refine TGo.icmp_ge 138 dX9_wouldBe_76 (by decide) (by omega) (fun h76 => ?_) (fun h76 => ?_)
    · refine TGo.il2 dX9_wouldBe_138 rfl ?_
      refine TGo.iret dX9_wouldBe_139 rfl ?_
      obtain rfl : j = mo := by omega
      exact ⟨rfl, rfl, rfl, rfl⟩
    · refine TGo.il1 dX9_wouldBe_79 rfl ?_
      refine TGo.icm1 dX9_wouldBe_80 ?_
      refine TGo.icmp_eq 89 dX9_wouldBe_81 (by decide) (by omega) (fun h81 => ?_) (fun h81 => ?_)
      · have hwj := hwj (by omega)
        have hob := fun (q : 0 ≤ Wd (6 * (j : Int) + cu)) => (iI_ob (a := (wbZ Wd cu (s1Z (z.2 3) o n1 N S r1 n1) 0 (j))) (k := Wd (6 * (j : Int) + cu)) hwb (by omega)).1
        refine TGo.il2 dX9_wouldBe_89 rfl ?_
        refine TGo.al0 dX9_wouldBe_90 rfl ?_
        refine TGo.getS (t := 17) 1 1 (B + 63) (hz 61 (by decide)) rfl fgX9_19_9 dX9_wouldBe_91 rfl rfl rfl ?_
        refine TGo.bip 6 dX9_wouldBe_94 (by decide) ?_
        refine TGo.il3 dX9_wouldBe_96 rfl ?_
        refine TGo.imul dX9_wouldBe_97 ?_
        refine TGo.al0 dX9_wouldBe_98 rfl ?_
        refine TGo.getI (t := 17) 7 7 (hz 61 (by decide)) rfl fgX9_44_9 dX9_wouldBe_99 rfl rfl rfl ?_
        refine TGo.toz _ (hle.2.2.2.1) ?_
        refine TGo.iadd dX9_wouldBe_102 ?_
        refine TGo.iald dX9_wouldBe_103 (hz 63 (by decide)) (by omega) rfl ?_
        refine TGo.toz _ ((hlw.1 _ (by omega) (by omega))) ?_
        refine TGo.icm1 dX9_wouldBe_104 ?_
        refine TGo.icmp_ne 114 dX9_wouldBe_105 (by decide) (by omega) (fun h105 => ?_) (fun h105 => ?_)
        · refine TGo.ic1 dX9_wouldBe_114 ?_
          refine TGo.al0 dX9_wouldBe_115 rfl ?_
          refine TGo.getS (t := 17) 1 1 (B + 63) (hz 61 (by decide)) rfl fgX9_19_9 dX9_wouldBe_116 rfl rfl rfl ?_
          refine TGo.bip 6 dX9_wouldBe_119 (by decide) ?_
          refine TGo.il3 dX9_wouldBe_121 rfl ?_
          refine TGo.imul dX9_wouldBe_122 ?_
          refine TGo.al0 dX9_wouldBe_123 rfl ?_
          refine TGo.getI (t := 17) 7 7 (hz 61 (by decide)) rfl fgX9_44_9 dX9_wouldBe_124 rfl rfl rfl ?_
          refine TGo.toz _ (hle.2.2.2.1) ?_
          refine TGo.iadd dX9_wouldBe_127 ?_
          refine TGo.iald dX9_wouldBe_128 (hz 63 (by decide)) (by omega) rfl ?_
          refine TGo.toz _ ((hlw.1 _ (by omega) (by omega))) ?_
          refine TGo.ishl dX9_wouldBe_129 ?_
          refine TGo.ior dX9_wouldBe_130 ?_
          first | (refine TGo.tos (iI 1023) (iI_oa hwb) ?_) | (refine TGo.tos _ (hob (by omega)) ?_)
          refine TGo.is2 dX9_wouldBe_131 rfl rfl ?_
          refine TGo.iinc dX9_wouldBe_132 rfl rfl rfl ?_
          refine TGo.goto 71 dX9_wouldBe_135 (by decide) ?_
          first | (exfalso; omega) | exact TGo.seq [some (.ref (B + 61)), some (.int (iI (s1Z (z.2 3) o n1 N S r1 n1))), some (.int (iI (wbZ Wd cu (s1Z (z.2 3) o n1 N S r1 n1) 0 ((j + 1))))), some (.int (iI ((((j + 1)) : Nat) : Int)))] [] _ (by rw [wbZ]; first | (rw [if_pos (by omega)]; rfl) | (rw [if_neg (by omega)]; first | (rw [if_pos (by assumption)]; rfl) | (rw [if_neg (by assumption)]; rfl))) rfl rfl (ih (j + 1) (by omega) (by omega))
        · refine TGo.sip 1023 dX9_wouldBe_108 (by decide) ?_
          refine TGo.goto 130 dX9_wouldBe_111 (by decide) ?_
          refine TGo.ior dX9_wouldBe_130 ?_
          first | (refine TGo.tos (iI 1023) (iI_oa hwb) ?_) | (refine TGo.tos _ (hob (by omega)) ?_)
          refine TGo.is2 dX9_wouldBe_131 rfl rfl ?_
          refine TGo.iinc dX9_wouldBe_132 rfl rfl rfl ?_
          refine TGo.goto 71 dX9_wouldBe_135 (by decide) ?_
          first | (exfalso; omega) | exact TGo.seq [some (.ref (B + 61)), some (.int (iI (s1Z (z.2 3) o n1 N S r1 n1))), some (.int (iI (wbZ Wd cu (s1Z (z.2 3) o n1 N S r1 n1) 0 ((j + 1))))), some (.int (iI ((((j + 1)) : Nat) : Int)))] [] _ (by rw [wbZ]; first | (rw [if_pos (by omega)]; rfl) | (rw [if_neg (by omega)]; first | (rw [if_pos (by assumption)]; rfl) | (rw [if_neg (by assumption)]; rfl))) rfl rfl (ih (j + 1) (by omega) (by omega))
      · refine TGo.il1 dX9_wouldBe_84 rfl ?_
        refine TGo.il3 dX9_wouldBe_85 rfl ?_
        refine TGo.icmp_ne 132 dX9_wouldBe_86 (by decide) (by omega) (fun h86 => ?_) (fun h86 => ?_)
        · refine TGo.iinc dX9_wouldBe_132 rfl rfl rfl ?_
          refine TGo.goto 71 dX9_wouldBe_135 (by decide) ?_
          first | (exfalso; omega) | exact TGo.seq [some (.ref (B + 61)), some (.int (iI (s1Z (z.2 3) o n1 N S r1 n1))), some (.int (iI (wbZ Wd cu (s1Z (z.2 3) o n1 N S r1 n1) 0 ((j + 1))))), some (.int (iI ((((j + 1)) : Nat) : Int)))] [] _ (by rw [wbZ]; first | (rw [if_pos (by omega)]; rfl) | (rw [if_neg (by omega)]; first | (rw [if_pos (by assumption)]; rfl) | (rw [if_neg (by assumption)]; rfl))) rfl rfl (ih (j + 1) (by omega) (by omega))
        · have hwj := hwj (by omega)
          have hob := fun (q : 0 ≤ Wd (6 * (j : Int) + cu)) => (iI_ob (a := (wbZ Wd cu (s1Z (z.2 3) o n1 N S r1 n1) 0 (j))) (k := Wd (6 * (j : Int) + cu)) hwb (by omega)).1
          refine TGo.il2 dX9_wouldBe_89 rfl ?_
          refine TGo.al0 dX9_wouldBe_90 rfl ?_
          refine TGo.getS (t := 17) 1 1 (B + 63) (hz 61 (by decide)) rfl fgX9_19_9 dX9_wouldBe_91 rfl rfl rfl ?_
          refine TGo.bip 6 dX9_wouldBe_94 (by decide) ?_
          refine TGo.il3 dX9_wouldBe_96 rfl ?_
          refine TGo.imul dX9_wouldBe_97 ?_
          refine TGo.al0 dX9_wouldBe_98 rfl ?_
          refine TGo.getI (t := 17) 7 7 (hz 61 (by decide)) rfl fgX9_44_9 dX9_wouldBe_99 rfl rfl rfl ?_
          refine TGo.toz _ (hle.2.2.2.1) ?_
          refine TGo.iadd dX9_wouldBe_102 ?_
          refine TGo.iald dX9_wouldBe_103 (hz 63 (by decide)) (by omega) rfl ?_
          refine TGo.toz _ ((hlw.1 _ (by omega) (by omega))) ?_
          refine TGo.icm1 dX9_wouldBe_104 ?_
          refine TGo.icmp_ne 114 dX9_wouldBe_105 (by decide) (by omega) (fun h105 => ?_) (fun h105 => ?_)
          · refine TGo.ic1 dX9_wouldBe_114 ?_
            refine TGo.al0 dX9_wouldBe_115 rfl ?_
            refine TGo.getS (t := 17) 1 1 (B + 63) (hz 61 (by decide)) rfl fgX9_19_9 dX9_wouldBe_116 rfl rfl rfl ?_
            refine TGo.bip 6 dX9_wouldBe_119 (by decide) ?_
            refine TGo.il3 dX9_wouldBe_121 rfl ?_
            refine TGo.imul dX9_wouldBe_122 ?_
            refine TGo.al0 dX9_wouldBe_123 rfl ?_
            refine TGo.getI (t := 17) 7 7 (hz 61 (by decide)) rfl fgX9_44_9 dX9_wouldBe_124 rfl rfl rfl ?_
            refine TGo.toz _ (hle.2.2.2.1) ?_
            refine TGo.iadd dX9_wouldBe_127 ?_
            refine TGo.iald dX9_wouldBe_128 (hz 63 (by decide)) (by omega) rfl ?_
            refine TGo.toz _ ((hlw.1 _ (by omega) (by omega))) ?_
            refine TGo.ishl dX9_wouldBe_129 ?_
            refine TGo.ior dX9_wouldBe_130 ?_
            first | (refine TGo.tos (iI 1023) (iI_oa hwb) ?_) | (refine TGo.tos _ (hob (by omega)) ?_)
            refine TGo.is2 dX9_wouldBe_131 rfl rfl ?_
            refine TGo.iinc dX9_wouldBe_132 rfl rfl rfl ?_
            refine TGo.goto 71 dX9_wouldBe_135 (by decide) ?_
            first | (exfalso; omega) | exact TGo.seq [some (.ref (B + 61)), some (.int (iI (s1Z (z.2 3) o n1 N S r1 n1))), some (.int (iI (wbZ Wd cu (s1Z (z.2 3) o n1 N S r1 n1) 0 ((j + 1))))), some (.int (iI ((((j + 1)) : Nat) : Int)))] [] _ (by rw [wbZ]; first | (rw [if_pos (by omega)]; rfl) | (rw [if_neg (by omega)]; first | (rw [if_pos (by assumption)]; rfl) | (rw [if_neg (by assumption)]; rfl))) rfl rfl (ih (j + 1) (by omega) (by omega))
          · refine TGo.sip 1023 dX9_wouldBe_108 (by decide) ?_
            refine TGo.goto 130 dX9_wouldBe_111 (by decide) ?_
            refine TGo.ior dX9_wouldBe_130 ?_
            first | (refine TGo.tos (iI 1023) (iI_oa hwb) ?_) | (refine TGo.tos _ (hob (by omega)) ?_)
            refine TGo.is2 dX9_wouldBe_131 rfl rfl ?_
            refine TGo.iinc dX9_wouldBe_132 rfl rfl rfl ?_
            refine TGo.goto 71 dX9_wouldBe_135 (by decide) ?_
            first | (exfalso; omega) | exact TGo.seq [some (.ref (B + 61)), some (.int (iI (s1Z (z.2 3) o n1 N S r1 n1))), some (.int (iI (wbZ Wd cu (s1Z (z.2 3) o n1 N S r1 n1) 0 ((j + 1))))), some (.int (iI ((((j + 1)) : Nat) : Int)))] [] _ (by rw [wbZ]; first | (rw [if_pos (by omega)]; rfl) | (rw [if_neg (by omega)]; first | (rw [if_pos (by assumption)]; rfl) | (rw [if_neg (by assumption)]; rfl))) rfl rfl (ih (j + 1) (by omega) (by omega))
set_option maxHeartbeats 4000000 in
theorem lX9_wouldBe {E : ET} {sh : SHT} {nn : Nat × Nat} {B : Nat} {V0 : VT} {n1 mo : Nat} {z : ZT} {wt cu r1 : Int} {o Wd N S : Int → Int} (hB : XSh B sh) (hc : XC V0 B z) (hn12 : n1 ≤ 12) (hof : OF (z.2 3) o n1) (hle : LeS B V0 n1 mo wt cu o) (hcu : 0 ≤ cu ∧ cu < 6) (hmo : 1 ≤ (mo : Int) ∧ (mo : Int) ≤ 3) (hrg : RGZ Wd N (mo : Int)) (hlw : LeW B V0 Wd N) (hwt : wt = r1) (hr1 : 0 ≤ r1 ∧ r1 < 4) (hso : SoK (z.2 3) o n1 mo n1 N S) (hro : RoS (z.2 3) o n1) (hs1 : -1 ≤ (s1Z (z.2 3) o n1 N S r1 n1) ∧ (s1Z (z.2 3) o n1 N S r1 n1) < (mo : Int)) : ∀ (n j : Nat) (V : VT) (v : Int), n1 - j < n → j ≤ n1 → V0 = V → (((((j : Int)) < (n1 : Int) → z.2 3 (o ((j : Int))) = r1 → v = S ((j : Int))) ∧ ((∀ i : Int, ((j : Int)) ≤ i → i < (n1 : Int) → z.2 3 (o i) ≠ r1) → v = (s1Z (z.2 3) o n1 N S r1 n1)) ∧ ((∃ i : Int, ((j : Int)) ≤ i ∧ i < (n1 : Int) ∧ z.2 3 (o i) = r1) → (((j : Int)) < (n1 : Int) → z.2 3 (o ((j : Int))) ≠ r1) → v = 0)) ∧ -1 ≤ v ∧ v < (mo : Int)) → TGo E mX9_wouldBe 2 4 [some (.ref (B + 61)), some (.int (iI v)), some (.int (iI (((j) : Nat) : Int))), none] [] sh nn V (fun ao sh' nn' V' => ao = .inl (some (.int (iI ((wbZ Wd cu (s1Z (z.2 3) o n1 N S r1 n1) 0 (mo)))))) ∧ sh' = sh ∧ nn' = nn ∧ V' = V0) := by
  intro n
  induction n with
  | zero => intro j V v h; omega
  | succ n ih =>
    intro j V v hn hj hz hx
    subst hz
    obtain ⟨hx, hv⟩ := hx
    refine TGo.il2 dX9_wouldBe_4 rfl ?_
    refine TGo.al0 dX9_wouldBe_5 rfl ?_
    refine TGo.getI (t := 17) 3 3 (hB 61 (by decide)) rfl fgX9_25_9 dX9_wouldBe_6 rfl rfl rfl ?_
    refine TGo.toz _ (hle.1) ?_
    refine TGo.icmp_ge 67 dX9_wouldBe_9 (by decide) (by omega) (fun h9 => ?_) (fun h9 => ?_)
    · have hfin : v = (s1Z (z.2 3) o n1 N S r1 n1) := by
        by_cases e : j = n1
        · exact hx.2.1 (fun i i0 i1 => by omega)
        · refine hx.2.1 (fun i i0 i1 q => ?_)
          have hv1 : v = -1 := by omega
          by_cases e2 : z.2 3 (o (j : Int)) = r1
          · have q1 := hx.1 (by omega) e2
            have q2 := hso.2.1 (j : Int) (by omega) (by omega)
            omega
          · have q1 := hx.2.2 ⟨i, i0, i1, q⟩ (fun _ => e2)
            omega
      rw [hfin]
      refine TGo.ic0 dX9_wouldBe_67 ?_
      refine TGo.is2 dX9_wouldBe_68 rfl rfl ?_
      refine TGo.ic0 dX9_wouldBe_69 ?_
      refine TGo.is3 dX9_wouldBe_70 rfl rfl ?_
      exact jX9_wouldBe hB hc hn12 hof hle hcu hmo hrg hlw hs1 (mo + 1) 0 (by omega) (by omega)
    · refine TGo.il1 dX9_wouldBe_12 rfl ?_
      refine TGo.icm1 dX9_wouldBe_13 ?_
      refine TGo.icmp_eq 67 dX9_wouldBe_14 (by decide) (by omega) (fun h14 => ?_) (fun h14 => ?_)
      · have hfin : v = (s1Z (z.2 3) o n1 N S r1 n1) := by
          by_cases e : j = n1
          · exact hx.2.1 (fun i i0 i1 => by omega)
          · refine hx.2.1 (fun i i0 i1 q => ?_)
            have hv1 : v = -1 := by omega
            by_cases e2 : z.2 3 (o (j : Int)) = r1
            · have q1 := hx.1 (by omega) e2
              have q2 := hso.2.1 (j : Int) (by omega) (by omega)
              omega
            · have q1 := hx.2.2 ⟨i, i0, i1, q⟩ (fun _ => e2)
              omega
        rw [hfin]
        refine TGo.ic0 dX9_wouldBe_67 ?_
        refine TGo.is2 dX9_wouldBe_68 rfl rfl ?_
        refine TGo.ic0 dX9_wouldBe_69 ?_
        refine TGo.is3 dX9_wouldBe_70 rfl rfl ?_
        exact jX9_wouldBe hB hc hn12 hof hle hcu hmo hrg hlw hs1 (mo + 1) 0 (by omega) (by omega)
      · have e0 : (if (j : Int) < (n1 : Int) then z.2 3 (o (j : Int)) else 4) = z.2 3 (o (j : Int)) := if_pos (by omega)
        obtain ⟨d, hdx⟩ : ∃ d, V0.1 (B + 62) (j : Int) = d := ⟨_, rfl⟩
        have hod := hle.2.2.2.2 (j : Int) (by omega) (by omega)
        rw [hdx] at hod
        have hok := hof (j : Int) (by omega) (by omega)
        refine TGo.al0 dX9_wouldBe_17 rfl ?_
        refine TGo.il2 dX9_wouldBe_18 rfl ?_
        refine TGo.cF (csV1 (y2 := mX9_rowOf) (t := 17) 1 rfl (hB 61 (by decide)) rfl rfl dX9_wouldBe_19 q1748 q1750 qs37 okX9_rowOf npX9_rowOf rfl rfl) (kX9_rowOf hB hc hn12 hof hle (by omega)) ?_
        refine TGo.toz (z.2 3 (o (j : Int))) e0 ?_
        refine TGo.al0 dX9_wouldBe_22 rfl ?_
        refine TGo.getI (t := 17) 6 6 (hB 61 (by decide)) rfl fgX9_41_9 dX9_wouldBe_23 rfl rfl rfl ?_
        refine TGo.toz _ (hle.2.2.1) ?_
        refine TGo.icmp_ne 61 dX9_wouldBe_26 (by decide) (by omega) (fun h26 => ?_) (fun h26 => ?_)
        · refine TGo.iinc dX9_wouldBe_61 rfl rfl rfl ?_
          refine TGo.goto 4 dX9_wouldBe_64 (by decide) ?_
          exact TGo.seq [some (.ref (B + 61)), some (.int (iI _)), some (.int (iI ((((j + 1)) : Nat) : Int))), none] [] _ (rfl) rfl rfl (ih (j + 1) _ v (by omega) (by omega) rfl ⟨(by
            have hj1 : (((j + 1 : Nat)) : Int) = (j : Int) + 1 := by omega
            rw [hj1]
            obtain ⟨x1, x2, x3⟩ := hx
            have e2 : z.2 3 (o (j : Int)) ≠ r1 := by omega
            refine ⟨fun q1 q2 => ?_, fun q => ?_, fun ⟨i, i0, i1, q⟩ q2 => ?_⟩
            · rw [x3 ⟨(j : Int) + 1, by omega, q1, q2⟩ (fun _ => e2)]
              exact ((hso.2.2 (j : Int) (by omega) (by omega)).1 (Or.inr (by omega))).symm
            · refine x2 (fun i i0 i1 => ?_)
              by_cases e3 : i = (j : Int)
              · rw [e3]; exact e2
              · exact q i (by omega) i1
            · exact x3 ⟨i, by omega, i1, q⟩ (fun _ => e2)), hv⟩)
        · refine TGo.al0 dX9_wouldBe_29 rfl ?_
          refine TGo.getS (t := 17) 2 2 (B + 64) (hB 61 (by decide)) rfl fgX9_22_9 dX9_wouldBe_30 rfl rfl rfl ?_
          refine TGo.bip 6 dX9_wouldBe_33 (by decide) ?_
          refine TGo.il1 dX9_wouldBe_35 rfl ?_
          refine TGo.imul dX9_wouldBe_36 ?_
          refine TGo.al0 dX9_wouldBe_37 rfl ?_
          refine TGo.getS (t := 17) 9 9 B (hB 61 (by decide)) rfl fgX9_3_9 dX9_wouldBe_38 rfl rfl rfl ?_
          refine TGo.getS (t := 8) 2 2 (B + 2) (hB 0 (by decide)) rfl fgX9_29_0 dX9_wouldBe_41 rfl rfl rfl ?_
          refine TGo.getS (t := 9) 3 3 (B + 24) (hB 2 (by decide)) rfl fgX9_38_1 dX9_wouldBe_44 rfl rfl rfl ?_
          refine TGo.ic3 dX9_wouldBe_47 ?_
          refine TGo.al0 dX9_wouldBe_48 rfl ?_
          refine TGo.getS (t := 17) 0 0 (B + 62) (hB 61 (by decide)) rfl fgX9_15_9 dX9_wouldBe_49 rfl rfl rfl ?_
          refine TGo.il2 dX9_wouldBe_52 rfl ?_
          refine TGo.iald dX9_wouldBe_53 (hB 62 (by decide)) (by omega) rfl ?_
          refine TGo.toz _ (hdx) ?_
          refine TGo.imul dX9_wouldBe_54 ?_
          refine TGo.ic1 dX9_wouldBe_55 ?_
          refine TGo.iadd dX9_wouldBe_56 ?_
          refine TGo.iald dX9_wouldBe_57 (hB 24 (by decide)) (by omega) rfl ?_
          refine TGo.toz _ (hc.1.2.2.2.2.1 _ (by omega) (by omega)) ?_
          refine TGo.toz (z.2 3 (o (j : Int) + 1)) (congrArg _ (by omega)) ?_
          refine TGo.iadd dX9_wouldBe_58 ?_
          refine TGo.iald dX9_wouldBe_59 (hB 64 (by decide)) (by omega) rfl ?_
          refine TGo.toz _ ((hlw.2 _ (by omega) (by omega))) ?_
          refine TGo.is1 dX9_wouldBe_60 rfl rfl ?_
          refine TGo.iinc dX9_wouldBe_61 rfl rfl rfl ?_
          refine TGo.goto 4 dX9_wouldBe_64 (by decide) ?_
          exact TGo.seq [some (.ref (B + 61)), some (.int (iI _)), some (.int (iI ((((j + 1)) : Nat) : Int))), none] [] _ (rfl) rfl rfl (ih (j + 1) _ (N (6 * v + z.2 3 (o (j : Int) + 1))) (by omega) (by omega) rfl ⟨(by
            have hj1 : (((j + 1 : Nat)) : Int) = (j : Int) + 1 := by omega
            rw [hj1]
            obtain ⟨x1, x2, x3⟩ := hx
            have e2 : z.2 3 (o (j : Int)) = r1 := by omega
            have hS := hso.2.2 (j : Int) (by omega) (by omega)
            have ev := x1 (by omega) e2
            rw [← ev] at hS
            refine ⟨fun q1 q2 => ?_, fun q => ?_, fun ⟨i, i0, i1, q⟩ q2 => ?_⟩
            · exact (hS.2 (fun w => by rcases w with w | w <;> omega)).symm
            · have es := s1Z_skip (f := z.2 3) (o := o) (n := n1) (N := N) (S := S) (r1 := r1) (j := j + 1) n1 (by omega) (fun i i0 i1 => q i (by omega) i1)
              have hla : laL (z.2 3) o n1 (j : Int) := by
                by_cases e : (j : Int) = (n1 : Int) - 1
                · exact Or.inl e
                · exact Or.inr (by have := q ((j : Int) + 1) (by omega) (by omega); omega)
              rw [es, s1Z, if_pos ⟨e2, hla⟩, ev]
            · exfalso
              by_cases e3 : i = (j : Int) + 1
              · exact q2 (by omega) (by rw [← e3]; exact q)
              · have h1 := hro (j : Int) ((j : Int) + 1) (by omega) (by omega) (by omega)
                have h2 := hro ((j : Int) + 1) i (by omega) (by omega) i1
                have h3 := q2 (by omega)
                omega), by have := hrg.2 (6 * v + z.2 3 (o (j : Int) + 1)) (by omega) (by omega); omega⟩)
set_option maxHeartbeats 4000000 in
theorem kX9_wouldBe {E : ET} {sh : SHT} {nn : Nat × Nat} {V : VT} {B n1 mo : Nat} {z : ZT} {wt cu r1 : Int} {o Wd N S : Int → Int} (hB : XSh B sh) (hc : XC V B z) (hn12 : n1 ≤ 12) (hof : OF (z.2 3) o n1) (hle : LeS B V n1 mo wt cu o) (hcu : 0 ≤ cu ∧ cu < 6) (hmo : 1 ≤ (mo : Int) ∧ (mo : Int) ≤ 3) (hrg : RGZ Wd N (mo : Int)) (hlw : LeW B V Wd N) (hwt : wt = r1) (hr1 : 0 ≤ r1 ∧ r1 < 4) (hso : SoK (z.2 3) o n1 mo n1 N S) (hro : RoS (z.2 3) o n1) (hs1 : -1 ≤ (s1Z (z.2 3) o n1 N S r1 n1) ∧ (s1Z (z.2 3) o n1 N S r1 n1) < (mo : Int)) : TF E mX9_wouldBe 2 [.ref (B + 61)] sh nn V (.int (iI (wbZ Wd cu (s1Z (z.2 3) o n1 N S r1 n1) 0 (mo)))) := by
  refine TC.intro [some (.ref (B + 61)), none, none, none] rfl ?_
  refine TGo.ic0 dX9_wouldBe_0 ?_
  refine TGo.is1 dX9_wouldBe_1 rfl rfl ?_
  refine TGo.ic0 dX9_wouldBe_2 ?_
  refine TGo.is2 dX9_wouldBe_3 rfl rfl ?_
  refine lX9_wouldBe hB hc hn12 hof hle hcu hmo hrg hlw hwt hr1 hso hro hs1 (n1 + 1) 0 V 0 (by omega) (by omega) rfl ⟨⟨fun _ _ => hso.1.symm, fun q => ?_, fun _ _ => rfl⟩, by omega⟩
  exact (s1Z_skip (j := 0) n1 (by omega) (fun i i0 i1 => q i i0 i1)).symm
def LsOK (E : ET) (r : Nat) : Prop := ∀ {sh : SHT} {nn : Nat × Nat} {V : VT} {B : Nat} {ow : Nat → Nat} {z : ZT} {n1 mo k : Nat} {wt cu r1 at0 met : Int} {o Wd N S : Int → Int} {A : Int × Int}, XR ow sh nn V B z → (RWZ (z.2 3)) → (z.2 3 6 = (n1 : Int)) → (n1 ≤ 12) → (OF (z.2 3) o n1) → (RoS (z.2 3) o n1) → (LeS B V n1 mo wt cu o) → (0 ≤ cu ∧ cu < 6) → (1 ≤ (mo : Int) ∧ (mo : Int) ≤ 3) → (0 ≤ r1 ∧ r1 < 4) → (wt = -1 ∨ wt = r1) → (RGZ Wd N (mo : Int)) → (k + r = n1) → (SoK (z.2 3) o n1 mo k N S) → (S (k : Int) = at0) → (1 ≤ met ∧ met ≤ (mo : Int)) → (LeW B V Wd N) → (LeA B V wt A) → (ABx A) → TN E mX9_tries (r + 3) [.ref (B + 61), .int (iI (k : Int)), .int (iI at0), .int (iI met)] sh nn V (fun V' => XR ow sh nn V' B z ∧ FrN B V V' ∧ LeW B V' Wd N ∧ LeA B V' wt (lsT (z.2 3) o n1 mo r1 cu r k Wd N S met A))
theorem SoK.up {f o : Int → Int} {n mo k : Nat} {N S N' : Int → Int} {v at0 : Int} (h : SoK f o n mo k N S) (hat : S (k : Int) = at0) (hv : 0 ≤ v ∧ v < (mo : Int)) (hN : ∀ i : Int, 0 ≤ i → i < (k : Int) → ¬ laL f o n i → N' (6 * S i + f (o i + 1)) = N (6 * S i + f (o i + 1))) (h1 : laL f o n (k : Int) → v = 0) (h2 : ¬ laL f o n (k : Int) → v = N' (6 * at0 + f (o (k : Int) + 1))) : SoK f o n mo (k + 1) N' (zu S ((k : Int) + 1) v) := by
  obtain ⟨s1, s2, s3⟩ := h
  refine ⟨by rw [zu_n (by omega)]; exact s1, fun i i0 i1 => ?_, fun i i0 i1 => ?_⟩
  · by_cases e : i = (k : Int) + 1
    · rw [e, zu_s]; exact hv
    · rw [zu_n e]; exact s2 i i0 (by omega)
  · rw [zu_n (show i ≠ (k : Int) + 1 by omega)]
    by_cases e : i = (k : Int)
    · rw [e, zu_s, hat]; exact ⟨h1, h2⟩
    · rw [zu_n (show i + 1 ≠ (k : Int) + 1 by omega)]
      obtain ⟨a1, a2⟩ := s3 i i0 (by omega)
      exact ⟨a1, fun q => (a2 q).trans (hN i i0 (by omega) q).symm⟩
theorem lgZ_f {f o : Int → Int} {n mo : Nat} {r1 cu : Int} {r k : Nat} {W N S : Int → Int} {met at0 t : Int} {A : Int × Int} (hat : S (k : Int) = at0) (hf : fnL f o n N S k) : lgZ f o n mo r1 cu r k W N S met t A = lsT f o n mo r1 cu r (k + 1) (zu W (6 * at0 + f (o (k : Int) + 1)) (f (o (k : Int) + 2))) (zu N (6 * at0 + f (o (k : Int) + 1)) t) (zu S ((k : Int) + 1) t) (if t = met then met + 1 else met) A := by
  subst hat
  unfold lgZ nnL
  rw [if_pos hf, if_neg hf.2, zu_s]
  by_cases e : t = met
  · rw [if_pos ⟨hf, e⟩, if_pos e]
  · rw [if_neg (fun q => e q.2), if_neg e]
theorem lgZ_n {f o : Int → Int} {n mo : Nat} {r1 cu : Int} {r k : Nat} {W N S : Int → Int} {met at0 t : Int} {A : Int × Int} (hat : S (k : Int) = at0) (hf : ¬ fnL f o n N S k) : lgZ f o n mo r1 cu r k W N S met t A = lsT f o n mo r1 cu r (k + 1) (zu W (6 * at0 + f (o (k : Int) + 1)) (f (o (k : Int) + 2))) N (zu S ((k : Int) + 1) (if laL f o n (k : Int) then 0 else N (6 * at0 + f (o (k : Int) + 1)))) met A := by
  subst hat
  unfold lgZ nnL
  rw [if_neg hf, if_neg (show ¬ (fnL f o n N S k ∧ t = met) from fun q => hf q.1)]
theorem lsT_s {f o : Int → Int} {n mo : Nat} {r1 cu : Int} {r k : Nat} {W N S : Int → Int} {met : Int} {A : Int × Int} (h : ¬ cnL f o W S k) : lsT f o n mo r1 cu (r + 1) k W N S met A = fdZ (lgZ f o n mo r1 cu r k W N S met) (tyL (fnL f o n N S k) met mo).toNat A := if_neg h
set_option maxHeartbeats 4000000 in
theorem lX9_tries {E : ET} {sh : SHT} {nn : Nat × Nat} {B : Nat} {ow : Nat → Nat} {z : ZT} {V0 : VT} {n1 mo k r : Nat} {wt cu r1 at0 met : Int} {o Wd N S : Int → Int} {A : Int × Int} (W : RWZ (z.2 3)) (hn1 : z.2 3 6 = (n1 : Int)) (hn12 : n1 ≤ 12) (hof : OF (z.2 3) o n1) (hro : RoS (z.2 3) o n1) (hle0 : LeS B V0 n1 mo wt cu o) (hcu : 0 ≤ cu ∧ cu < 6) (hmo : 1 ≤ (mo : Int) ∧ (mo : Int) ≤ 3) (hr1 : 0 ≤ r1 ∧ r1 < 4) (hwt : wt = -1 ∨ wt = r1) (hrg : RGZ Wd N (mo : Int)) (hkr : k + (r + 1) = n1) (hso : SoK (z.2 3) o n1 mo k N S) (hat : S (k : Int) = at0) (hmet : 1 ≤ met ∧ met ≤ (mo : Int)) (hab : ABx A) (hfr : (fnL (z.2 3) o n1 N S k)) (REC : LsOK E r) : ∀ (n j : Nat) (V : VT), (tyL (fnL (z.2 3) o n1 N S k) met (mo : Int)).toNat - j < n → j ≤ (tyL (fnL (z.2 3) o n1 N S k) met (mo : Int)).toNat → XR ow sh nn V B z → (FrN B V0 V ∧ (∃ u, LeW B V (zu Wd (6 * at0 + z.2 3 (o (k : Int) + 1)) (z.2 3 (o (k : Int) + 2))) (zu N (6 * at0 + z.2 3 (o (k : Int) + 1)) u)) ∧ LeA B V wt (fdZ (lgZ (z.2 3) o n1 mo r1 cu r k Wd N S met) (j) A)) → TGo E mX9_tries (r + 1 + 3) 182 [some (.ref (B + 61)), some (.int (iI (k : Int))), some (.int (iI at0)), some (.int (iI met)), some (.int (iI (6 * at0 + z.2 3 (o (k : Int) + 1)))), some (.int (iI (z.2 3 (o (k : Int) + 2)))), some (.int (iI (Wd (6 * at0 + z.2 3 (o (k : Int) + 1))))), some (.int (iI (((j) : Nat) : Int)))] [] sh nn V (fun ao sh' nn' V' => ao = .inl none ∧ sh' = sh ∧ nn' = nn ∧ XR ow sh nn V' B z ∧ FrN B V0 V' ∧ LeW B V' Wd N ∧ LeA B V' wt (fdZ (lgZ (z.2 3) o n1 mo r1 cu r k Wd N S met) (tyL (fnL (z.2 3) o n1 N S k) met (mo : Int)).toNat A)) := by
  intro n
  induction n with
  | zero => intro j V h; omega
  | succ n ih =>
    intro j V hn hj hz hx
    obtain ⟨hfn, ⟨u, hlw⟩, hla⟩ := hx
    obtain ⟨hB, how, hc, -⟩ := id hz
    have hle := hle0.fr hfn
    have w6 := W.1.2.2.2.2.2.2.1
    have hok := hof (k : Int) (by omega) (by omega)
    have hs0 := hso.2.1 (k : Int) (by omega) (Int.le_refl _)
    rw [hat] at hs0
    have hfr1 : N (6 * at0 + z.2 3 (o (k : Int) + 1)) = -1 := by have q := hfr.1; rw [hat] at q; exact q
    have hfr2 : ¬ laL (z.2 3) o n1 (k : Int) := hfr.2
    have hty : tyL (fnL (z.2 3) o n1 N S k) met (mo : Int) = if met < (mo : Int) then met + 1 else met := if_pos hfr
    have hty2 := ty_in (fr := (fnL (z.2 3) o n1 N S k)) hmet
    have hgs : (fdZ (lgZ (z.2 3) o n1 mo r1 cu r k Wd N S met) (j + 1) A) = lgZ (z.2 3) o n1 mo r1 cu r k Wd N S met (j : Int) (fdZ (lgZ (z.2 3) o n1 mo r1 cu r k Wd N S met) (j) A) := rfl
    have hgab := (lg_fd (A := A) (N := N) (S := S) (r1 := r1) hof (B := A.1) (show 1 ≤ mo ∧ mo ≤ 3 by omega) hcu (show k + r + 1 = n1 by omega) hrg.1 hmet hab.b j (by omega)).x
    refine TGo.il dX9_tries_182 rfl ?_
    refine TGo.il3 dX9_tries_184 rfl ?_
    refine TGo.icmp_gt 229 dX9_tries_185 (by decide) (by omega) (fun h185 => ?_) (fun h185 => ?_)
    · have he : j = (tyL (fnL (z.2 3) o n1 N S k) met (mo : Int)).toNat := by omega
      refine TGo.al0 dX9_tries_229 rfl ?_
      refine TGo.getS (t := 17) 2 2 (B + 64) (hB 61 (by decide)) rfl fgX9_22_9 dX9_tries_230 rfl rfl rfl ?_
      refine TGo.il dX9_tries_233 rfl ?_
      refine TGo.icm1 dX9_tries_235 ?_
      refine TGo.iast dX9_tries_236 (hB 64 (by decide)) (by omega) rfl ?_
      refine TGo.al0 dX9_tries_237 rfl ?_
      refine TGo.getS (t := 17) 1 1 (B + 63) (hB 61 (by decide)) rfl fgX9_19_9 dX9_tries_238 rfl rfl rfl ?_
      refine TGo.il dX9_tries_241 rfl ?_
      refine TGo.il dX9_tries_243 rfl ?_
      refine TGo.iast dX9_tries_245 (hB 63 (by decide)) (by omega) rfl ?_
      refine TGo.vret dX9_tries_246 rfl ?_
      refine ⟨rfl, rfl, rfl, hz.sc ((FrS.rf.i 64 (by omega)).i 63 (by omega)), (hfn.w (Or.inr rfl)).w (Or.inl rfl), (hlw.n.w).c (fun i i0 i1 => ?_) (fun i i0 i1 => ?_), by rw [← he]; exact (hla.o (Or.inr rfl)).o (Or.inl rfl)⟩
      · by_cases e : i = (6 * at0 + z.2 3 (o (k : Int) + 1))
        · rw [e, zu_s]
        · rw [zu_n e, zu_n e]
      · by_cases e : i = (6 * at0 + z.2 3 (o (k : Int) + 1))
        · rw [e, zu_s]; exact hfr1
        · rw [zu_n e, zu_n e]
    · refine TGo.il dX9_tries_188 rfl ?_
      refine TGo.al0 dX9_tries_190 rfl ?_
      refine TGo.getI (t := 17) 5 5 (hB 61 (by decide)) rfl fgX9_47_9 dX9_tries_191 rfl rfl rfl ?_
      refine TGo.toz _ (hle.2.1) ?_
      refine TGo.icmp_ge 229 dX9_tries_194 (by decide) (by omega) (fun h194 => ?_) (fun h194 => ?_)
      · have he : j = (tyL (fnL (z.2 3) o n1 N S k) met (mo : Int)).toNat := by omega
        refine TGo.al0 dX9_tries_229 rfl ?_
        refine TGo.getS (t := 17) 2 2 (B + 64) (hB 61 (by decide)) rfl fgX9_22_9 dX9_tries_230 rfl rfl rfl ?_
        refine TGo.il dX9_tries_233 rfl ?_
        refine TGo.icm1 dX9_tries_235 ?_
        refine TGo.iast dX9_tries_236 (hB 64 (by decide)) (by omega) rfl ?_
        refine TGo.al0 dX9_tries_237 rfl ?_
        refine TGo.getS (t := 17) 1 1 (B + 63) (hB 61 (by decide)) rfl fgX9_19_9 dX9_tries_238 rfl rfl rfl ?_
        refine TGo.il dX9_tries_241 rfl ?_
        refine TGo.il dX9_tries_243 rfl ?_
        refine TGo.iast dX9_tries_245 (hB 63 (by decide)) (by omega) rfl ?_
        refine TGo.vret dX9_tries_246 rfl ?_
        refine ⟨rfl, rfl, rfl, hz.sc ((FrS.rf.i 64 (by omega)).i 63 (by omega)), (hfn.w (Or.inr rfl)).w (Or.inl rfl), (hlw.n.w).c (fun i i0 i1 => ?_) (fun i i0 i1 => ?_), by rw [← he]; exact (hla.o (Or.inr rfl)).o (Or.inl rfl)⟩
        · by_cases e : i = (6 * at0 + z.2 3 (o (k : Int) + 1))
          · rw [e, zu_s]
          · rw [zu_n e, zu_n e]
        · by_cases e : i = (6 * at0 + z.2 3 (o (k : Int) + 1))
          · rw [e, zu_s]; exact hfr1
          · rw [zu_n e, zu_n e]
      · refine TGo.al0 dX9_tries_197 rfl ?_
        refine TGo.getS (t := 17) 2 2 (B + 64) (hB 61 (by decide)) rfl fgX9_22_9 dX9_tries_198 rfl rfl rfl ?_
        refine TGo.il dX9_tries_201 rfl ?_
        refine TGo.il dX9_tries_203 rfl ?_
        refine TGo.iast dX9_tries_205 (hB 64 (by decide)) (by omega) rfl ?_
        refine TGo.al0 dX9_tries_206 rfl ?_
        refine TGo.il1 dX9_tries_207 rfl ?_
        refine TGo.ic1 dX9_tries_208 ?_
        refine TGo.iadd dX9_tries_209 ?_
        refine TGo.il dX9_tries_210 rfl ?_
        refine TGo.il3 dX9_tries_212 rfl ?_
        refine TGo.il dX9_tries_213 rfl ?_
        refine TGo.ic1 dX9_tries_215 ?_
        refine TGo.iadd dX9_tries_216 ?_
        refine TGo.mmax dX9_tries_217 q1752 (by omega) rfl (by omega) ?_
        refine TGo.cN (csV3 (y2 := mX9_tries) (t := 17) (r + 3) (Nat.ble_eq_true_of_le (by omega)) (hB 61 (by decide)) rfl rfl dX9_tries_220 q1740 q1742 qs35 okX9_tries npX9_tries rfl rfl) (REC (Wd := (zu Wd (6 * at0 + z.2 3 (o (k : Int) + 1)) (z.2 3 (o (k : Int) + 2)))) (N := (zu N (6 * at0 + z.2 3 (o (k : Int) + 1)) (j : Int))) (S := zu S ((k : Int) + 1) (j : Int)) (A := (fdZ (lgZ (z.2 3) o n1 mo r1 cu r k Wd N S met) (j) A)) (at0 := (j : Int)) (k := k + 1) (r1 := r1) (hz.sc (FrS.rf.i 64 (by omega))) W hn1 hn12 hof hro (hle.fr (FrN.rf.w (Or.inr rfl))) hcu hmo hr1 hwt ⟨WRZ.u hrg.1 (by omega), fun i i0 i1 => by
          by_cases e : i = (6 * at0 + z.2 3 (o (k : Int) + 1))
          · rw [e, zu_s]; omega
          · rw [zu_n e]; exact hrg.2 i i0 i1⟩ (by omega) (hso.up hat (by omega) (fun i i0 i1 q => zu_n (fun e => by
            have q2 := (hso.2.2 i i0 i1).2 q
            have q3 := hso.2.1 (i + 1) (by omega) (by omega)
            rw [e, hfr1] at q2
            omega)) (fun q => absurd q hfr2) (fun _ => zu_s.symm)) zu_s (by omega) ((hlw.n (k := (6 * at0 + z.2 3 (o (k : Int) + 1))) (v := (j : Int))).c (fun _ _ _ => rfl) (fun i i0 i1 => by
            by_cases e : i = (6 * at0 + z.2 3 (o (k : Int) + 1))
            · rw [e, zu_s, zu_s]
            · rw [zu_n e, zu_n e, zu_n e])) (hla.o (Or.inr rfl)) hgab) (fun V220 h220 => ?_)
        obtain ⟨hR220, hF220, hw220, ha220⟩ := h220
        refine TGo.iinc dX9_tries_223 rfl rfl rfl ?_
        refine TGo.goto 182 dX9_tries_226 (by decide) ?_
        exact TGo.seq [some (.ref (B + 61)), some (.int (iI (k : Int))), some (.int (iI at0)), some (.int (iI met)), some (.int (iI (6 * at0 + z.2 3 (o (k : Int) + 1)))), some (.int (iI (z.2 3 (o (k : Int) + 2)))), some (.int (iI (Wd (6 * at0 + z.2 3 (o (k : Int) + 1))))), some (.int (iI ((((j + 1)) : Nat) : Int)))] [] _ (rfl) rfl rfl (ih (j + 1) _ (by omega) (by omega) hR220 ⟨(hfn.tr (FrN.rf.w (Or.inr rfl))).tr hF220, ⟨_, hw220⟩, by
          rw [hgs, lgZ_f hat hfr]
          by_cases e : (j : Int) = met
          · rw [if_pos e]; rw [show max met ((j : Int) + 1) = met + 1 by omega] at ha220; exact ha220
          · rw [if_neg e]; rw [show max met ((j : Int) + 1) = met by omega] at ha220; exact ha220⟩)
set_option maxHeartbeats 4000000 in
theorem eX9_tries {E : ET} {sh : SHT} {nn : Nat × Nat} {V : VT} {B : Nat} {ow : Nat → Nat} {z : ZT} {n1 mo k r : Nat} {wt cu r1 : Int} {o Wd N S : Int → Int} {A : Int × Int} {at0 met : Int} (hR : XR ow sh nn V B z) (W : RWZ (z.2 3)) (hn1 : z.2 3 6 = (n1 : Int)) (hn12 : n1 ≤ 12) (hof : OF (z.2 3) o n1) (hro : RoS (z.2 3) o n1) (hle : LeS B V n1 mo wt cu o) (hcu : 0 ≤ cu ∧ cu < 6) (hmo : 1 ≤ (mo : Int) ∧ (mo : Int) ≤ 3) (hr1 : 0 ≤ r1 ∧ r1 < 4) (hwt : wt = -1 ∨ wt = r1) (hrg : RGZ Wd N (mo : Int)) (hkr : k + r = n1) (hso : SoK (z.2 3) o n1 mo k N S) (hat : S (k : Int) = at0) (hmet : 1 ≤ met ∧ met ≤ (mo : Int)) (hlw : LeW B V Wd N) (hla : LeA B V wt A) (hab : ABx A) (REC : ∀ e, r = e + 1 → LsOK E e) : TN E mX9_tries (r + 3) [.ref (B + 61), .int (iI (k : Int)), .int (iI at0), .int (iI met)] sh nn V (fun V' => XR ow sh nn V' B z ∧ FrN B V V' ∧ LeW B V' Wd N ∧ LeA B V' wt (lsT (z.2 3) o n1 mo r1 cu r k Wd N S met A)) := by
  obtain ⟨hB, how, hc, -⟩ := id hR
  have w6 := W.1.2.2.2.2.2.2.1
  have hs0 := hso.2.1 (k : Int) (by omega) (Int.le_refl _)
  rw [hat] at hs0
  refine TC.intro [some (.ref (B + 61)), some (.int (iI (k : Int))), some (.int (iI at0)), some (.int (iI met)), none, none, none, none] rfl ?_
  refine TGo.il1 dX9_tries_0 rfl ?_
  refine TGo.al0 dX9_tries_1 rfl ?_
  refine TGo.getI (t := 17) 3 3 (hB 61 (by decide)) rfl fgX9_25_9 dX9_tries_2 rfl rfl rfl ?_
  refine TGo.toz _ (hle.1) ?_
  refine TGo.icmp_ne 40 dX9_tries_5 (by decide) (by omega) (fun h5 => ?_) (fun h5 => ?_)
  · obtain ⟨d, hdx⟩ : ∃ d, V.1 (B + 62) (k : Int) = d := ⟨_, rfl⟩
    have hod := hle.2.2.2.2 (k : Int) (by omega) (by omega)
    rw [hdx] at hod
    have hok := hof (k : Int) (by omega) (by omega)
    refine TGo.bip 6 dX9_tries_40 (by decide) ?_
    refine TGo.il2 dX9_tries_42 rfl ?_
    refine TGo.imul dX9_tries_43 ?_
    refine TGo.al0 dX9_tries_44 rfl ?_
    refine TGo.getS (t := 17) 9 9 B (hB 61 (by decide)) rfl fgX9_3_9 dX9_tries_45 rfl rfl rfl ?_
    refine TGo.getS (t := 8) 2 2 (B + 2) (hB 0 (by decide)) rfl fgX9_29_0 dX9_tries_48 rfl rfl rfl ?_
    refine TGo.getS (t := 9) 3 3 (B + 24) (hB 2 (by decide)) rfl fgX9_38_1 dX9_tries_51 rfl rfl rfl ?_
    refine TGo.ic3 dX9_tries_54 ?_
    refine TGo.al0 dX9_tries_55 rfl ?_
    refine TGo.getS (t := 17) 0 0 (B + 62) (hB 61 (by decide)) rfl fgX9_15_9 dX9_tries_56 rfl rfl rfl ?_
    refine TGo.il1 dX9_tries_59 rfl ?_
    refine TGo.iald dX9_tries_60 (hB 62 (by decide)) (by omega) rfl ?_
    refine TGo.toz _ (hdx) ?_
    refine TGo.imul dX9_tries_61 ?_
    refine TGo.ic1 dX9_tries_62 ?_
    refine TGo.iadd dX9_tries_63 ?_
    refine TGo.iald dX9_tries_64 (hB 24 (by decide)) (by omega) rfl ?_
    refine TGo.toz _ (hc.1.2.2.2.2.1 _ (by omega) (by omega)) ?_
    refine TGo.toz (z.2 3 (o (k : Int) + 1)) (congrArg _ (by omega)) ?_
    refine TGo.iadd dX9_tries_65 ?_
    refine TGo.is dX9_tries_66 rfl rfl ?_
    refine TGo.al0 dX9_tries_68 rfl ?_
    refine TGo.getS (t := 17) 9 9 B (hB 61 (by decide)) rfl fgX9_3_9 dX9_tries_69 rfl rfl rfl ?_
    refine TGo.getS (t := 8) 2 2 (B + 2) (hB 0 (by decide)) rfl fgX9_29_0 dX9_tries_72 rfl rfl rfl ?_
    refine TGo.getS (t := 9) 3 3 (B + 24) (hB 2 (by decide)) rfl fgX9_38_1 dX9_tries_75 rfl rfl rfl ?_
    refine TGo.ic3 dX9_tries_78 ?_
    refine TGo.al0 dX9_tries_79 rfl ?_
    refine TGo.getS (t := 17) 0 0 (B + 62) (hB 61 (by decide)) rfl fgX9_15_9 dX9_tries_80 rfl rfl rfl ?_
    refine TGo.il1 dX9_tries_83 rfl ?_
    refine TGo.iald dX9_tries_84 (hB 62 (by decide)) (by omega) rfl ?_
    refine TGo.toz _ (hdx) ?_
    refine TGo.imul dX9_tries_85 ?_
    refine TGo.ic2 dX9_tries_86 ?_
    refine TGo.iadd dX9_tries_87 ?_
    refine TGo.iald dX9_tries_88 (hB 24 (by decide)) (by omega) rfl ?_
    refine TGo.toz _ (hc.1.2.2.2.2.1 _ (by omega) (by omega)) ?_
    refine TGo.toz (z.2 3 (o (k : Int) + 2)) (congrArg _ (by omega)) ?_
    refine TGo.is dX9_tries_89 rfl rfl ?_
    have hWr0 := hrg.1 (6 * at0 + z.2 3 (o (k : Int) + 1)) (by omega) (by omega)
    have hNr0 := hrg.2 (6 * at0 + z.2 3 (o (k : Int) + 1)) (by omega) (by omega)
    refine TGo.al0 dX9_tries_91 rfl ?_
    refine TGo.getS (t := 17) 1 1 (B + 63) (hB 61 (by decide)) rfl fgX9_19_9 dX9_tries_92 rfl rfl rfl ?_
    refine TGo.il dX9_tries_95 rfl ?_
    refine TGo.iald dX9_tries_97 (hB 63 (by decide)) (by omega) rfl ?_
    refine TGo.toz _ ((hlw.1 _ (by omega) (by omega))) ?_
    refine TGo.is dX9_tries_98 rfl rfl ?_
    refine TGo.il dX9_tries_100 rfl ?_
    refine TGo.icm1 dX9_tries_102 ?_
    refine TGo.icmp_eq 114 dX9_tries_103 (by decide) (by omega) (fun h103 => ?_) (fun h103 => ?_)
    · refine TGo.al0 dX9_tries_114 rfl ?_
      refine TGo.getS (t := 17) 1 1 (B + 63) (hB 61 (by decide)) rfl fgX9_19_9 dX9_tries_115 rfl rfl rfl ?_
      refine TGo.il dX9_tries_118 rfl ?_
      refine TGo.il dX9_tries_120 rfl ?_
      refine TGo.iast dX9_tries_122 (hB 63 (by decide)) (by omega) rfl ?_
      have hR2 := hR.sc (V' := vI V (B + 63) (6 * at0 + z.2 3 (o (k : Int) + 1)) (z.2 3 (o (k : Int) + 2))) (FrS.rf.i 63 (by omega))
      obtain ⟨-, -, hc2, -⟩ := id hR2
      have hfn2 : FrN B V (vI V (B + 63) (6 * at0 + z.2 3 (o (k : Int) + 1)) (z.2 3 (o (k : Int) + 2))) := FrN.rf.w (Or.inl rfl)
      have hle2 := hle.fr hfn2
      have hlw2 := hlw.w (k := (6 * at0 + z.2 3 (o (k : Int) + 1))) (v := (z.2 3 (o (k : Int) + 2)))
      obtain ⟨R1, hR1⟩ : ∃ R1, R1 = (if (k : Int) + 1 < (n1 : Int) then z.2 3 (o ((k : Int) + 1)) else 4) := ⟨_, rfl⟩
      have hR1b : 0 ≤ R1 ∧ R1 ≤ 4 := by
        rw [hR1]
        split
        · have q := (hof ((k : Int) + 1) (by omega) (by omega)).2.1; omega
        · omega
      have hlR : laL (z.2 3) o n1 (k : Int) ↔ R1 ≠ z.2 3 (o (k : Int)) := by
        unfold laL
        by_cases e : (k : Int) + 1 < (n1 : Int)
        · rw [hR1, if_pos e]; exact ⟨fun q => by rcases q with q | q; omega; exact q, fun q => Or.inr q⟩
        · rw [hR1, if_neg e]; exact ⟨fun _ => by omega, fun _ => Or.inl (by omega)⟩
      have hcn : ¬ cnL (z.2 3) o Wd S k := fun q => by
        have q1 := q.1
        have q2 := q.2
        rw [hat] at q1 q2
        omega
      have hrg2 : RGZ (zu Wd (6 * at0 + z.2 3 (o (k : Int) + 1)) (z.2 3 (o (k : Int) + 2))) N (mo : Int) := ⟨WRZ.u hrg.1 (by omega), hrg.2⟩
      refine TGo.al0 dX9_tries_123 rfl ?_
      refine TGo.il1 dX9_tries_124 rfl ?_
      refine TGo.ic1 dX9_tries_125 ?_
      refine TGo.iadd dX9_tries_126 ?_
      refine TGo.cF (csV1 (y2 := mX9_rowOf) (t := 17) 1 (Nat.ble_eq_true_of_le (by omega)) (hB 61 (by decide)) rfl rfl dX9_tries_127 q1748 q1750 qs37 okX9_rowOf npX9_rowOf rfl rfl) (kX9_rowOf hB hc2 hn12 hof hle2 (by omega)) ?_
      refine TGo.toz R1 hR1.symm ?_
      refine TGo.al0 dX9_tries_130 rfl ?_
      refine TGo.il1 dX9_tries_131 rfl ?_
      refine TGo.cF (csV1 (y2 := mX9_rowOf) (t := 17) 1 (Nat.ble_eq_true_of_le (by omega)) (hB 61 (by decide)) rfl rfl dX9_tries_132 q1748 q1750 qs37 okX9_rowOf npX9_rowOf rfl rfl) (kX9_rowOf hB hc2 hn12 hof hle2 (by omega)) ?_
      refine TGo.toz (z.2 3 (o (k : Int))) (if_pos (by omega)) ?_
      refine TGo.icmp_eq 150 dX9_tries_135 (by decide) (by omega) (fun h135 => ?_) (fun h135 => ?_)
      · have hlast : ¬ laL (z.2 3) o n1 (k : Int) := fun q => hlR.mp q (by omega)
        refine TGo.al0 dX9_tries_150 rfl ?_
        refine TGo.getS (t := 17) 2 2 (B + 64) (hB 61 (by decide)) rfl fgX9_22_9 dX9_tries_151 rfl rfl rfl ?_
        refine TGo.il dX9_tries_154 rfl ?_
        refine TGo.iald dX9_tries_156 (hB 64 (by decide)) (by omega) rfl ?_
        refine TGo.toz _ ((u2_n (Or.inl (by omega))).trans ((hlw.2 _ (by omega) (by omega)))) ?_
        refine TGo.icm1 dX9_tries_157 ?_
        refine TGo.icmp_eq 179 dX9_tries_158 (by decide) (by omega) (fun h158 => ?_) (fun h158 => ?_)
        · obtain ⟨e, he⟩ : ∃ e, r = e + 1 := ⟨r - 1, by omega⟩
          have hf : (fnL (z.2 3) o n1 N S k) := ⟨by rw [hat]; omega, hlast⟩
          subst he
          refine TGo.ic0 dX9_tries_179 ?_
          refine TGo.is dX9_tries_180 rfl rfl ?_
          refine (lX9_tries (V0 := vI V (B + 63) (6 * at0 + z.2 3 (o (k : Int) + 1)) (z.2 3 (o (k : Int) + 2))) (r1 := r1) (A := A) W hn1 hn12 hof hro hle2 hcu hmo hr1 hwt hrg hkr hso hat hmet hab hf (REC e rfl) ((tyL (fnL (z.2 3) o n1 N S k) met (mo : Int)).toNat + 1) 0 _ (by omega) (by omega) hR2 ⟨FrN.rf, ⟨-1, hlw2.c (fun _ _ _ => rfl) (fun i i0 i1 => ?_)⟩, hla.o (Or.inl rfl)⟩).mono ?_
          · by_cases q : i = (6 * at0 + z.2 3 (o (k : Int) + 1))
            · rw [q, zu_s]; omega
            · rw [zu_n q]
          · rintro ao sh' nn' V' ⟨q1, q2, q3, q4, q5, q6, q7⟩
            exact ⟨q1, q2, q3, q4, hfn2.tr q5, q6, by rw [lsT_s hcn]; exact q7⟩
        · have hnf : ¬ (fnL (z.2 3) o n1 N S k) := fun q => by have q1 := q.1; rw [hat] at q1; omega
          obtain ⟨e, he⟩ : ∃ e, r = e + 1 := ⟨r - 1, by omega⟩
          refine TGo.al0 dX9_tries_161 rfl ?_
          refine TGo.il1 dX9_tries_162 rfl ?_
          refine TGo.ic1 dX9_tries_163 ?_
          refine TGo.iadd dX9_tries_164 ?_
          refine TGo.al0 dX9_tries_165 rfl ?_
          refine TGo.getS (t := 17) 2 2 (B + 64) (hB 61 (by decide)) rfl fgX9_22_9 dX9_tries_166 rfl rfl rfl ?_
          refine TGo.il dX9_tries_169 rfl ?_
          refine TGo.iald dX9_tries_171 (hB 64 (by decide)) (by omega) rfl ?_
          refine TGo.toz _ ((u2_n (Or.inl (by omega))).trans ((hlw.2 _ (by omega) (by omega)))) ?_
          refine TGo.il3 dX9_tries_172 rfl ?_
          refine TGo.cN (csV3 (y2 := mX9_tries) (t := 17) (e + 3) (Nat.ble_eq_true_of_le (by omega)) (hB 61 (by decide)) rfl rfl dX9_tries_173 q1740 q1742 qs35 okX9_tries npX9_tries rfl rfl) (REC e he (Wd := (zu Wd (6 * at0 + z.2 3 (o (k : Int) + 1)) (z.2 3 (o (k : Int) + 2)))) (N := N) (S := zu S ((k : Int) + 1) (N (6 * at0 + z.2 3 (o (k : Int) + 1)))) (A := A) (at0 := (N (6 * at0 + z.2 3 (o (k : Int) + 1)))) (k := k + 1) (r1 := r1) (met := met) hR2 W hn1 hn12 hof hro hle2 hcu hmo hr1 hwt hrg2 (by omega) (hso.up hat (by omega) (fun i i0 i1 q => rfl) (fun q => absurd q hlast) (fun _ => rfl)) zu_s hmet hlw2 (hla.o (Or.inl rfl)) hab) (fun V173 h173 => ?_)
          obtain ⟨hRr, hFr, hWr, hAr⟩ := h173
          refine TGo.goto 237 dX9_tries_176 (by decide) ?_
          refine TGo.al0 dX9_tries_237 rfl ?_
          refine TGo.getS (t := 17) 1 1 (B + 63) (hB 61 (by decide)) rfl fgX9_19_9 dX9_tries_238 rfl rfl rfl ?_
          refine TGo.il dX9_tries_241 rfl ?_
          refine TGo.il dX9_tries_243 rfl ?_
          refine TGo.iast dX9_tries_245 (hB 63 (by decide)) (by omega) rfl ?_
          refine TGo.vret dX9_tries_246 rfl ?_
          refine ⟨rfl, rfl, rfl, hRr.sc (FrS.rf.i 63 (by omega)), (hfn2.tr hFr).w (Or.inl rfl), (hWr.w).c (fun i i0 i1 => ?_) (fun i i0 i1 => rfl), ?_⟩
          · by_cases e : i = (6 * at0 + z.2 3 (o (k : Int) + 1))
            · rw [e, zu_s]
            · rw [zu_n e, zu_n e]
          · rw [he, lsT_s hcn, show (tyL (fnL (z.2 3) o n1 N S k) met (mo : Int)).toNat = 1 by unfold tyL; rw [if_neg hnf]; rfl]
            show LeA B _ wt (lgZ (z.2 3) o n1 mo r1 cu e k Wd N S met ((0 : Nat) : Int) A)
            rw [lgZ_n hat hnf]
            first
            | (rw [if_pos hlast]; exact hAr.o (Or.inl rfl))
            | (rw [if_neg hlast]; exact hAr.o (Or.inl rfl))
      · have hlast : laL (z.2 3) o n1 (k : Int) := hlR.mpr (by omega)
        have hnf : ¬ (fnL (z.2 3) o n1 N S k) := fun q => q.2 hlast
        obtain ⟨e, he⟩ : ∃ e, r = e + 1 := ⟨r - 1, by omega⟩
        refine TGo.al0 dX9_tries_138 rfl ?_
        refine TGo.il1 dX9_tries_139 rfl ?_
        refine TGo.ic1 dX9_tries_140 ?_
        refine TGo.iadd dX9_tries_141 ?_
        refine TGo.ic0 dX9_tries_142 ?_
        refine TGo.il3 dX9_tries_143 rfl ?_
        refine TGo.cN (csV3 (y2 := mX9_tries) (t := 17) (e + 3) (Nat.ble_eq_true_of_le (by omega)) (hB 61 (by decide)) rfl rfl dX9_tries_144 q1740 q1742 qs35 okX9_tries npX9_tries rfl rfl) (REC e he (Wd := (zu Wd (6 * at0 + z.2 3 (o (k : Int) + 1)) (z.2 3 (o (k : Int) + 2)))) (N := N) (S := zu S ((k : Int) + 1) (0 : Int)) (A := A) (at0 := (0 : Int)) (k := k + 1) (r1 := r1) (met := met) hR2 W hn1 hn12 hof hro hle2 hcu hmo hr1 hwt hrg2 (by omega) (hso.up hat (by omega) (fun i i0 i1 q => rfl) (fun _ => rfl) (fun q => absurd hlast q)) zu_s hmet hlw2 (hla.o (Or.inl rfl)) hab) (fun V144 h144 => ?_)
        obtain ⟨hRr, hFr, hWr, hAr⟩ := h144
        refine TGo.goto 237 dX9_tries_147 (by decide) ?_
        refine TGo.al0 dX9_tries_237 rfl ?_
        refine TGo.getS (t := 17) 1 1 (B + 63) (hB 61 (by decide)) rfl fgX9_19_9 dX9_tries_238 rfl rfl rfl ?_
        refine TGo.il dX9_tries_241 rfl ?_
        refine TGo.il dX9_tries_243 rfl ?_
        refine TGo.iast dX9_tries_245 (hB 63 (by decide)) (by omega) rfl ?_
        refine TGo.vret dX9_tries_246 rfl ?_
        refine ⟨rfl, rfl, rfl, hRr.sc (FrS.rf.i 63 (by omega)), (hfn2.tr hFr).w (Or.inl rfl), (hWr.w).c (fun i i0 i1 => ?_) (fun i i0 i1 => rfl), ?_⟩
        · by_cases e : i = (6 * at0 + z.2 3 (o (k : Int) + 1))
          · rw [e, zu_s]
          · rw [zu_n e, zu_n e]
        · rw [he, lsT_s hcn, show (tyL (fnL (z.2 3) o n1 N S k) met (mo : Int)).toNat = 1 by unfold tyL; rw [if_neg hnf]; rfl]
          show LeA B _ wt (lgZ (z.2 3) o n1 mo r1 cu e k Wd N S met ((0 : Nat) : Int) A)
          rw [lgZ_n hat hnf]
          first
          | (rw [if_pos hlast]; exact hAr.o (Or.inl rfl))
          | (rw [if_neg hlast]; exact hAr.o (Or.inl rfl))
    · refine TGo.il dX9_tries_106 rfl ?_
      refine TGo.il dX9_tries_108 rfl ?_
      refine TGo.icmp_eq 114 dX9_tries_110 (by decide) (by omega) (fun h110 => ?_) (fun h110 => ?_)
      · refine TGo.al0 dX9_tries_114 rfl ?_
        refine TGo.getS (t := 17) 1 1 (B + 63) (hB 61 (by decide)) rfl fgX9_19_9 dX9_tries_115 rfl rfl rfl ?_
        refine TGo.il dX9_tries_118 rfl ?_
        refine TGo.il dX9_tries_120 rfl ?_
        refine TGo.iast dX9_tries_122 (hB 63 (by decide)) (by omega) rfl ?_
        have hR2 := hR.sc (V' := vI V (B + 63) (6 * at0 + z.2 3 (o (k : Int) + 1)) (z.2 3 (o (k : Int) + 2))) (FrS.rf.i 63 (by omega))
        obtain ⟨-, -, hc2, -⟩ := id hR2
        have hfn2 : FrN B V (vI V (B + 63) (6 * at0 + z.2 3 (o (k : Int) + 1)) (z.2 3 (o (k : Int) + 2))) := FrN.rf.w (Or.inl rfl)
        have hle2 := hle.fr hfn2
        have hlw2 := hlw.w (k := (6 * at0 + z.2 3 (o (k : Int) + 1))) (v := (z.2 3 (o (k : Int) + 2)))
        obtain ⟨R1, hR1⟩ : ∃ R1, R1 = (if (k : Int) + 1 < (n1 : Int) then z.2 3 (o ((k : Int) + 1)) else 4) := ⟨_, rfl⟩
        have hR1b : 0 ≤ R1 ∧ R1 ≤ 4 := by
          rw [hR1]
          split
          · have q := (hof ((k : Int) + 1) (by omega) (by omega)).2.1; omega
          · omega
        have hlR : laL (z.2 3) o n1 (k : Int) ↔ R1 ≠ z.2 3 (o (k : Int)) := by
          unfold laL
          by_cases e : (k : Int) + 1 < (n1 : Int)
          · rw [hR1, if_pos e]; exact ⟨fun q => by rcases q with q | q; omega; exact q, fun q => Or.inr q⟩
          · rw [hR1, if_neg e]; exact ⟨fun _ => by omega, fun _ => Or.inl (by omega)⟩
        have hcn : ¬ cnL (z.2 3) o Wd S k := fun q => by
          have q1 := q.1
          have q2 := q.2
          rw [hat] at q1 q2
          omega
        have hrg2 : RGZ (zu Wd (6 * at0 + z.2 3 (o (k : Int) + 1)) (z.2 3 (o (k : Int) + 2))) N (mo : Int) := ⟨WRZ.u hrg.1 (by omega), hrg.2⟩
        refine TGo.al0 dX9_tries_123 rfl ?_
        refine TGo.il1 dX9_tries_124 rfl ?_
        refine TGo.ic1 dX9_tries_125 ?_
        refine TGo.iadd dX9_tries_126 ?_
        refine TGo.cF (csV1 (y2 := mX9_rowOf) (t := 17) 1 (Nat.ble_eq_true_of_le (by omega)) (hB 61 (by decide)) rfl rfl dX9_tries_127 q1748 q1750 qs37 okX9_rowOf npX9_rowOf rfl rfl) (kX9_rowOf hB hc2 hn12 hof hle2 (by omega)) ?_
        refine TGo.toz R1 hR1.symm ?_
        refine TGo.al0 dX9_tries_130 rfl ?_
        refine TGo.il1 dX9_tries_131 rfl ?_
        refine TGo.cF (csV1 (y2 := mX9_rowOf) (t := 17) 1 (Nat.ble_eq_true_of_le (by omega)) (hB 61 (by decide)) rfl rfl dX9_tries_132 q1748 q1750 qs37 okX9_rowOf npX9_rowOf rfl rfl) (kX9_rowOf hB hc2 hn12 hof hle2 (by omega)) ?_
        refine TGo.toz (z.2 3 (o (k : Int))) (if_pos (by omega)) ?_
        refine TGo.icmp_eq 150 dX9_tries_135 (by decide) (by omega) (fun h135 => ?_) (fun h135 => ?_)
        · have hlast : ¬ laL (z.2 3) o n1 (k : Int) := fun q => hlR.mp q (by omega)
          refine TGo.al0 dX9_tries_150 rfl ?_
          refine TGo.getS (t := 17) 2 2 (B + 64) (hB 61 (by decide)) rfl fgX9_22_9 dX9_tries_151 rfl rfl rfl ?_
          refine TGo.il dX9_tries_154 rfl ?_
          refine TGo.iald dX9_tries_156 (hB 64 (by decide)) (by omega) rfl ?_
          refine TGo.toz _ ((u2_n (Or.inl (by omega))).trans ((hlw.2 _ (by omega) (by omega)))) ?_
          refine TGo.icm1 dX9_tries_157 ?_
          refine TGo.icmp_eq 179 dX9_tries_158 (by decide) (by omega) (fun h158 => ?_) (fun h158 => ?_)
          · obtain ⟨e, he⟩ : ∃ e, r = e + 1 := ⟨r - 1, by omega⟩
            have hf : (fnL (z.2 3) o n1 N S k) := ⟨by rw [hat]; omega, hlast⟩
            subst he
            refine TGo.ic0 dX9_tries_179 ?_
            refine TGo.is dX9_tries_180 rfl rfl ?_
            refine (lX9_tries (V0 := vI V (B + 63) (6 * at0 + z.2 3 (o (k : Int) + 1)) (z.2 3 (o (k : Int) + 2))) (r1 := r1) (A := A) W hn1 hn12 hof hro hle2 hcu hmo hr1 hwt hrg hkr hso hat hmet hab hf (REC e rfl) ((tyL (fnL (z.2 3) o n1 N S k) met (mo : Int)).toNat + 1) 0 _ (by omega) (by omega) hR2 ⟨FrN.rf, ⟨-1, hlw2.c (fun _ _ _ => rfl) (fun i i0 i1 => ?_)⟩, hla.o (Or.inl rfl)⟩).mono ?_
            · by_cases q : i = (6 * at0 + z.2 3 (o (k : Int) + 1))
              · rw [q, zu_s]; omega
              · rw [zu_n q]
            · rintro ao sh' nn' V' ⟨q1, q2, q3, q4, q5, q6, q7⟩
              exact ⟨q1, q2, q3, q4, hfn2.tr q5, q6, by rw [lsT_s hcn]; exact q7⟩
          · have hnf : ¬ (fnL (z.2 3) o n1 N S k) := fun q => by have q1 := q.1; rw [hat] at q1; omega
            obtain ⟨e, he⟩ : ∃ e, r = e + 1 := ⟨r - 1, by omega⟩
            refine TGo.al0 dX9_tries_161 rfl ?_
            refine TGo.il1 dX9_tries_162 rfl ?_
            refine TGo.ic1 dX9_tries_163 ?_
            refine TGo.iadd dX9_tries_164 ?_
            refine TGo.al0 dX9_tries_165 rfl ?_
            refine TGo.getS (t := 17) 2 2 (B + 64) (hB 61 (by decide)) rfl fgX9_22_9 dX9_tries_166 rfl rfl rfl ?_
            refine TGo.il dX9_tries_169 rfl ?_
            refine TGo.iald dX9_tries_171 (hB 64 (by decide)) (by omega) rfl ?_
            refine TGo.toz _ ((u2_n (Or.inl (by omega))).trans ((hlw.2 _ (by omega) (by omega)))) ?_
            refine TGo.il3 dX9_tries_172 rfl ?_
            refine TGo.cN (csV3 (y2 := mX9_tries) (t := 17) (e + 3) (Nat.ble_eq_true_of_le (by omega)) (hB 61 (by decide)) rfl rfl dX9_tries_173 q1740 q1742 qs35 okX9_tries npX9_tries rfl rfl) (REC e he (Wd := (zu Wd (6 * at0 + z.2 3 (o (k : Int) + 1)) (z.2 3 (o (k : Int) + 2)))) (N := N) (S := zu S ((k : Int) + 1) (N (6 * at0 + z.2 3 (o (k : Int) + 1)))) (A := A) (at0 := (N (6 * at0 + z.2 3 (o (k : Int) + 1)))) (k := k + 1) (r1 := r1) (met := met) hR2 W hn1 hn12 hof hro hle2 hcu hmo hr1 hwt hrg2 (by omega) (hso.up hat (by omega) (fun i i0 i1 q => rfl) (fun q => absurd q hlast) (fun _ => rfl)) zu_s hmet hlw2 (hla.o (Or.inl rfl)) hab) (fun V173 h173 => ?_)
            obtain ⟨hRr, hFr, hWr, hAr⟩ := h173
            refine TGo.goto 237 dX9_tries_176 (by decide) ?_
            refine TGo.al0 dX9_tries_237 rfl ?_
            refine TGo.getS (t := 17) 1 1 (B + 63) (hB 61 (by decide)) rfl fgX9_19_9 dX9_tries_238 rfl rfl rfl ?_
            refine TGo.il dX9_tries_241 rfl ?_
            refine TGo.il dX9_tries_243 rfl ?_
            refine TGo.iast dX9_tries_245 (hB 63 (by decide)) (by omega) rfl ?_
            refine TGo.vret dX9_tries_246 rfl ?_
            refine ⟨rfl, rfl, rfl, hRr.sc (FrS.rf.i 63 (by omega)), (hfn2.tr hFr).w (Or.inl rfl), (hWr.w).c (fun i i0 i1 => ?_) (fun i i0 i1 => rfl), ?_⟩
            · by_cases e : i = (6 * at0 + z.2 3 (o (k : Int) + 1))
              · rw [e, zu_s]
              · rw [zu_n e, zu_n e]
            · rw [he, lsT_s hcn, show (tyL (fnL (z.2 3) o n1 N S k) met (mo : Int)).toNat = 1 by unfold tyL; rw [if_neg hnf]; rfl]
              show LeA B _ wt (lgZ (z.2 3) o n1 mo r1 cu e k Wd N S met ((0 : Nat) : Int) A)
              rw [lgZ_n hat hnf]
              first
              | (rw [if_pos hlast]; exact hAr.o (Or.inl rfl))
              | (rw [if_neg hlast]; exact hAr.o (Or.inl rfl))
        · have hlast : laL (z.2 3) o n1 (k : Int) := hlR.mpr (by omega)
          have hnf : ¬ (fnL (z.2 3) o n1 N S k) := fun q => q.2 hlast
          obtain ⟨e, he⟩ : ∃ e, r = e + 1 := ⟨r - 1, by omega⟩
          refine TGo.al0 dX9_tries_138 rfl ?_
          refine TGo.il1 dX9_tries_139 rfl ?_
          refine TGo.ic1 dX9_tries_140 ?_
          refine TGo.iadd dX9_tries_141 ?_
          refine TGo.ic0 dX9_tries_142 ?_
          refine TGo.il3 dX9_tries_143 rfl ?_
          refine TGo.cN (csV3 (y2 := mX9_tries) (t := 17) (e + 3) (Nat.ble_eq_true_of_le (by omega)) (hB 61 (by decide)) rfl rfl dX9_tries_144 q1740 q1742 qs35 okX9_tries npX9_tries rfl rfl) (REC e he (Wd := (zu Wd (6 * at0 + z.2 3 (o (k : Int) + 1)) (z.2 3 (o (k : Int) + 2)))) (N := N) (S := zu S ((k : Int) + 1) (0 : Int)) (A := A) (at0 := (0 : Int)) (k := k + 1) (r1 := r1) (met := met) hR2 W hn1 hn12 hof hro hle2 hcu hmo hr1 hwt hrg2 (by omega) (hso.up hat (by omega) (fun i i0 i1 q => rfl) (fun _ => rfl) (fun q => absurd hlast q)) zu_s hmet hlw2 (hla.o (Or.inl rfl)) hab) (fun V144 h144 => ?_)
          obtain ⟨hRr, hFr, hWr, hAr⟩ := h144
          refine TGo.goto 237 dX9_tries_147 (by decide) ?_
          refine TGo.al0 dX9_tries_237 rfl ?_
          refine TGo.getS (t := 17) 1 1 (B + 63) (hB 61 (by decide)) rfl fgX9_19_9 dX9_tries_238 rfl rfl rfl ?_
          refine TGo.il dX9_tries_241 rfl ?_
          refine TGo.il dX9_tries_243 rfl ?_
          refine TGo.iast dX9_tries_245 (hB 63 (by decide)) (by omega) rfl ?_
          refine TGo.vret dX9_tries_246 rfl ?_
          refine ⟨rfl, rfl, rfl, hRr.sc (FrS.rf.i 63 (by omega)), (hfn2.tr hFr).w (Or.inl rfl), (hWr.w).c (fun i i0 i1 => ?_) (fun i i0 i1 => rfl), ?_⟩
          · by_cases e : i = (6 * at0 + z.2 3 (o (k : Int) + 1))
            · rw [e, zu_s]
            · rw [zu_n e, zu_n e]
          · rw [he, lsT_s hcn, show (tyL (fnL (z.2 3) o n1 N S k) met (mo : Int)).toNat = 1 by unfold tyL; rw [if_neg hnf]; rfl]
            show LeA B _ wt (lgZ (z.2 3) o n1 mo r1 cu e k Wd N S met ((0 : Nat) : Int) A)
            rw [lgZ_n hat hnf]
            first
            | (rw [if_pos hlast]; exact hAr.o (Or.inl rfl))
            | (rw [if_neg hlast]; exact hAr.o (Or.inl rfl))
      · refine TGo.vret dX9_tries_113 rfl ?_
        have hcn : cnL (z.2 3) o Wd S k := ⟨by rw [hat]; omega, by rw [hat]; omega⟩
        obtain ⟨e, he⟩ : ∃ e, r = e + 1 := ⟨r - 1, by omega⟩
        have e2 : (lsT (z.2 3) o n1 mo r1 cu r k Wd N S met A) = A := by rw [he]; exact if_pos hcn
        exact ⟨rfl, rfl, rfl, hR, FrN.rf, hlw, by rw [e2]; exact hla⟩
  · refine TGo.al0 dX9_tries_8 rfl ?_
    refine TGo.dup dX9_tries_9 rfl ?_
    refine TGo.getI (t := 17) 4 4 (hB 61 (by decide)) rfl fgX9_50_9 dX9_tries_10 rfl rfl rfl ?_
    refine TGo.toz _ (hla.1) ?_
    refine TGo.ic1 dX9_tries_13 ?_
    refine TGo.iadd dX9_tries_14 ?_
    refine TGo.putI (t := 17) 4 4 (hB 61 (by decide)) rfl fpX9_50_9 dX9_tries_15 rfl rfl rfl ?_
    refine TGo.al0 dX9_tries_18 rfl ?_
    refine TGo.getI (t := 17) 6 6 (hB 61 (by decide)) rfl fgX9_41_9 dX9_tries_19 rfl rfl rfl ?_
    refine TGo.toz _ ((u2_n (Or.inr (by decide))).trans (hle.2.2.1)) ?_
    refine TGo.icm1 dX9_tries_22 ?_
    refine TGo.icmp_eq 39 dX9_tries_23 (by decide) (by omega) (fun h23 => ?_) (fun h23 => ?_)
    · refine TGo.vret dX9_tries_39 rfl ?_
      obtain rfl : r = 0 := by omega
      refine ⟨rfl, rfl, rfl, hR.sc (FrS.rf.i 61 (by omega)), FrN.rf.m (Or.inl rfl), hlw.a, u2_s, fun q => absurd (by assumption) q⟩
    · obtain rfl : k = n1 := by omega
      have hs1 := s1Z_in (r1 := r1) (S := S) hmo hof hrg.2 (fun i i0 i1 => hso.2.1 i i0 (by omega)) k (Nat.le_refl _)
      obtain ⟨b, hb⟩ : ∃ b : Nat, A.2 = (b : Int) := ⟨A.2.toNat, by have := hab.2.1; omega⟩
      obtain ⟨x, hx0, hx1, hx2⟩ := wbZ_or (W := Wd) (s1 := s1Z (z.2 3) o k N S r1 k) hcu hrg.1 (b := b) (by have := hab.2.2; omega) mo (by omega)
      have hor : iI A.2 ||| iI (wbZ Wd cu (s1Z (z.2 3) o k N S r1 k) 0 mo) = iI (wbZ Wd cu (s1Z (z.2 3) o k N S r1 k) A.2 mo) := by rw [hb, hx2, hx1]; exact iI_or2 b x (by have := hab.2.2; omega) hx0
      obtain ⟨-, -, hcm, -⟩ := id (hR.sc (V' := vI V (B + 61) 4 (A.1 + 1)) (FrS.rf.i 61 (by omega)))
      refine TGo.al0 dX9_tries_26 rfl ?_
      refine TGo.dup dX9_tries_27 rfl ?_
      refine TGo.getI (t := 17) 8 8 (hB 61 (by decide)) rfl fgX9_53_9 dX9_tries_28 rfl rfl rfl ?_
      refine TGo.toz _ ((u2_n (Or.inr (by decide))).trans ((hla.2 (by assumption)))) ?_
      refine TGo.al0 dX9_tries_31 rfl ?_
      refine TGo.cF (csV0 (y2 := mX9_wouldBe) (t := 17) 2 (Nat.ble_eq_true_of_le (by omega)) (hB 61 (by decide)) rfl rfl dX9_tries_32 q1744 q1746 qs36 okX9_wouldBe npX9_wouldBe rfl rfl) (kX9_wouldBe (r1 := r1) (S := S) hB hcm hn12 hof (hle.fr (FrN.rf.m (Or.inl rfl))) hcu hmo hrg hlw.a (by omega) hr1 hso hro hs1) ?_
      refine TGo.ior dX9_tries_35 ?_
      refine TGo.tos _ hor ?_
      refine TGo.putI (t := 17) 8 8 (hB 61 (by decide)) rfl fpX9_53_9 dX9_tries_36 rfl rfl rfl ?_
      refine TGo.vret dX9_tries_39 rfl ?_
      obtain rfl : r = 0 := by omega
      refine ⟨rfl, rfl, rfl, hR.sc ((FrS.rf.i 61 (by omega)).i 61 (by omega)), (FrN.rf.m (Or.inl rfl)).m (Or.inr rfl), hlw.a.a, (u2_n (Or.inr (by decide))).trans u2_s, fun _ => u2_s⟩
theorem LsOK.all {E : ET} : ∀ r : Nat, LsOK E r := by
  intro r
  induction r with
  | zero => intro sh nn V B ow z n1 mo k wt cu r1 at0 met o Wd N S A hR W hn1 hn12 hof hro hle hcu hmo hr1 hwt hrg hkr hso hat hmet hlw hla hab; exact eX9_tries hR W hn1 hn12 hof hro hle hcu hmo hr1 hwt hrg hkr hso hat hmet hlw hla hab (fun e he => by omega)
  | succ r ih => intro sh nn V B ow z n1 mo k wt cu r1 at0 met o Wd N S A hR W hn1 hn12 hof hro hle hcu hmo hr1 hwt hrg hkr hso hat hmet hlw hla hab; exact eX9_tries hR W hn1 hn12 hof hro hle hcu hmo hr1 hwt hrg hkr hso hat hmet hlw hla hab (fun e he => (show r = e by omega) ▸ ih)
