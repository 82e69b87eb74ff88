/-! THE MODEL: the parser reads a law -/
set_option maxRecDepth 100000
/-- the parser is in order between expressions -/
def YV (z : ZT) : Prop := YW (zi (zi z 24 0) 25 0) (z.1 9)
/-- the token is in order -/
def YT (z : ZT) : Prop := TPZ z ∧ TKO z ∧ (z.1 14 = 0 ∨ z.1 14 = 1)
theorem YV.yt {z : ZT} (Y : YV z) : YT z := ⟨Y.1, Y.2.1, Y.2.2.1⟩
theorem YV.b {z : ZT} (Y : YV z) : (0 ≤ z.1 9 ∧ z.1 9 ≤ z.1 8 ∧ z.1 8 ≤ 400) ∧ (0 ≤ z.1 18 ∧ z.1 18 ≤ z.1 9) ∧ (z.1 14 = 0 ∨ z.1 14 = 1) ∧ (0 ≤ z.1 16 ∧ z.1 16 ≤ 12) ∧ (0 ≤ z.1 10 ∧ z.1 10 ≤ z.1 8) ∧ 0 ≤ z.1 11 ∧ z.1 11 ≤ 3 := by
  have a1 : 0 ≤ z.1 9 ∧ z.1 9 ≤ z.1 8 ∧ z.1 8 ≤ 400 := ⟨Y.2.1.2.1, Y.2.1.2.2, Y.1.1.2⟩
  have a2 : 0 ≤ z.1 18 ∧ z.1 18 + 0 ≤ z.1 9 := ⟨Y.2.2.2.1.1.1, Y.2.2.2.1.1.2.2⟩
  have a3 : 0 ≤ z.1 16 ∧ z.1 16 ≤ 12 := Y.2.2.2.2.2.2
  have a4 := (show TKO z from Y.2.1).b (show TPZ z from Y.1)
  exact ⟨a1, by omega, Y.2.2.1, a3, by omega, a4.2.1⟩
theorem YV.mk {z : ZT} (h1 : TPZ z) (h2 : TKO z) (h3 : z.1 14 = 0 ∨ z.1 14 = 1) (h4 : 0 ≤ z.1 18 ∧ z.1 18 ≤ z.1 9) (h5 : 0 ≤ z.1 21 ∧ z.1 21 ≤ 50) (h6 : 0 ≤ z.1 16 ∧ z.1 16 ≤ 12) : YV z :=
  ⟨h1, h2, h3, ⟨⟨h4.1, Int.le_refl _, by show z.1 18 + 0 ≤ z.1 9; omega⟩, fun i q1 q2 => absurd (show i < 0 from q2) (by omega)⟩, h5, ⟨by show -z.1 9 ≤ 0; have := h2.2.1; omega, by show (0 : Int) ≤ 8; decide⟩, h6⟩
theorem YV.l {z : ZT} (Y : YV z) : 0 ≤ z.1 21 ∧ z.1 21 ≤ 50 := Y.2.2.2.2.1
theorem YW.yv {z : ZT} (Y : YW z (z.1 9)) : YV z := .mk Y.1 Y.2.1 Y.2.2.1 ⟨Y.2.2.2.1.1.1, by have := Y.2.2.2.1.1; omega⟩ Y.2.2.2.2.1 Y.2.2.2.2.2.2
theorem YV.n {z : ZT} (Y : YV z) : YV (neZ z) ∧ z.1 9 ≤ (neZ z).1 9 ∧ (z.1 11 ≠ 0 → z.1 9 + 1 ≤ (neZ z).1 9) := by
  have b := Y.b
  have t := (Y.yt.2.1).b Y.yt.1
  have s := skZ_b (P := z.2 7) (show z.1 10 ≤ z.1 8 by omega)
  have e : (neZ z).1 9 = skZ (z.2 7) (z.1 8) (z.1 10) := rfl
  refine ⟨.mk Y.yt.1 (neZ_t (by omega) (by omega)) Y.yt.2.2 ⟨b.2.1.1, ?_⟩ Y.l b.2.2.2.1, by omega, fun h => by have := t.1.2 h; omega⟩
  show z.1 18 ≤ (neZ z).1 9
  omega
theorem YV.m {z : ZT} {b : Int} (Y : YV z) : YV (muZ z b) ∧ z.1 9 ≤ (muZ z b).1 9 := by
  unfold muZ
  split
  · split
    · exact ⟨.mk Y.yt.1 Y.yt.2.1 (Or.inr rfl) Y.b.2.1 Y.l Y.b.2.2.2.1, Int.le_refl _⟩
    · exact ⟨Y.n.1, Y.n.2.1⟩
  · exact ⟨Y, Int.le_refl _⟩
/-- what reading an expression leaves alone -/
abbrev kOK (k : Int) : Bool := !(k == 9 || k == 10 || k == 11 || k == 12 || k == 13 || k == 14 || k == 18 || k == 21 || k == 24 || k == 25)
abbrev aOK (k : Nat) : Bool := !(k == 19 || k == 20 || k == 22 || k == 23)
def Sm (z z' : ZT) : Prop := (∀ k, kOK k = true → z'.1 k = z.1 k) ∧ ∀ k, aOK k = true → z'.2 k = z.2 k
theorem Sm.rf {z : ZT} : Sm z z := ⟨fun _ _ => rfl, fun _ _ => rfl⟩
theorem Sm.tr {z z1 z2 : ZT} (h : Sm z z1) (h2 : Sm z1 z2) : Sm z z2 := ⟨fun k hk => (h2.1 k hk).trans (h.1 k hk), fun k hk => (h2.2 k hk).trans (h.2 k hk)⟩
theorem Sm.i {z z' : ZT} {k v : Int} (h : Sm z z') (hk : kOK k = false) : Sm z (zi z' k v) := ⟨fun j hj => (if_neg (fun e => by subst e; rw [hk] at hj; exact absurd hj Bool.false_ne_true)).trans (h.1 j hj), h.2⟩
theorem Sm.a {z z' : ZT} {k : Nat} {i v : Int} (h : Sm z z') (hk : aOK k = false) : Sm z (za z' k i v) := ⟨h.1, fun j hj => (funext fun x => (u2_n (Or.inl (fun e => by subst e; rw [hk] at hj; exact absurd hj Bool.false_ne_true)) : u2 z'.2 k i v j x = z'.2 j x)).trans (h.2 j hj)⟩
theorem Sm.ne {z z' : ZT} (h : Sm z z') : Sm z (neZ z') := (((h.i rfl).i rfl).i rfl).i rfl
theorem Sm.mu {z z' : ZT} {b : Int} (h : Sm z z') : Sm z (muZ z' b) := by
  unfold muZ
  split
  · split
    · exact (h.i rfl).i rfl
    · exact h.ne
  · exact h
theorem Sm.em {z z' : ZT} {a b : Int} (h : Sm z z') : Sm z (emZ z' a b) := ((h.a rfl).a rfl).i rfl
theorem Sm.pu {z z' : ZT} {a b : Int} (h : Sm z z') : Sm z (puZ z' a b) := ((h.a rfl).a rfl).i rfl
theorem Sm.po {z z' : ZT} (h : Sm z z') : Sm z (po1 z') := by
  unfold po1
  split
  · exact (h.i rfl).a rfl
  · exact (h.i rfl).em
theorem Sm.se {l : Int} {z z' : ZT} (h : Sm z z') : Sm z (seZ l z') := by
  unfold seZ
  generalize (z'.1 24).toNat = n
  induction n generalizing z' with
  | zero => exact h
  | succ n ih =>
    show Sm z (if 0 < z'.1 24 ∧ l ≤ bdZ (z'.2 22 (z'.1 24 - 1)) then seF l n (po1 z') else z')
    split
    · exact ih h.po
    · exact h
theorem Sm.op {z z' : ZT} {op : Int} (h : Sm z z') : Sm z (opZ z' op) := by
  unfold opZ opZ1
  split
  · exact (h.mu.i rfl).pu
  · exact h.mu
theorem Sm.rp {z : ZT} : Sm z (rpZ z).2 := by
  unfold rpZ
  split
  · exact Sm.rf.op
  · show Sm z (leZ z _ _ _)
    unfold leZ leZ1
    split
    · exact Sm.rf.mu.em.i rfl
    · exact Sm.rf.mu
theorem Sm.cl {z z' : ZT} {l : Int} (h : Sm z z') : Sm z (clZ l z') := by
  unfold clZ
  split
  · exact (h.se.i rfl).i rfl
  · exact h
theorem Sm.an {z z' : ZT} {a : Int} (h : Sm z z') : Sm z (anZ z' a) := h.pu.em.ne
theorem Sm.xs {z : ZT} {test tu : Int} : Sm z (xsZ test tu z).2 := by
  unfold xsZ
  split
  · unfold plZ
    split
    · exact Sm.rf.pu.ne
    · split
      · exact Sm.rf.op
      · exact Sm.rp
  · split
    · exact Sm.rp
    · split
      · unfold bsZ
        split
        · exact Sm.rf.se.pu.ne
        · split
          · exact Sm.rf.mu.cl
          · split
            · exact Sm.rf
            · split
              · exact Sm.rf
              · show Sm z (cpZ1 _ _)
                unfold cpZ1
                split
                · exact Sm.rf.mu.se.pu
                · exact Sm.rf.mu
      · unfold btZ
        split
        · exact Sm.rf.se.an
        · split
          · exact Sm.rf.se.an
          · split
            · exact Sm.rf
            · exact Sm.rf.mu.cl
theorem Sm.rx {test : Int} : ∀ (n : Nat) (tu : Int) (z : ZT), Sm z (rxF test n tu z) := by
  intro n
  induction n with
  | zero => intro tu z; exact Sm.rf
  | succ n ih =>
    intro tu z
    rw [rxF_t]
    split
    · exact Sm.xs.tr (ih _ _)
    · exact Sm.rf
theorem Sm.ex {test : Int} {z : ZT} : Sm z (exZ test z) := ((((Sm.rf (z := z)).i rfl).i rfl).tr (Sm.rx 1000 _ _)).se
theorem rxY {test : Int} : ∀ (n : Nat) (tu : Int) (z : ZT), YW z (z.1 9) → (0 ≤ tu ∧ tu ≤ 4) → YW (rxF test n tu z) ((rxF test n tu z).1 9) ∧ z.1 9 ≤ (rxF test n tu z).1 9 := by
  intro n
  induction n with
  | zero => intro tu z Y _; exact ⟨Y, Int.le_refl _⟩
  | succ n ih =>
    intro tu z Y ht
    rw [rxF_t]
    split
    · rename_i h
      have X := xsS (test := test) (tu := tu) Y (by omega)
      have r := ih (xsZ test tu z).1 _ X.1 X.2.2.1
      exact ⟨r.1, by have := X.2.2.2.1; omega⟩
    · exact ⟨Y, Int.le_refl _⟩
theorem exY {test : Int} {z : ZT} (Y : YV z) : YV (exZ test z) ∧ z.1 9 ≤ (exZ test z).1 9 := by
  have r := rxY (test := test) 1000 (if test = 0 then 1 else 0) (zi (zi z 24 0) 25 0) Y (by split <;> omega)
  have e : (exZ test z).1 9 = (rxF test 1000 (if test = 0 then 1 else 0) (zi (zi z 24 0) 25 0)).1 9 := seZ_1 rfl
  have q := r.1.se (l := 1)
  rw [← e] at q
  exact ⟨YW.yv q, by rw [e]; exact r.2⟩
def beZ (z : ZT) : ZT := neZ (zi (zi (zi z 10 0) 14 0) 13 (-1))
def btxZ (z : ZT) (p : Int) : ZT := zi (zi (zi (beZ (zi z 15 p)) 16 0) 18 0) 21 0
theorem btxY {z : ZT} {p : Int} (h : TPZ z) : YV (btxZ z p) := by
  have q : TKO (neZ (zi (zi (zi (zi z 15 p) 10 0) 14 0) 13 (-1))) := neZ_t (z := zi (zi (zi (zi z 15 p) 10 0) 14 0) 13 (-1)) h.1.1 (Int.le_refl _)
  exact .mk h q (Or.inl rfl) ⟨Int.le_refl _, q.2.1⟩ ⟨Int.le_refl _, by show (0 : Int) ≤ 50; decide⟩ ⟨Int.le_refl _, by show (0 : Int) ≤ 12; decide⟩
def etZ (z : ZT) : ZT := zi (zi (if z.1 14 = 0 ∧ z.1 11 ≠ 0 then muZ z 0 else z) 15 0) 8 0
def headZ (z : ZT) : Int := if wdA z 20325907 then 0 else if wdA z 8902227 then 1 else if wdA z 67155 then 2 else -1
def zcl (z : ZT) (c : Int) : Nat → ZT
  | 0 => z
  | k + 1 => za (zcl z c k) 17 (c + (k : Int)) 0
def rl1 (m : ZT) (h : Int) : ZT := za (zi (za (zcl m (8 * m.1 16) 8) 17 (8 * m.1 16) h) 16 (m.1 16 + 1)) 17 (8 * m.1 16 + 3) (m.1 18)
def rl2 (h : Int) (z : ZT) : ZT := if h = 2 then z else exZ 0 z
def rl3 (c : Int) (z : ZT) : ZT := za (za z 17 (c + 4) (z.1 18)) 17 (c + 5) (z.1 18)
def rl4 (z : ZT) : ZT := if z.1 14 = 0 ∧ wdA z 294 then exZ 1 (neZ z) else z
def rl5 (c : Int) (z : ZT) : ZT := za z 17 (c + 6) (z.1 18)
def rlX (m : ZT) (h : Int) : ZT := rl5 (8 * m.1 16) (rl4 (rl3 (8 * m.1 16) (rl2 h (rl1 m h))))
def rlZ1 (m : ZT) (h : Int) : ZT := if m.1 14 = 0 then rlX m h else m
def rlZ (z : ZT) : ZT := rlZ1 (muZ z (bZ (headZ z ≠ -1 ∧ z.1 16 < 12))) (headZ z)
theorem za_2 {z : ZT} {k j : Nat} {i v : Int} (h : (j == k) = false) : (za z k i v).2 j = z.2 j := funext fun x => u2_n (Or.inl (by simpa using h))
theorem zcl_1 {z : ZT} {c : Int} : ∀ {k : Nat}, (zcl z c k).1 = z.1 ∧ ∀ j, (j == 17) = false → (zcl z c k).2 j = z.2 j := by
  intro k
  induction k with
  | zero => exact ⟨rfl, fun _ _ => rfl⟩
  | succ k ih => exact ⟨ih.1, fun j hj => (funext fun x => (u2_n (Or.inl (by simpa using hj)) : u2 (zcl z c k).2 17 _ 0 j x = (zcl z c k).2 j x)).trans (ih.2 j hj)⟩
theorem YV.o {z z' : ZT} (Y : YV z) (h : ∀ k : Int, (k == 16) = false → z'.1 k = z.1 k) (h7 : z'.2 7 = z.2 7) (h16 : 0 ≤ z'.1 16 ∧ z'.1 16 ≤ 12) : YV z' := by
  refine .mk (Y.yt.1.o (h 8 rfl) h7) ?_ ?_ ?_ ?_ h16
  · unfold TKO; rw [h 10 rfl, h 11 rfl, h 12 rfl, h 8 rfl, h 9 rfl, h7]; exact Y.yt.2.1
  · rw [h 14 rfl]; exact Y.yt.2.2
  · rw [h 18 rfl, h 9 rfl]; exact Y.b.2.1
  · rw [h 21 rfl]; exact Y.l
theorem YV.a {z : ZT} {k : Nat} {i v : Int} (Y : YV z) (hk : (k == 7) = false) : YV (za z k i v) := Y.o (fun _ _ => rfl) (funext fun x => (u2_n (Or.inl (fun e => by rw [← e] at hk; exact absurd hk (by decide))) : u2 z.2 k i v 7 x = z.2 7 x)) Y.b.2.2.2.1
theorem rl1Y {m : ZT} {h : Int} (Y : YV m) (h12 : m.1 16 < 12) : YV (rl1 m h) ∧ (rl1 m h).1 9 = m.1 9 := by
  have b := Y.b
  have e9 : (rl1 m h).1 9 = m.1 9 := by show (zcl m (8 * m.1 16) 8).1 9 = _; rw [zcl_1.1]
  have q : YV (zi (za (zcl m (8 * m.1 16) 8) 17 (8 * m.1 16) h) 16 (m.1 16 + 1)) := Y.o (fun k hk => by
      show (if k = 16 then _ else (zcl m (8 * m.1 16) 8).1 k) = _
      rw [if_neg (by simpa using hk), zcl_1.1]) (by
      show (za (zcl m (8 * m.1 16) 8) 17 (8 * m.1 16) h).2 7 = _
      rw [za_2 rfl]; exact zcl_1.2 7 rfl) (by show 0 ≤ m.1 16 + 1 ∧ m.1 16 + 1 ≤ 12; omega)
  exact ⟨q.a rfl, e9⟩
theorem rl4Y {z : ZT} (Y : YV z) : YV (rl4 z) ∧ z.1 9 ≤ (rl4 z).1 9 := by
  unfold rl4
  split
  · have a := exY (test := 1) Y.n.1
    exact ⟨a.1, by have := Y.n.2.1; omega⟩
  · exact ⟨Y, Int.le_refl _⟩
theorem rl2Y {z : ZT} {h : Int} (Y : YV z) : YV (rl2 h z) ∧ z.1 9 ≤ (rl2 h z).1 9 := by
  unfold rl2
  split
  · exact ⟨Y, Int.le_refl _⟩
  · exact exY Y
theorem rlXY {m : ZT} {h : Int} (Y : YV m) (h12 : m.1 16 < 12) : YV (rlX m h) ∧ m.1 9 ≤ (rlX m h).1 9 := by
  have a := rl1Y (h := h) Y h12
  have b := rl2Y (h := h) a.1
  have c : YV (rl3 (8 * m.1 16) (rl2 h (rl1 m h))) := (b.1.a rfl).a rfl
  have d := rl4Y c
  refine ⟨d.1.a rfl, ?_⟩
  have e : (rl2 h (rl1 m h)).1 9 ≤ (rl4 (rl3 (8 * m.1 16) (rl2 h (rl1 m h)))).1 9 := d.2
  show m.1 9 ≤ (rl4 (rl3 (8 * m.1 16) (rl2 h (rl1 m h)))).1 9
  omega
theorem rlY {z : ZT} (Y : YV z) : YV (rlZ z) ∧ z.1 9 ≤ (rlZ z).1 9 := by
  have M := Y.m (b := bZ (headZ z ≠ -1 ∧ z.1 16 < 12))
  unfold rlZ rlZ1
  split
  · rename_i h
    obtain ⟨e1, e2, e3⟩ := muZ_ok h
    have hc : headZ z ≠ -1 ∧ z.1 16 < 12 := Classical.byContradiction (fun c => e2 (bZ_f c))
    have r := rlXY (h := headZ z) M.1 (by rw [e3]; exact hc.2)
    exact ⟨r.1, by omega⟩
  · exact M
def lwF : Nat → ZT → ZT
  | 0, z => z
  | n + 1, z => if z.1 14 = 0 ∧ sgA z 59 then lwF n (rlZ (neZ z)) else z
/-- the clauses into the row -/
def lc1 (f : Int → Int) (at' : Int) (z : ZT) : Nat → ZT
  | 0 => z
  | k + 1 => za (lc1 f at' z k) 3 (at' + 2 + (k : Int)) (f (k : Int))
def lc2 (f g : Int → Int) (at' : Int) (z : ZT) : Nat → ZT
  | 0 => z
  | k + 1 => za (za (lc2 f g at' z k) 3 (at' + 98 + 2 * (k : Int)) (f (k : Int))) 3 (at' + 98 + 2 * (k : Int) + 1) (g (k : Int))
def lw9 (z : ZT) : ZT := za (lc2 (z.2 19) (z.2 20) (780 + 900 * z.2 3 3) (lc1 (z.2 17) (780 + 900 * z.2 3 3) (za z 3 (780 + 900 * z.2 3 3 + 1) (z.1 16)) (8 * z.1 16).toNat) (z.1 18).toNat) 3 3 (z.2 3 3 + 1)
def lwE (z : ZT) : Int × ZT := if z.1 14 = 0 then (z.2 3 3, zTell (lw9 z) (z.2 3 3)) else (-6, zTell z (-6))
def zp_law (z : ZT) : Int × ZT := if z.2 3 3 = 6 then (-5, zTell (zi z 8 0) (-5)) else lwE (etZ (lwF 500 (rlZ (btxZ z 0))))
set_option maxHeartbeats 4000000 in
theorem kX10_begin {E : ET} {sh : SHT} {nn : Nat × Nat} {V : VT} {T : Nat} {z : ZT} (hT : MSh T sh) (hz : PZ T V z) (Y : TPZ z) : TN E mX10_begin 3 [.ref T] sh nn V (fun V1 => PZ T V1 (beZ z)) := by
  refine TC.intro [some (.ref T)] rfl ?_
  refine TGo.al0 dX10_begin_0 rfl ?_
  refine TGo.ic0 dX10_begin_1 ?_
  refine TGo.putI (t := 18) 10 10 (hT 0 (by decide)) rfl fpX10_246_10 dX10_begin_2 rfl rfl rfl ?_
  refine TGo.al0 dX10_begin_5 rfl ?_
  refine TGo.ic0 dX10_begin_6 ?_
  refine TGo.putZ (t := 18) 14 14 (hT 0 (by decide)) rfl fpX10_249_10 dX10_begin_7 rfl ⟨rfl, (by first | exact Or.inl rfl | exact Or.inr rfl | exact bZ_or _ | assumption)⟩ rfl ?_
  refine TGo.al0 dX10_begin_10 rfl ?_
  refine TGo.icm1 dX10_begin_11 ?_
  refine TGo.putI (t := 18) 13 13 (hT 0 (by decide)) rfl fpX10_26_10 dX10_begin_12 rfl rfl rfl ?_
  refine TGo.al0 dX10_begin_15 rfl ?_
  refine TGo.cN (csV0 (y2 := mX10_next) (t := 18) 2 rfl (hT 0 (by decide)) rfl rfl dX10_begin_16 q2170 q2172 qs51 okX10_next npX10_next rfl rfl) (kX10_next hT (((hz.i rfl).i rfl).i rfl) Y (by show (0 : Int) ≤ 0 ∧ 0 ≤ z.1 8; have := Y.1; omega)) (fun V16 hz16 => ?_)
  refine TGo.vret dX10_begin_19 rfl ?_
  first
  | (exfalso; omega)
  | (refine ⟨rfl, rfl, rfl, PZ.eq hz16 ?_⟩
     unfold beZ
     (repeat (first | rw [if_pos (by first | rfl | assumption | omega)] | rw [if_neg (by first | decide | assumption | omega)]))
     (try first | rfl))
set_option maxHeartbeats 4000000 in
theorem kX10_beginText {E : ET} {sh : SHT} {nn : Nat × Nat} {V : VT} {T : Nat} {z : ZT} {p : Int} (hT : MSh T sh) (hz : PZ T V z) (Y : TPZ z) (hp : p = 0 ∨ p = 1) : TN E mX10_beginText 4 [.ref T, .int (iI p)] sh nn V (fun V1 => PZ T V1 (btxZ z p)) := by
  refine TC.intro [some (.ref T), some (.int (iI p))] rfl ?_
  refine TGo.al0 dX10_beginText_0 rfl ?_
  refine TGo.il1 dX10_beginText_1 rfl ?_
  refine TGo.putZ (t := 18) 15 15 (hT 0 (by decide)) rfl fpX10_326_10 dX10_beginText_2 rfl ⟨rfl, (by first | exact Or.inl rfl | exact Or.inr rfl | exact bZ_or _ | assumption)⟩ rfl ?_
  refine TGo.al0 dX10_beginText_5 rfl ?_
  refine TGo.cN (csV0 (y2 := mX10_begin) (t := 18) 3 rfl (hT 0 (by decide)) rfl rfl dX10_beginText_6 q2166 q2168 qs50 okX10_begin npX10_begin rfl rfl) (kX10_begin hT (hz.i rfl) Y) (fun V6 hz6 => ?_)
  refine TGo.al0 dX10_beginText_9 rfl ?_
  refine TGo.ic0 dX10_beginText_10 ?_
  refine TGo.putI (t := 18) 16 16 (hT 0 (by decide)) rfl fpX10_374_10 dX10_beginText_11 rfl rfl rfl ?_
  refine TGo.al0 dX10_beginText_14 rfl ?_
  refine TGo.ic0 dX10_beginText_15 ?_
  refine TGo.putI (t := 18) 18 18 (hT 0 (by decide)) rfl fpX10_288_10 dX10_beginText_16 rfl rfl rfl ?_
  refine TGo.al0 dX10_beginText_19 rfl ?_
  refine TGo.ic0 dX10_beginText_20 ?_
  refine TGo.putI (t := 18) 21 21 (hT 0 (by decide)) rfl fpX10_317_10 dX10_beginText_21 rfl rfl rfl ?_
  refine TGo.vret dX10_beginText_24 rfl ?_
  first
  | (exfalso; omega)
  | (refine ⟨rfl, rfl, rfl, PZ.eq (((hz6.i rfl).i rfl).i rfl) ?_⟩
     unfold btxZ
     (repeat (first | rw [if_pos (by first | rfl | assumption | omega)] | rw [if_neg (by first | decide | assumption | omega)]))
     (try first | rfl))
set_option maxHeartbeats 4000000 in
theorem kX10_mustT {E : ET} {sh : SHT} {nn : Nat × Nat} {V : VT} {T : Nat} {z : ZT} {b : Int} (hT : MSh T sh) (hz : PZ T V z) (Y : YT z) (hb : b = 0 ∨ b = 1) : TN E mX10_must 3 [.ref T, .int (iI b)] sh nn V (fun V1 => PZ T V1 (muZ z b)) := by
  have hYb := Y.2.2
  have hYt := Y.2.1.b Y.1
  have hYf := Y.2.1.2
  refine TC.intro [some (.ref T), some (.int (iI b))] rfl ?_
  refine TGo.al0 dX10_must_0 rfl ?_
  refine TGo.getI (t := 18) 14 14 (hT 0 (by decide)) rfl fgX10_249_10 dX10_must_1 rfl rfl rfl ?_
  refine TGo.toz _ (hz.1 14 rfl) ?_
  refine TGo.if_ne 24 dX10_must_4 (by decide) (by omega) (fun h4 => ?_) (fun h4 => ?_)
  · refine TGo.al0 dX10_must_24 rfl ?_
    refine TGo.getI (t := 18) 14 14 (hT 0 (by decide)) rfl fgX10_249_10 dX10_must_25 rfl rfl rfl ?_
    refine TGo.toz _ (hz.1 14 rfl) ?_
    refine TGo.if_ne 35 dX10_must_28 (by decide) (by omega) (fun h28 => ?_) (fun h28 => ?_)
    · refine TGo.vret dX10_must_35 rfl ?_
      first
      | (exfalso; omega)
      | (refine ⟨rfl, rfl, rfl, PZ.eq hz ?_⟩
         unfold muZ
         (repeat (first | rw [if_pos (by first | rfl | assumption | omega)] | rw [if_neg (by first | decide | assumption | omega)]))
         (try first | rfl))
    · refine TGo.al0 dX10_must_31 rfl ?_
      refine TGo.cN (csV0 (y2 := mX10_next) (t := 18) 2 rfl (hT 0 (by decide)) rfl rfl dX10_must_32 q2170 q2172 qs51 okX10_next npX10_next rfl rfl) (kX10_next hT hz Y.1 (by omega)) (fun V32 hz32 => ?_)
      refine TGo.vret dX10_must_35 rfl ?_
      first
      | (exfalso; omega)
      | (refine ⟨rfl, rfl, rfl, PZ.eq hz32 ?_⟩
         unfold muZ
         (repeat (first | rw [if_pos (by first | rfl | assumption | omega)] | rw [if_neg (by first | decide | assumption | omega)]))
         (try first | rfl))
  · refine TGo.il1 dX10_must_7 rfl ?_
    refine TGo.if_ne 24 dX10_must_8 (by decide) (by omega) (fun h8 => ?_) (fun h8 => ?_)
    · refine TGo.al0 dX10_must_24 rfl ?_
      refine TGo.getI (t := 18) 14 14 (hT 0 (by decide)) rfl fgX10_249_10 dX10_must_25 rfl rfl rfl ?_
      refine TGo.toz _ (hz.1 14 rfl) ?_
      refine TGo.if_ne 35 dX10_must_28 (by decide) (by omega) (fun h28 => ?_) (fun h28 => ?_)
      · refine TGo.vret dX10_must_35 rfl ?_
        first
        | (exfalso; omega)
        | (refine ⟨rfl, rfl, rfl, PZ.eq hz ?_⟩
           unfold muZ
           (repeat (first | rw [if_pos (by first | rfl | assumption | omega)] | rw [if_neg (by first | decide | assumption | omega)]))
           (try first | rfl))
      · refine TGo.al0 dX10_must_31 rfl ?_
        refine TGo.cN (csV0 (y2 := mX10_next) (t := 18) 2 rfl (hT 0 (by decide)) rfl rfl dX10_must_32 q2170 q2172 qs51 okX10_next npX10_next rfl rfl) (kX10_next hT hz Y.1 (by omega)) (fun V32 hz32 => ?_)
        refine TGo.vret dX10_must_35 rfl ?_
        first
        | (exfalso; omega)
        | (refine ⟨rfl, rfl, rfl, PZ.eq hz32 ?_⟩
           unfold muZ
           (repeat (first | rw [if_pos (by first | rfl | assumption | omega)] | rw [if_neg (by first | decide | assumption | omega)]))
           (try first | rfl))
    · refine TGo.al0 dX10_must_11 rfl ?_
      refine TGo.ic1 dX10_must_12 ?_
      refine TGo.putZ (t := 18) 14 14 (hT 0 (by decide)) rfl fpX10_249_10 dX10_must_13 rfl ⟨rfl, (by first | exact Or.inl rfl | exact Or.inr rfl | exact bZ_or _ | assumption)⟩ rfl ?_
      refine TGo.al0 dX10_must_16 rfl ?_
      refine TGo.al0 dX10_must_17 rfl ?_
      refine TGo.getI (t := 18) 9 9 (hT 0 (by decide)) rfl fgX10_256_10 dX10_must_18 rfl rfl rfl ?_
      refine TGo.toz _ ((u2_n (Or.inr (by decide))).trans (hz.1 9 rfl)) ?_
      refine TGo.putI (t := 18) 13 13 (hT 0 (by decide)) rfl fpX10_26_10 dX10_must_21 rfl rfl rfl ?_
      refine TGo.al0 dX10_must_24 rfl ?_
      refine TGo.getI (t := 18) 14 14 (hT 0 (by decide)) rfl fgX10_249_10 dX10_must_25 rfl rfl rfl ?_
      refine TGo.toz _ ((u2_n (Or.inr (by decide))).trans (u2_s)) ?_
      refine TGo.if_ne 35 dX10_must_28 (by decide) (by omega) (fun h28 => ?_) (fun h28 => ?_)
      · refine TGo.vret dX10_must_35 rfl ?_
        first
        | (exfalso; omega)
        | (refine ⟨rfl, rfl, rfl, PZ.eq ((hz.i rfl).i rfl) ?_⟩
           unfold muZ
           (repeat (first | rw [if_pos (by first | rfl | assumption | omega)] | rw [if_neg (by first | decide | assumption | omega)]))
           (try first | rfl))
      · refine TGo.al0 dX10_must_31 rfl ?_
        refine TGo.cN (csV0 (y2 := mX10_next) (t := 18) 2 rfl (hT 0 (by decide)) rfl rfl dX10_must_32 q2170 q2172 qs51 okX10_next npX10_next rfl rfl) (kX10_next hT ((hz.i rfl).i rfl) Y.1 (by omega)) (fun V32 hz32 => ?_)
        refine TGo.vret dX10_must_35 rfl ?_
        first
        | (exfalso; omega)
        | (refine ⟨rfl, rfl, rfl, PZ.eq hz32 ?_⟩
           unfold muZ
           (repeat (first | rw [if_pos (by first | rfl | assumption | omega)] | rw [if_neg (by first | decide | assumption | omega)]))
           (try first | rfl))
theorem qX10_isWordT {E : ET} {sh : SHT} {nn : Nat × Nat} {V : VT} {T : Nat} {z : ZT} {w : Int} (hT : MSh T sh) (hz : PZ T V z) (Y : YT z) (hw : -9223372036854775808 ≤ w ∧ w ≤ 9223372036854775807) : TF E mX10_isWord 1 [.ref T, .long (lI w)] sh nn V (.int (iI (bZ (wdA z w)))) := by
  have b := Y.2.1.b Y.1
  exact kX10_isWord hT hz.pe (hz.1 11 rfl) b.2.1 hz.2.2.2 (by omega) hw
theorem qX10_isSignT {E : ET} {sh : SHT} {nn : Nat × Nat} {V : VT} {T : Nat} {z : ZT} {c : Int} (hT : MSh T sh) (hz : PZ T V z) (Y : YT z) (hc : R32 c) : TF E mX10_isSign 1 [.ref T, .int (iI c)] sh nn V (.int (iI (bZ (sgA z c)))) := by
  have b := Y.2.1.b Y.1
  exact kX10_isSign hT hz.pe (hz.1 11 rfl) b.2.1 hz.2.2.2 (by omega) hc
set_option maxHeartbeats 4000000 in
theorem kX10_endText {E : ET} {sh : SHT} {nn : Nat × Nat} {V : VT} {T : Nat} {z : ZT} (hT : MSh T sh) (hz : PZ T V z) (Y : YV z) : TN E mX10_endText 4 [.ref T] sh nn V (fun V1 => PZ T V1 (etZ z)) := by
  have hb := Y.b
  refine TC.intro [some (.ref T)] rfl ?_
  refine TGo.al0 dX10_endText_0 rfl ?_
  refine TGo.getI (t := 18) 14 14 (hT 0 (by decide)) rfl fgX10_249_10 dX10_endText_1 rfl rfl rfl ?_
  refine TGo.toz _ (hz.1 14 rfl) ?_
  refine TGo.if_ne 19 dX10_endText_4 (by decide) (by omega) (fun h4 => ?_) (fun h4 => ?_)
  · refine TGo.al0 dX10_endText_19 rfl ?_
    refine TGo.ic0 dX10_endText_20 ?_
    refine TGo.putZ (t := 18) 15 15 (hT 0 (by decide)) rfl fpX10_326_10 dX10_endText_21 rfl ⟨rfl, (by first | exact Or.inl rfl | exact Or.inr rfl | exact bZ_or _ | assumption)⟩ rfl ?_
    refine TGo.al0 dX10_endText_24 rfl ?_
    refine TGo.ic0 dX10_endText_25 ?_
    refine TGo.putI (t := 18) 8 8 (hT 0 (by decide)) rfl fpX10_236_10 dX10_endText_26 rfl rfl rfl ?_
    refine TGo.vret dX10_endText_29 rfl ?_
    first
    | (exfalso; omega)
    | (refine ⟨rfl, rfl, rfl, PZ.eq ((hz.i rfl).i rfl) ?_⟩
       unfold etZ
       (repeat (first | rw [if_pos (by first | rfl | assumption | omega)] | rw [if_neg (by first | decide | assumption | omega)]))
       (try first | rfl))
  · refine TGo.al0 dX10_endText_7 rfl ?_
    refine TGo.getI (t := 18) 11 11 (hT 0 (by decide)) rfl fgX10_269_10 dX10_endText_8 rfl rfl rfl ?_
    refine TGo.toz _ (hz.1 11 rfl) ?_
    refine TGo.if_eq 19 dX10_endText_11 (by decide) (by omega) (fun h11 => ?_) (fun h11 => ?_)
    · refine TGo.al0 dX10_endText_19 rfl ?_
      refine TGo.ic0 dX10_endText_20 ?_
      refine TGo.putZ (t := 18) 15 15 (hT 0 (by decide)) rfl fpX10_326_10 dX10_endText_21 rfl ⟨rfl, (by first | exact Or.inl rfl | exact Or.inr rfl | exact bZ_or _ | assumption)⟩ rfl ?_
      refine TGo.al0 dX10_endText_24 rfl ?_
      refine TGo.ic0 dX10_endText_25 ?_
      refine TGo.putI (t := 18) 8 8 (hT 0 (by decide)) rfl fpX10_236_10 dX10_endText_26 rfl rfl rfl ?_
      refine TGo.vret dX10_endText_29 rfl ?_
      first
      | (exfalso; omega)
      | (refine ⟨rfl, rfl, rfl, PZ.eq ((hz.i rfl).i rfl) ?_⟩
         unfold etZ
         (repeat (first | rw [if_pos (by first | rfl | assumption | omega)] | rw [if_neg (by first | decide | assumption | omega)]))
         (try first | rfl))
    · refine TGo.al0 dX10_endText_14 rfl ?_
      refine TGo.ic0 dX10_endText_15 ?_
      refine TGo.cN (csV1 (y2 := mX10_must) (t := 18) 3 rfl (hT 0 (by decide)) rfl rfl dX10_endText_16 q2197 q2199 qs54 okX10_must npX10_must rfl rfl) (kX10_mustT hT hz Y.yt (by first | exact Or.inl rfl | exact Or.inr rfl | exact bZ_or _ | assumption)) (fun V16 hz16 => ?_)
      refine TGo.al0 dX10_endText_19 rfl ?_
      refine TGo.ic0 dX10_endText_20 ?_
      refine TGo.putZ (t := 18) 15 15 (hT 0 (by decide)) rfl fpX10_326_10 dX10_endText_21 rfl ⟨rfl, (by first | exact Or.inl rfl | exact Or.inr rfl | exact bZ_or _ | assumption)⟩ rfl ?_
      refine TGo.al0 dX10_endText_24 rfl ?_
      refine TGo.ic0 dX10_endText_25 ?_
      refine TGo.putI (t := 18) 8 8 (hT 0 (by decide)) rfl fpX10_236_10 dX10_endText_26 rfl rfl rfl ?_
      refine TGo.vret dX10_endText_29 rfl ?_
      first
      | (exfalso; omega)
      | (refine ⟨rfl, rfl, rfl, PZ.eq ((hz16.i rfl).i rfl) ?_⟩
         unfold etZ
         (repeat (first | rw [if_pos (by first | rfl | assumption | omega)] | rw [if_neg (by first | decide | assumption | omega)]))
         (try first | rfl))
set_option maxHeartbeats 4000000 in
theorem kX10_readExprV {E : ET} {sh : SHT} {nn : Nat × Nat} {V : VT} {T : Nat} {z : ZT} {test : Int} (hT : MSh T sh) (hz : PZ T V z) (Y : YV z) (h15 : z.1 15 = 0 ∨ z.1 15 = 1) (ht : test = 0 ∨ test = 1) : TN E mX10_readExpression 7 [.ref T, .int (iI test)] sh nn V (fun V1 => PZ T V1 (exZ test z)) := by
  have hle := Y.b.1
  refine TC.intro [some (.ref T), some (.int (iI test)), none] rfl ?_
  refine TGo.al0 dX10_readExpression_0 rfl ?_
  refine TGo.ic0 dX10_readExpression_1 ?_
  refine TGo.putI (t := 18) 24 24 (hT 0 (by decide)) rfl fpX10_291_10 dX10_readExpression_2 rfl rfl rfl ?_
  refine TGo.al0 dX10_readExpression_5 rfl ?_
  refine TGo.ic0 dX10_readExpression_6 ?_
  refine TGo.putI (t := 18) 25 25 (hT 0 (by decide)) rfl fpX10_311_10 dX10_readExpression_7 rfl rfl rfl ?_
  refine TGo.il1 dX10_readExpression_10 rfl ?_
  refine TGo.if_eq 18 dX10_readExpression_11 (by decide) (by omega) (fun h11 => ?_) (fun h11 => ?_)
  · refine TGo.ic1 dX10_readExpression_18 ?_
    refine TGo.is2 dX10_readExpression_19 rfl rfl ?_
    refine TGo.seq [some (.ref T), some (.int (iI test)), some (.int (iI (if test = 0 then 1 else 0)))] [] _ (by first | rw [if_pos (by assumption)]; rfl | rw [if_neg (by assumption)]; rfl) rfl rfl ?_
    exact lX10_readExpression hT ht 1000 999 _ _ _ (by omega) ((hz.i rfl).i rfl) Y h15 (by split <;> omega) (fun _ _ => by show 2 * (z.1 8 - z.1 9) + _ + 1 ≤ _; split <;> split <;> omega)
  · refine TGo.ic0 dX10_readExpression_14 ?_
    refine TGo.goto 19 dX10_readExpression_15 (by decide) ?_
    refine TGo.is2 dX10_readExpression_19 rfl rfl ?_
    refine TGo.seq [some (.ref T), some (.int (iI test)), some (.int (iI (if test = 0 then 1 else 0)))] [] _ (by first | rw [if_pos (by assumption)]; rfl | rw [if_neg (by assumption)]; rfl) rfl rfl ?_
    exact lX10_readExpression hT ht 1000 999 _ _ _ (by omega) ((hz.i rfl).i rfl) Y h15 (by split <;> omega) (fun _ _ => by show 2 * (z.1 8 - z.1 9) + _ + 1 ≤ _; split <;> split <;> omega)
set_option maxHeartbeats 4000000 in
theorem lX10_readLaw5 {E : ET} {sh : SHT} {nn : Nat × Nat} {T : Nat} {z : ZT} {V : VT} {h c : Int} (hT : MSh T sh) (hz : PZ T V z) (hc : 0 ≤ c ∧ c ≤ 88) : TGo E mX10_readLaw 8 195 [some (.ref T), some (.int (iI h)), some (.int (iI c)), some (.int (iI 8))] [] sh nn V (ZPN T sh nn (rl5 c z)) := by
  refine TGo.al0 dX10_readLaw_195 rfl ?_
  refine TGo.getS (t := 18) 17 17 (T + 6) (hT 0 (by decide)) rfl fgX10_30_10 dX10_readLaw_196 rfl rfl rfl ?_
  refine TGo.il2 dX10_readLaw_199 rfl ?_
  refine TGo.bip 6 dX10_readLaw_200 (by decide) ?_
  refine TGo.iadd dX10_readLaw_202 ?_
  refine TGo.al0 dX10_readLaw_203 rfl ?_
  refine TGo.getI (t := 18) 18 18 (hT 0 (by decide)) rfl fgX10_288_10 dX10_readLaw_204 rfl rfl rfl ?_
  refine TGo.toz _ (hz.1 18 rfl) ?_
  refine TGo.iast dX10_readLaw_207 (hT 6 (by decide)) (by omega) rfl ?_
  refine TGo.vret dX10_readLaw_208 rfl ?_
  first
  | (exfalso; omega)
  | (refine ⟨rfl, rfl, rfl, PZ.eq (hz.a 17 rfl rfl) ?_⟩
     unfold rl5
     (repeat (first | rw [if_pos (by first | rfl | assumption | omega)] | rw [if_neg (by first | decide | assumption | omega)]))
     (try first | rfl))
set_option maxHeartbeats 4000000 in
theorem lX10_readLaw4 {E : ET} {sh : SHT} {nn : Nat × Nat} {T : Nat} {z : ZT} {V : VT} {h c : Int} (hT : MSh T sh) (hz : PZ T V z) (hc : 0 ≤ c ∧ c ≤ 88) (Y : YV z) (h15 : z.1 15 = 0 ∨ z.1 15 = 1) : TGo E mX10_readLaw 8 169 [some (.ref T), some (.int (iI h)), some (.int (iI c)), some (.int (iI 8))] [] sh nn V (ZPN T sh nn (rl5 c (rl4 z))) := by
  have hb := Y.b
  refine TGo.al0 dX10_readLaw_169 rfl ?_
  refine TGo.getI (t := 18) 14 14 (hT 0 (by decide)) rfl fgX10_249_10 dX10_readLaw_170 rfl rfl rfl ?_
  refine TGo.toz _ (hz.1 14 rfl) ?_
  refine TGo.if_ne 195 dX10_readLaw_173 (by decide) (by omega) (fun h173 => ?_) (fun h173 => ?_)
  · refine (lX10_readLaw5 (h := h) hT hz hc).mono ?_
    rintro o sh' nn' V' ⟨q1, q2, q3, q4⟩
    refine ⟨q1, q2, q3, q4.eq ?_⟩
    unfold rl4
    first | rw [if_pos ⟨by omega, by assumption⟩] | rw [if_neg (fun q => by first | exact absurd q.1 (by assumption) | exact absurd q.2 (by assumption))]
  · refine TGo.al0 dX10_readLaw_176 rfl ?_
    refine TGo.ldc2 294 dX10_readLaw_177 q2271 (by decide) ?_
    refine TGo.cF (csV1 (y2 := mX10_isWord) (t := 18) 1 rfl (hT 0 (by decide)) rfl rfl dX10_readLaw_180 q2191 q2193 qs53 okX10_isWord npX10_isWord rfl rfl) (qX10_isWordT hT hz Y.yt (by omega)) ?_
    refine TGo.ifb_eq 195 dX10_readLaw_183 (by decide) (fun h183 => ?_) (fun h183 => ?_)
    · refine (lX10_readLaw5 (h := h) hT hz hc).mono ?_
      rintro o sh' nn' V' ⟨q1, q2, q3, q4⟩
      refine ⟨q1, q2, q3, q4.eq ?_⟩
      unfold rl4
      first | rw [if_pos ⟨by omega, by assumption⟩] | rw [if_neg (fun q => by first | exact absurd q.1 (by assumption) | exact absurd q.2 (by assumption))]
    · refine TGo.al0 dX10_readLaw_186 rfl ?_
      refine TGo.cN (csV0 (y2 := mX10_next) (t := 18) 2 rfl (hT 0 (by decide)) rfl rfl dX10_readLaw_187 q2170 q2172 qs51 okX10_next npX10_next rfl rfl) (kX10_next hT hz Y.yt.1 (by omega)) (fun V187 hz187 => ?_)
      refine TGo.al0 dX10_readLaw_190 rfl ?_
      refine TGo.ic1 dX10_readLaw_191 ?_
      refine TGo.cN (csV1 (y2 := mX10_readExpression) (t := 18) 7 rfl (hT 0 (by decide)) rfl rfl dX10_readLaw_192 q2201 q2203 qs55 okX10_readExpression npX10_readExpression rfl rfl) (kX10_readExprV hT hz187 Y.n.1 h15 (by first | exact Or.inl rfl | exact Or.inr rfl)) (fun V192 hz192 => ?_)
      refine (lX10_readLaw5 (h := h) hT hz192 hc).mono ?_
      rintro o sh' nn' V' ⟨q1, q2, q3, q4⟩
      refine ⟨q1, q2, q3, q4.eq ?_⟩
      unfold rl4
      first | rw [if_pos ⟨by omega, by assumption⟩] | rw [if_neg (fun q => by first | exact absurd q.1 (by assumption) | exact absurd q.2 (by assumption))]
set_option maxHeartbeats 4000000 in
theorem lX10_readLaw3 {E : ET} {sh : SHT} {nn : Nat × Nat} {T : Nat} {z : ZT} {V : VT} {h c : Int} (hT : MSh T sh) (hz : PZ T V z) (hc : 0 ≤ c ∧ c ≤ 88) (Y : YV z) (h15 : z.1 15 = 0 ∨ z.1 15 = 1) : TGo E mX10_readLaw 8 145 [some (.ref T), some (.int (iI h)), some (.int (iI c)), some (.int (iI 8))] [] sh nn V (ZPN T sh nn (rl5 c (rl4 (rl3 c z)))) := by
  refine TGo.al0 dX10_readLaw_145 rfl ?_
  refine TGo.getS (t := 18) 17 17 (T + 6) (hT 0 (by decide)) rfl fgX10_30_10 dX10_readLaw_146 rfl rfl rfl ?_
  refine TGo.il2 dX10_readLaw_149 rfl ?_
  refine TGo.ic4 dX10_readLaw_150 ?_
  refine TGo.iadd dX10_readLaw_151 ?_
  refine TGo.al0 dX10_readLaw_152 rfl ?_
  refine TGo.getI (t := 18) 18 18 (hT 0 (by decide)) rfl fgX10_288_10 dX10_readLaw_153 rfl rfl rfl ?_
  refine TGo.toz _ (hz.1 18 rfl) ?_
  refine TGo.iast dX10_readLaw_156 (hT 6 (by decide)) (by omega) rfl ?_
  refine TGo.al0 dX10_readLaw_157 rfl ?_
  refine TGo.getS (t := 18) 17 17 (T + 6) (hT 0 (by decide)) rfl fgX10_30_10 dX10_readLaw_158 rfl rfl rfl ?_
  refine TGo.il2 dX10_readLaw_161 rfl ?_
  refine TGo.ic5 dX10_readLaw_162 ?_
  refine TGo.iadd dX10_readLaw_163 ?_
  refine TGo.al0 dX10_readLaw_164 rfl ?_
  refine TGo.getI (t := 18) 18 18 (hT 0 (by decide)) rfl fgX10_288_10 dX10_readLaw_165 rfl rfl rfl ?_
  refine TGo.toz _ ((u2_n (Or.inl (by omega))).trans (hz.1 18 rfl)) ?_
  refine TGo.iast dX10_readLaw_168 (hT 6 (by decide)) (by omega) rfl ?_
  exact lX10_readLaw4 (h := h) hT ((hz.a 17 rfl rfl).a 17 rfl rfl) hc ((Y.a rfl).a rfl) h15
set_option maxHeartbeats 4000000 in
theorem lX10_readLaw2 {E : ET} {sh : SHT} {nn : Nat × Nat} {T : Nat} {z : ZT} {V : VT} {h : Int} {m : ZT} (hT : MSh T sh) (hz : PZ T V (zcl m (8 * m.1 16) 8)) (Y : YV m) (h15 : m.1 15 = 0 ∨ m.1 15 = 1) (h12 : m.1 16 < 12) (hh : 0 ≤ h ∧ h ≤ 2) : TGo E mX10_readLaw 8 106 [some (.ref T), some (.int (iI h)), some (.int (iI (8 * m.1 16))), some (.int (iI 8))] [] sh nn V (ZPN T sh nn (rlX m h)) := by
  have hb := Y.b
  have e16 : (zcl m (8 * m.1 16) 8).1 16 = m.1 16 := by rw [zcl_1.1]
  have e18 : (zcl m (8 * m.1 16) 8).1 18 = m.1 18 := by rw [zcl_1.1]
  have A := rl1Y (h := h) Y h12
  have e15 : (rl1 m h).1 15 = m.1 15 := by show (zcl m (8 * m.1 16) 8).1 15 = _; rw [zcl_1.1]
  refine TGo.al0 dX10_readLaw_106 rfl ?_
  refine TGo.getS (t := 18) 17 17 (T + 6) (hT 0 (by decide)) rfl fgX10_30_10 dX10_readLaw_107 rfl rfl rfl ?_
  refine TGo.il2 dX10_readLaw_110 rfl ?_
  refine TGo.il1 dX10_readLaw_111 rfl ?_
  refine TGo.iast dX10_readLaw_112 (hT 6 (by decide)) (by omega) rfl ?_
  refine TGo.al0 dX10_readLaw_113 rfl ?_
  refine TGo.dup dX10_readLaw_114 rfl ?_
  refine TGo.getI (t := 18) 16 16 (hT 0 (by decide)) rfl fgX10_374_10 dX10_readLaw_115 rfl rfl rfl ?_
  refine TGo.toz _ ((u2_n (Or.inl (by omega))).trans (hz.1 16 rfl)) ?_
  refine TGo.toz (m.1 16) e16 ?_
  refine TGo.ic1 dX10_readLaw_118 ?_
  refine TGo.iadd dX10_readLaw_119 ?_
  refine TGo.putI (t := 18) 16 16 (hT 0 (by decide)) rfl fpX10_374_10 dX10_readLaw_120 rfl rfl rfl ?_
  refine TGo.al0 dX10_readLaw_123 rfl ?_
  refine TGo.getS (t := 18) 17 17 (T + 6) (hT 0 (by decide)) rfl fgX10_30_10 dX10_readLaw_124 rfl rfl rfl ?_
  refine TGo.il2 dX10_readLaw_127 rfl ?_
  refine TGo.ic3 dX10_readLaw_128 ?_
  refine TGo.iadd dX10_readLaw_129 ?_
  refine TGo.al0 dX10_readLaw_130 rfl ?_
  refine TGo.getI (t := 18) 18 18 (hT 0 (by decide)) rfl fgX10_288_10 dX10_readLaw_131 rfl rfl rfl ?_
  refine TGo.toz _ ((u2_n (Or.inr (by decide))).trans ((u2_n (Or.inl (by omega))).trans (hz.1 18 rfl))) ?_
  refine TGo.toz (m.1 18) e18 ?_
  refine TGo.iast dX10_readLaw_134 (hT 6 (by decide)) (by omega) rfl ?_
  have hz1 : PZ T _ (rl1 m h) := (((hz.a 17 rfl rfl).i rfl).a 17 rfl rfl)
  refine TGo.il1 dX10_readLaw_135 rfl ?_
  refine TGo.ic2 dX10_readLaw_136 ?_
  refine TGo.icmp_eq 145 dX10_readLaw_137 (by decide) (by omega) (fun h137 => ?_) (fun h137 => ?_)
  · have B := rl2Y (h := h) A.1
    have e15b : (rl2 h (rl1 m h)).1 15 = m.1 15 := by
      unfold rl2
      by_cases e : h = 2
      · rw [if_pos e]; exact e15
      · rw [if_neg e]; exact (Sm.ex.1 15 rfl).trans e15
    refine (lX10_readLaw3 (z := rl2 h (rl1 m h)) (h := h) (c := 8 * m.1 16) hT ((hz1).eq (by unfold rl2; first | rw [if_pos (by assumption)] | rw [if_neg (by assumption)])) (by omega) B.1 (by rw [e15b]; exact h15)).mono ?_
    exact fun o sh' nn' V' q => q
  · refine TGo.al0 dX10_readLaw_140 rfl ?_
    refine TGo.ic0 dX10_readLaw_141 ?_
    refine TGo.cN (csV1 (y2 := mX10_readExpression) (t := 18) 7 rfl (hT 0 (by decide)) rfl rfl dX10_readLaw_142 q2201 q2203 qs55 okX10_readExpression npX10_readExpression rfl rfl) (kX10_readExprV hT hz1 A.1 (by rw [e15]; exact h15) (by first | exact Or.inl rfl | exact Or.inr rfl)) (fun V142 hz142 => ?_)
    have B := rl2Y (h := h) A.1
    have e15b : (rl2 h (rl1 m h)).1 15 = m.1 15 := by
      unfold rl2
      by_cases e : h = 2
      · rw [if_pos e]; exact e15
      · rw [if_neg e]; exact (Sm.ex.1 15 rfl).trans e15
    refine (lX10_readLaw3 (z := rl2 h (rl1 m h)) (h := h) (c := 8 * m.1 16) hT ((hz142).eq (by unfold rl2; first | rw [if_pos (by assumption)] | rw [if_neg (by assumption)])) (by omega) B.1 (by rw [e15b]; exact h15)).mono ?_
    exact fun o sh' nn' V' q => q
set_option maxHeartbeats 4000000 in
theorem lX10_readLaw1 {E : ET} {sh : SHT} {nn : Nat × Nat} {T : Nat} {m : ZT} {h : Int} (hT : MSh T sh) (Y : YV m) (h15 : m.1 15 = 0 ∨ m.1 15 = 1) (h12 : m.1 16 < 12) (hh : 0 ≤ h ∧ h ≤ 2) : ∀ (n k : Nat) (V : VT), 8 - k < n → k ≤ 8 → PZ T V (zcl m (8 * m.1 16) k) → TGo E mX10_readLaw 8 85 [some (.ref T), some (.int (iI h)), some (.int (iI (8 * m.1 16))), some (.int (iI (k : Int)))] [] sh nn V (ZPN T sh nn (rlX m h)) := by
  intro n
  induction n with
  | zero => intro k V hn; omega
  | succ n ih =>
    intro k V hn hk hz
    have hb := Y.b
    refine TGo.il3 dX10_readLaw_85 rfl ?_
    refine TGo.bip 8 dX10_readLaw_86 (by decide) ?_
    refine TGo.icmp_ge 106 dX10_readLaw_88 (by decide) (by omega) (fun h88 => ?_) (fun h88 => ?_)
    · obtain rfl : k = 8 := by omega
      exact lX10_readLaw2 (z := m) hT hz Y h15 h12 hh
    · refine TGo.al0 dX10_readLaw_91 rfl ?_
      refine TGo.getS (t := 18) 17 17 (T + 6) (hT 0 (by decide)) rfl fgX10_30_10 dX10_readLaw_92 rfl rfl rfl ?_
      refine TGo.il2 dX10_readLaw_95 rfl ?_
      refine TGo.il3 dX10_readLaw_96 rfl ?_
      refine TGo.iadd dX10_readLaw_97 ?_
      refine TGo.ic0 dX10_readLaw_98 ?_
      refine TGo.iast dX10_readLaw_99 (hT 6 (by decide)) (by omega) rfl ?_
      refine TGo.iinc dX10_readLaw_100 rfl rfl rfl ?_
      refine TGo.goto 85 dX10_readLaw_103 (by decide) ?_
      exact TGo.seq [some (.ref T), some (.int (iI h)), some (.int (iI (8 * m.1 16))), some (.int (iI ((k + 1 : Nat) : Int)))] [] _ rfl rfl rfl (ih (k + 1) _ (by omega) (by omega) (hz.a 17 rfl rfl))
theorem headZ_r {z : ZT} : -1 ≤ headZ z ∧ headZ z ≤ 2 := by
  unfold headZ
  (repeat' split) <;> omega
set_option maxHeartbeats 4000000 in
theorem lX10_readLaw0 {E : ET} {sh : SHT} {nn : Nat × Nat} {T : Nat} {z : ZT} {V : VT} (hT : MSh T sh) (hz : PZ T V z) (Y : YV z) (h15 : z.1 15 = 0 ∨ z.1 15 = 1) : TGo E mX10_readLaw 8 43 [some (.ref T), none, none, none] [.int (iI (headZ z))] sh nn V (ZPN T sh nn (rlZ z)) := by
  have hb := Y.b
  have hr := @headZ_r z
  have M := Y.m (b := bZ (headZ z ≠ -1 ∧ z.1 16 < 12))
  have Mb := M.1.b
  have S15 : (muZ z (bZ (headZ z ≠ -1 ∧ z.1 16 < 12))).1 15 = z.1 15 := Sm.rf.mu.1 15 rfl
  have S16 : (muZ z (bZ (headZ z ≠ -1 ∧ z.1 16 < 12))).1 16 = z.1 16 := Sm.rf.mu.1 16 rfl
  refine TGo.is1 dX10_readLaw_43 rfl rfl ?_
  refine TGo.al0 dX10_readLaw_44 rfl ?_
  refine TGo.il1 dX10_readLaw_45 rfl ?_
  refine TGo.icm1 dX10_readLaw_46 ?_
  refine TGo.icmp_eq 63 dX10_readLaw_47 (by decide) (by omega) (fun h47 => ?_) (fun h47 => ?_)
  · refine TGo.ic0 dX10_readLaw_63 ?_
    refine TGo.toz (bZ (headZ z ≠ -1 ∧ z.1 16 < 12)) (by first | exact (bZ_t (by first | assumption | omega)).symm | exact (bZ_f (by first | assumption | omega)).symm) ?_
    refine TGo.cN (csV1 (y2 := mX10_must) (t := 18) 3 rfl (hT 0 (by decide)) rfl rfl dX10_readLaw_64 q2197 q2199 qs54 okX10_must npX10_must rfl rfl) (kX10_mustT hT hz Y.yt (by first | exact Or.inl rfl | exact Or.inr rfl | exact bZ_or _ | assumption)) (fun V64 hz64 => ?_)
    refine TGo.al0 dX10_readLaw_67 rfl ?_
    refine TGo.getI (t := 18) 14 14 (hT 0 (by decide)) rfl fgX10_249_10 dX10_readLaw_68 rfl rfl rfl ?_
    refine TGo.toz _ (hz64.1 14 rfl) ?_
    refine TGo.if_eq 75 dX10_readLaw_71 (by decide) (by omega) (fun h71 => ?_) (fun h71 => ?_)
    · obtain ⟨e1, e2, e3⟩ := muZ_ok (z := z) (b := bZ (headZ z ≠ -1 ∧ z.1 16 < 12)) (by omega)
      have hc : headZ z ≠ -1 ∧ z.1 16 < 12 := Classical.byContradiction (fun c => e2 (bZ_f c))
      refine TGo.bip 8 dX10_readLaw_75 (by decide) ?_
      refine TGo.al0 dX10_readLaw_77 rfl ?_
      refine TGo.getI (t := 18) 16 16 (hT 0 (by decide)) rfl fgX10_374_10 dX10_readLaw_78 rfl rfl rfl ?_
      refine TGo.toz _ (hz64.1 16 rfl) ?_
      refine TGo.imul dX10_readLaw_81 ?_
      refine TGo.is2 dX10_readLaw_82 rfl rfl ?_
      refine TGo.ic0 dX10_readLaw_83 ?_
      refine TGo.is3 dX10_readLaw_84 rfl rfl ?_
      unfold rlZ rlZ1
      rw [if_pos (show (muZ z (bZ (headZ z ≠ -1 ∧ z.1 16 < 12))).1 14 = 0 by omega)]
      exact lX10_readLaw1 hT M.1 (by rw [S15]; exact h15) (by omega) (by omega) 9 0 _ (by omega) (by omega) hz64
    · refine TGo.vret dX10_readLaw_74 rfl ?_
      first
      | (exfalso; omega)
      | (refine ⟨rfl, rfl, rfl, PZ.eq hz64 ?_⟩
         unfold rlZ rlZ1
         (repeat (first | rw [if_pos (by first | rfl | assumption | omega)] | rw [if_neg (by first | decide | assumption | omega)]))
         (try first | rfl))
  · refine TGo.al0 dX10_readLaw_50 rfl ?_
    refine TGo.getI (t := 18) 16 16 (hT 0 (by decide)) rfl fgX10_374_10 dX10_readLaw_51 rfl rfl rfl ?_
    refine TGo.toz _ (hz.1 16 rfl) ?_
    refine TGo.bip 12 dX10_readLaw_54 (by decide) ?_
    refine TGo.icmp_ge 63 dX10_readLaw_56 (by decide) (by omega) (fun h56 => ?_) (fun h56 => ?_)
    · refine TGo.ic0 dX10_readLaw_63 ?_
      refine TGo.toz (bZ (headZ z ≠ -1 ∧ z.1 16 < 12)) (by first | exact (bZ_t (by first | assumption | omega)).symm | exact (bZ_f (by first | assumption | omega)).symm) ?_
      refine TGo.cN (csV1 (y2 := mX10_must) (t := 18) 3 rfl (hT 0 (by decide)) rfl rfl dX10_readLaw_64 q2197 q2199 qs54 okX10_must npX10_must rfl rfl) (kX10_mustT hT hz Y.yt (by first | exact Or.inl rfl | exact Or.inr rfl | exact bZ_or _ | assumption)) (fun V64 hz64 => ?_)
      refine TGo.al0 dX10_readLaw_67 rfl ?_
      refine TGo.getI (t := 18) 14 14 (hT 0 (by decide)) rfl fgX10_249_10 dX10_readLaw_68 rfl rfl rfl ?_
      refine TGo.toz _ (hz64.1 14 rfl) ?_
      refine TGo.if_eq 75 dX10_readLaw_71 (by decide) (by omega) (fun h71 => ?_) (fun h71 => ?_)
      · obtain ⟨e1, e2, e3⟩ := muZ_ok (z := z) (b := bZ (headZ z ≠ -1 ∧ z.1 16 < 12)) (by omega)
        have hc : headZ z ≠ -1 ∧ z.1 16 < 12 := Classical.byContradiction (fun c => e2 (bZ_f c))
        refine TGo.bip 8 dX10_readLaw_75 (by decide) ?_
        refine TGo.al0 dX10_readLaw_77 rfl ?_
        refine TGo.getI (t := 18) 16 16 (hT 0 (by decide)) rfl fgX10_374_10 dX10_readLaw_78 rfl rfl rfl ?_
        refine TGo.toz _ (hz64.1 16 rfl) ?_
        refine TGo.imul dX10_readLaw_81 ?_
        refine TGo.is2 dX10_readLaw_82 rfl rfl ?_
        refine TGo.ic0 dX10_readLaw_83 ?_
        refine TGo.is3 dX10_readLaw_84 rfl rfl ?_
        unfold rlZ rlZ1
        rw [if_pos (show (muZ z (bZ (headZ z ≠ -1 ∧ z.1 16 < 12))).1 14 = 0 by omega)]
        exact lX10_readLaw1 hT M.1 (by rw [S15]; exact h15) (by omega) (by omega) 9 0 _ (by omega) (by omega) hz64
      · refine TGo.vret dX10_readLaw_74 rfl ?_
        first
        | (exfalso; omega)
        | (refine ⟨rfl, rfl, rfl, PZ.eq hz64 ?_⟩
           unfold rlZ rlZ1
           (repeat (first | rw [if_pos (by first | rfl | assumption | omega)] | rw [if_neg (by first | decide | assumption | omega)]))
           (try first | rfl))
    · refine TGo.ic1 dX10_readLaw_59 ?_
      refine TGo.goto 64 dX10_readLaw_60 (by decide) ?_
      refine TGo.toz (bZ (headZ z ≠ -1 ∧ z.1 16 < 12)) (by first | exact (bZ_t (by first | assumption | omega)).symm | exact (bZ_f (by first | assumption | omega)).symm) ?_
      refine TGo.cN (csV1 (y2 := mX10_must) (t := 18) 3 rfl (hT 0 (by decide)) rfl rfl dX10_readLaw_64 q2197 q2199 qs54 okX10_must npX10_must rfl rfl) (kX10_mustT hT hz Y.yt (by first | exact Or.inl rfl | exact Or.inr rfl | exact bZ_or _ | assumption)) (fun V64 hz64 => ?_)
      refine TGo.al0 dX10_readLaw_67 rfl ?_
      refine TGo.getI (t := 18) 14 14 (hT 0 (by decide)) rfl fgX10_249_10 dX10_readLaw_68 rfl rfl rfl ?_
      refine TGo.toz _ (hz64.1 14 rfl) ?_
      refine TGo.if_eq 75 dX10_readLaw_71 (by decide) (by omega) (fun h71 => ?_) (fun h71 => ?_)
      · obtain ⟨e1, e2, e3⟩ := muZ_ok (z := z) (b := bZ (headZ z ≠ -1 ∧ z.1 16 < 12)) (by omega)
        have hc : headZ z ≠ -1 ∧ z.1 16 < 12 := Classical.byContradiction (fun c => e2 (bZ_f c))
        refine TGo.bip 8 dX10_readLaw_75 (by decide) ?_
        refine TGo.al0 dX10_readLaw_77 rfl ?_
        refine TGo.getI (t := 18) 16 16 (hT 0 (by decide)) rfl fgX10_374_10 dX10_readLaw_78 rfl rfl rfl ?_
        refine TGo.toz _ (hz64.1 16 rfl) ?_
        refine TGo.imul dX10_readLaw_81 ?_
        refine TGo.is2 dX10_readLaw_82 rfl rfl ?_
        refine TGo.ic0 dX10_readLaw_83 ?_
        refine TGo.is3 dX10_readLaw_84 rfl rfl ?_
        unfold rlZ rlZ1
        rw [if_pos (show (muZ z (bZ (headZ z ≠ -1 ∧ z.1 16 < 12))).1 14 = 0 by omega)]
        exact lX10_readLaw1 hT M.1 (by rw [S15]; exact h15) (by omega) (by omega) 9 0 _ (by omega) (by omega) hz64
      · refine TGo.vret dX10_readLaw_74 rfl ?_
        first
        | (exfalso; omega)
        | (refine ⟨rfl, rfl, rfl, PZ.eq hz64 ?_⟩
           unfold rlZ rlZ1
           (repeat (first | rw [if_pos (by first | rfl | assumption | omega)] | rw [if_neg (by first | decide | assumption | omega)]))
           (try first | rfl))
set_option maxHeartbeats 4000000 in
theorem kX10_readLaw {E : ET} {sh : SHT} {nn : Nat × Nat} {V : VT} {T : Nat} {z : ZT} (hT : MSh T sh) (hz : PZ T V z) (Y : YV z) (h15 : z.1 15 = 0 ∨ z.1 15 = 1) : TN E mX10_readLaw 8 [.ref T] sh nn V (fun V1 => PZ T V1 (rlZ z)) := by
  refine TC.intro [some (.ref T), none, none, none] rfl ?_
  refine TGo.al0 dX10_readLaw_0 rfl ?_
  refine TGo.ldc2 20325907 dX10_readLaw_1 q2190 (by decide) ?_
  refine TGo.cF (csV1 (y2 := mX10_isWord) (t := 18) 1 rfl (hT 0 (by decide)) rfl rfl dX10_readLaw_4 q2191 q2193 qs53 okX10_isWord npX10_isWord rfl rfl) (qX10_isWordT hT hz Y.yt (by omega)) ?_
  refine TGo.ifb_eq 14 dX10_readLaw_7 (by decide) (fun h7 => ?_) (fun h7 => ?_)
  · refine TGo.al0 dX10_readLaw_14 rfl ?_
    refine TGo.ldc2 8902227 dX10_readLaw_15 q2195 (by decide) ?_
    refine TGo.cF (csV1 (y2 := mX10_isWord) (t := 18) 1 rfl (hT 0 (by decide)) rfl rfl dX10_readLaw_18 q2191 q2193 qs53 okX10_isWord npX10_isWord rfl rfl) (qX10_isWordT hT hz Y.yt (by omega)) ?_
    refine TGo.ifb_eq 28 dX10_readLaw_21 (by decide) (fun h21 => ?_) (fun h21 => ?_)
    · refine TGo.al0 dX10_readLaw_28 rfl ?_
      refine TGo.ldc2 67155 dX10_readLaw_29 q2196 (by decide) ?_
      refine TGo.cF (csV1 (y2 := mX10_isWord) (t := 18) 1 rfl (hT 0 (by decide)) rfl rfl dX10_readLaw_32 q2191 q2193 qs53 okX10_isWord npX10_isWord rfl rfl) (qX10_isWordT hT hz Y.yt (by omega)) ?_
      refine TGo.ifb_eq 42 dX10_readLaw_35 (by decide) (fun h35 => ?_) (fun h35 => ?_)
      · refine TGo.icm1 dX10_readLaw_42 ?_
        refine TGo.toz (headZ z) (by unfold headZ; (repeat (first | rw [if_pos (by assumption)] | rw [if_neg (by assumption)])); try rfl) ?_
        exact lX10_readLaw0 hT hz Y h15
      · refine TGo.ic2 dX10_readLaw_38 ?_
        refine TGo.goto 43 dX10_readLaw_39 (by decide) ?_
        refine TGo.toz (headZ z) (by unfold headZ; (repeat (first | rw [if_pos (by assumption)] | rw [if_neg (by assumption)])); try rfl) ?_
        exact lX10_readLaw0 hT hz Y h15
    · refine TGo.ic1 dX10_readLaw_24 ?_
      refine TGo.goto 43 dX10_readLaw_25 (by decide) ?_
      refine TGo.toz (headZ z) (by unfold headZ; (repeat (first | rw [if_pos (by assumption)] | rw [if_neg (by assumption)])); try rfl) ?_
      exact lX10_readLaw0 hT hz Y h15
  · refine TGo.ic0 dX10_readLaw_10 ?_
    refine TGo.goto 43 dX10_readLaw_11 (by decide) ?_
    refine TGo.toz (headZ z) (by unfold headZ; (repeat (first | rw [if_pos (by assumption)] | rw [if_neg (by assumption)])); try rfl) ?_
    exact lX10_readLaw0 hT hz Y h15
theorem lc1_1 {f : Int → Int} {a : Int} {z : ZT} : ∀ {k : Nat}, (lc1 f a z k).1 = z.1 ∧ (∀ j, (j == 3) = false → (lc1 f a z k).2 j = z.2 j) ∧ (3 < a → (lc1 f a z k).2 3 3 = z.2 3 3) := by
  intro k
  induction k with
  | zero => exact ⟨rfl, fun _ _ => rfl, fun _ => rfl⟩
  | succ k ih => exact ⟨ih.1, fun j hj => (za_2 hj).trans (ih.2.1 j hj), fun h => (u2_n (Or.inr (by omega)) : u2 (lc1 f a z k).2 3 (a + 2 + (k : Int)) (f k) 3 3 = _).trans (ih.2.2 h)⟩
theorem lc2_1 {f g : Int → Int} {a : Int} {z : ZT} : ∀ {k : Nat}, (lc2 f g a z k).1 = z.1 ∧ (∀ j, (j == 3) = false → (lc2 f g a z k).2 j = z.2 j) ∧ (3 < a → (lc2 f g a z k).2 3 3 = z.2 3 3) := by
  intro k
  induction k with
  | zero => exact ⟨rfl, fun _ _ => rfl, fun _ => rfl⟩
  | succ k ih => exact ⟨ih.1, fun j hj => ((za_2 hj).trans (za_2 hj)).trans (ih.2.1 j hj), fun h => ((u2_n (Or.inr (by omega)) : u2 (za (lc2 f g a z k) 3 (a + 98 + 2 * (k : Int)) (f k)).2 3 (a + 98 + 2 * (k : Int) + 1) (g k) 3 3 = _).trans (u2_n (Or.inr (by omega)) : u2 (lc2 f g a z k).2 3 (a + 98 + 2 * (k : Int)) (f k) 3 3 = _)).trans (ih.2.2 h)⟩
set_option maxHeartbeats 4000000 in
theorem lX10_law3 {E : ET} {sh : SHT} {nn : Nat × Nat} {T : Nat} {y : ZT} {V : VT} {k : Int} (hT : MSh T sh) (h16 : 0 ≤ y.1 16 ∧ y.1 16 ≤ 12) (h18 : 0 ≤ y.1 18 ∧ y.1 18 ≤ 400) (h3 : 0 ≤ y.2 3 3 ∧ y.2 3 3 < 6) (hz : PZ T V (lc2 (y.2 19) (y.2 20) (780 + 900 * y.2 3 3) (lc1 (y.2 17) (780 + 900 * y.2 3 3) (za y 3 (780 + 900 * y.2 3 3 + 1) (y.1 16)) (8 * y.1 16).toNat) (y.1 18).toNat)) : TGo E mX10_law 9 200 [some (.ref T), some (.int (iI (780 + 900 * y.2 3 3))), some (.int (iI k))] [] sh nn V (ZP T sh nn (y.2 3 3, zTell (lw9 y) (y.2 3 3))) := by
  have e3 : (lc2 (y.2 19) (y.2 20) (780 + 900 * y.2 3 3) (lc1 (y.2 17) (780 + 900 * y.2 3 3) (za y 3 (780 + 900 * y.2 3 3 + 1) (y.1 16)) (8 * y.1 16).toNat) (y.1 18).toNat).2 3 3 = y.2 3 3 := (lc2_1.2.2 (by omega)).trans ((lc1_1.2.2 (by omega)).trans (u2_n (Or.inr (by omega)) : u2 y.2 3 (780 + 900 * y.2 3 3 + 1) (y.1 16) 3 3 = _))
  refine TGo.al0 dX10_law_200 rfl ?_
  refine TGo.getS (t := 18) 3 3 (T + 2) (hT 0 (by decide)) rfl fgX10_13_10 dX10_law_201 rfl rfl rfl ?_
  refine TGo.ic3 dX10_law_204 ?_
  refine TGo.dup2 dX10_law_205 rfl rfl ?_
  refine TGo.iald dX10_law_206 (hT 2 (by decide)) (by omega) rfl ?_
  refine TGo.toz _ (hz.2.1 3 (by decide) _) ?_
  refine TGo.toz (y.2 3 3) e3 ?_
  refine TGo.ic1 dX10_law_207 ?_
  refine TGo.iadd dX10_law_208 ?_
  refine TGo.iast dX10_law_209 (hT 2 (by decide)) (by omega) rfl ?_
  refine TGo.al0 dX10_law_210 rfl ?_
  refine TGo.al0 dX10_law_211 rfl ?_
  refine TGo.getS (t := 18) 3 3 (T + 2) (hT 0 (by decide)) rfl fgX10_13_10 dX10_law_212 rfl rfl rfl ?_
  refine TGo.ic3 dX10_law_215 ?_
  refine TGo.iald dX10_law_216 (hT 2 (by decide)) (by omega) rfl ?_
  refine TGo.toz _ (u2_s) ?_
  refine TGo.ic1 dX10_law_217 ?_
  refine TGo.isub dX10_law_218 ?_
  refine TGo.toz (y.2 3 3) (by omega) ?_
  refine TGo.cS (csV1 (y2 := mX10_tell) (t := 18) 1 rfl (hT 0 (by decide)) rfl rfl dX10_law_219 q2035 q2037 qs39 okX10_tell npX10_tell rfl rfl) (kX10_tell hT ((hz.a 3 rfl rfl)).pe (by omega)) (fun v219 V219 h219 => ?_)
  obtain ⟨rfl, hz219⟩ := h219
  refine TGo.iret dX10_law_222 rfl ?_
  exact ⟨rfl, rfl, rfl, hz219⟩
set_option maxHeartbeats 4000000 in
theorem lX10_law2 {E : ET} {sh : SHT} {nn : Nat × Nat} {T : Nat} {y : ZT} (hT : MSh T sh) (h16 : 0 ≤ y.1 16 ∧ y.1 16 ≤ 12) (h18 : 0 ≤ y.1 18 ∧ y.1 18 ≤ 400) (h3 : 0 ≤ y.2 3 3 ∧ y.2 3 3 < 6) : ∀ (n k : Nat) (V : VT), (y.1 18).toNat - k < n → k ≤ (y.1 18).toNat → PZ T V (lc2 (y.2 19) (y.2 20) (780 + 900 * y.2 3 3) (lc1 (y.2 17) (780 + 900 * y.2 3 3) (za y 3 (780 + 900 * y.2 3 3 + 1) (y.1 16)) (8 * y.1 16).toNat) k) → TGo E mX10_law 9 146 [some (.ref T), some (.int (iI (780 + 900 * y.2 3 3))), some (.int (iI (((k) : Nat) : Int)))] [] sh nn V (ZP T sh nn (y.2 3 3, zTell (lw9 y) (y.2 3 3))) := by
  intro n
  induction n with
  | zero => intro k V hn; omega
  | succ n ih =>
    intro k V hn hk hz
    have e18 : (lc2 (y.2 19) (y.2 20) (780 + 900 * y.2 3 3) (lc1 (y.2 17) (780 + 900 * y.2 3 3) (za y 3 (780 + 900 * y.2 3 3 + 1) (y.1 16)) (8 * y.1 16).toNat) k).1 18 = y.1 18 := by rw [lc2_1.1, lc1_1.1]; rfl
    have e19 : (lc2 (y.2 19) (y.2 20) (780 + 900 * y.2 3 3) (lc1 (y.2 17) (780 + 900 * y.2 3 3) (za y 3 (780 + 900 * y.2 3 3 + 1) (y.1 16)) (8 * y.1 16).toNat) k).2 19 = y.2 19 := (lc2_1.2.1 19 rfl).trans ((lc1_1.2.1 19 rfl).trans (za_2 rfl))
    have e20 : (lc2 (y.2 19) (y.2 20) (780 + 900 * y.2 3 3) (lc1 (y.2 17) (780 + 900 * y.2 3 3) (za y 3 (780 + 900 * y.2 3 3 + 1) (y.1 16)) (8 * y.1 16).toNat) k).2 20 = y.2 20 := (lc2_1.2.1 20 rfl).trans ((lc1_1.2.1 20 rfl).trans (za_2 rfl))
    refine TGo.il2 dX10_law_146 rfl ?_
    refine TGo.al0 dX10_law_147 rfl ?_
    refine TGo.getI (t := 18) 18 18 (hT 0 (by decide)) rfl fgX10_288_10 dX10_law_148 rfl rfl rfl ?_
    refine TGo.toz _ (hz.1 18 rfl) ?_
    refine TGo.toz (y.1 18) e18 ?_
    refine TGo.icmp_ge 200 dX10_law_151 (by decide) (by omega) (fun h151 => ?_) (fun h151 => ?_)
    · obtain rfl : k = (y.1 18).toNat := by omega
      exact lX10_law3 hT h16 h18 h3 hz
    · refine TGo.al0 dX10_law_154 rfl ?_
      refine TGo.getS (t := 18) 3 3 (T + 2) (hT 0 (by decide)) rfl fgX10_13_10 dX10_law_155 rfl rfl rfl ?_
      refine TGo.il1 dX10_law_158 rfl ?_
      refine TGo.bip 98 dX10_law_159 (by decide) ?_
      refine TGo.iadd dX10_law_161 ?_
      refine TGo.ic2 dX10_law_162 ?_
      refine TGo.il2 dX10_law_163 rfl ?_
      refine TGo.imul dX10_law_164 ?_
      refine TGo.iadd dX10_law_165 ?_
      refine TGo.al0 dX10_law_166 rfl ?_
      refine TGo.getS (t := 18) 19 19 (T + 7) (hT 0 (by decide)) rfl fgX10_33_10 dX10_law_167 rfl rfl rfl ?_
      refine TGo.il2 dX10_law_170 rfl ?_
      refine TGo.iald dX10_law_171 (hT 7 (by decide)) (by omega) rfl ?_
      refine TGo.toz _ (hz.2.1 19 (by decide) _) ?_
      refine TGo.toz (y.2 19 (k : Int)) (by rw [e19]) ?_
      refine TGo.iast dX10_law_172 (hT 2 (by decide)) (by omega) rfl ?_
      refine TGo.al0 dX10_law_173 rfl ?_
      refine TGo.getS (t := 18) 3 3 (T + 2) (hT 0 (by decide)) rfl fgX10_13_10 dX10_law_174 rfl rfl rfl ?_
      refine TGo.il1 dX10_law_177 rfl ?_
      refine TGo.bip 98 dX10_law_178 (by decide) ?_
      refine TGo.iadd dX10_law_180 ?_
      refine TGo.ic2 dX10_law_181 ?_
      refine TGo.il2 dX10_law_182 rfl ?_
      refine TGo.imul dX10_law_183 ?_
      refine TGo.iadd dX10_law_184 ?_
      refine TGo.ic1 dX10_law_185 ?_
      refine TGo.iadd dX10_law_186 ?_
      refine TGo.al0 dX10_law_187 rfl ?_
      refine TGo.getS (t := 18) 20 20 (T + 8) (hT 0 (by decide)) rfl fgX10_36_10 dX10_law_188 rfl rfl rfl ?_
      refine TGo.il2 dX10_law_191 rfl ?_
      refine TGo.iald dX10_law_192 (hT 8 (by decide)) (by omega) rfl ?_
      refine TGo.toz _ ((u2_n (Or.inl (by omega))).trans (hz.2.1 20 (by decide) _)) ?_
      refine TGo.toz (y.2 20 (k : Int)) (by rw [e20]) ?_
      refine TGo.iast dX10_law_193 (hT 2 (by decide)) (by omega) rfl ?_
      refine TGo.iinc dX10_law_194 rfl rfl rfl ?_
      refine TGo.goto 146 dX10_law_197 (by decide) ?_
      exact TGo.seq [some (.ref T), some (.int (iI (780 + 900 * y.2 3 3))), some (.int (iI (((k + 1) : Nat) : Int)))] [] _ rfl rfl rfl (ih (k + 1) _ (by omega) (by omega) ((hz.a 3 rfl rfl).a 3 rfl rfl))
set_option maxHeartbeats 4000000 in
theorem lX10_law1 {E : ET} {sh : SHT} {nn : Nat × Nat} {T : Nat} {y : ZT} (hT : MSh T sh) (h16 : 0 ≤ y.1 16 ∧ y.1 16 ≤ 12) (h18 : 0 ≤ y.1 18 ∧ y.1 18 ≤ 400) (h3 : 0 ≤ y.2 3 3 ∧ y.2 3 3 < 6) : ∀ (n k : Nat) (V : VT), (8 * y.1 16).toNat - k < n → k ≤ (8 * y.1 16).toNat → PZ T V (lc1 (y.2 17) (780 + 900 * y.2 3 3) (za y 3 (780 + 900 * y.2 3 3 + 1) (y.1 16)) k) → TGo E mX10_law 9 111 [some (.ref T), some (.int (iI (780 + 900 * y.2 3 3))), some (.int (iI (((k) : Nat) : Int)))] [] sh nn V (ZP T sh nn (y.2 3 3, zTell (lw9 y) (y.2 3 3))) := by
  intro n
  induction n with
  | zero => intro k V hn; omega
  | succ n ih =>
    intro k V hn hk hz
    have e16 : (lc1 (y.2 17) (780 + 900 * y.2 3 3) (za y 3 (780 + 900 * y.2 3 3 + 1) (y.1 16)) k).1 16 = y.1 16 := by rw [lc1_1.1]; rfl
    have e17 : (lc1 (y.2 17) (780 + 900 * y.2 3 3) (za y 3 (780 + 900 * y.2 3 3 + 1) (y.1 16)) k).2 17 = y.2 17 := (lc1_1.2.1 17 rfl).trans (za_2 rfl)
    refine TGo.il2 dX10_law_111 rfl ?_
    refine TGo.bip 8 dX10_law_112 (by decide) ?_
    refine TGo.al0 dX10_law_114 rfl ?_
    refine TGo.getI (t := 18) 16 16 (hT 0 (by decide)) rfl fgX10_374_10 dX10_law_115 rfl rfl rfl ?_
    refine TGo.toz _ (hz.1 16 rfl) ?_
    refine TGo.toz (y.1 16) e16 ?_
    refine TGo.imul dX10_law_118 ?_
    refine TGo.icmp_ge 144 dX10_law_119 (by decide) (by omega) (fun h119 => ?_) (fun h119 => ?_)
    · refine TGo.ic0 dX10_law_144 ?_
      refine TGo.is2 dX10_law_145 rfl rfl ?_
      obtain rfl : k = (8 * y.1 16).toNat := by omega
      exact TGo.seq [some (.ref T), some (.int (iI (780 + 900 * y.2 3 3))), some (.int (iI (((0) : Nat) : Int)))] [] _ rfl rfl rfl (lX10_law2 hT h16 h18 h3 ((y.1 18).toNat + 1) 0 _ (by omega) (by omega) hz)
    · refine TGo.al0 dX10_law_122 rfl ?_
      refine TGo.getS (t := 18) 3 3 (T + 2) (hT 0 (by decide)) rfl fgX10_13_10 dX10_law_123 rfl rfl rfl ?_
      refine TGo.il1 dX10_law_126 rfl ?_
      refine TGo.ic2 dX10_law_127 ?_
      refine TGo.iadd dX10_law_128 ?_
      refine TGo.il2 dX10_law_129 rfl ?_
      refine TGo.iadd dX10_law_130 ?_
      refine TGo.al0 dX10_law_131 rfl ?_
      refine TGo.getS (t := 18) 17 17 (T + 6) (hT 0 (by decide)) rfl fgX10_30_10 dX10_law_132 rfl rfl rfl ?_
      refine TGo.il2 dX10_law_135 rfl ?_
      refine TGo.iald dX10_law_136 (hT 6 (by decide)) (by omega) rfl ?_
      refine TGo.toz _ (hz.2.1 17 (by decide) _) ?_
      refine TGo.toz (y.2 17 (k : Int)) (by rw [e17]) ?_
      refine TGo.iast dX10_law_137 (hT 2 (by decide)) (by omega) rfl ?_
      refine TGo.iinc dX10_law_138 rfl rfl rfl ?_
      refine TGo.goto 111 dX10_law_141 (by decide) ?_
      exact TGo.seq [some (.ref T), some (.int (iI (780 + 900 * y.2 3 3))), some (.int (iI (((k + 1) : Nat) : Int)))] [] _ rfl rfl rfl (ih (k + 1) _ (by omega) (by omega) (hz.a 3 rfl rfl))
theorem etZ_f {z : ZT} (Y : YV z) : ((etZ z).1 14 = 0 ∨ (etZ z).1 14 = 1) ∧ (etZ z).1 16 = z.1 16 ∧ (etZ z).1 18 = z.1 18 ∧ (etZ z).2 = z.2 := by
  have M := (Y.m (b := 0)).1.b
  unfold etZ
  split
  · refine ⟨M.2.2.1, (Sm.rf (z := z)).mu.1 16 rfl, ?_, muZ_22.1⟩
    show (muZ z 0).1 18 = _
    exact mu15 rfl
  · exact ⟨Y.b.2.2.1, rfl, rfl, rfl⟩
set_option maxHeartbeats 4000000 in
theorem lX10_lawE {E : ET} {sh : SHT} {nn : Nat × Nat} {T : Nat} {z : ZT} {V : VT} (hT : MSh T sh) (hz : PZ T V z) (Y : YV z) (h3 : 0 ≤ z.2 3 3 ∧ z.2 3 3 < 6) : TGo E mX10_law 9 64 [some (.ref T), none, none] [] sh nn V (ZP T sh nn (lwE (etZ z))) := by
  have hb := Y.b
  obtain ⟨q1, q2, q3, q4⟩ := etZ_f Y
  have e3 : (etZ z).2 3 3 = z.2 3 3 := by rw [q4]
  have hle := hb.1
  refine TGo.al0 dX10_law_64 rfl ?_
  refine TGo.cN (csV0 (y2 := mX10_endText) (t := 18) 4 rfl (hT 0 (by decide)) rfl rfl dX10_law_65 q2272 q2274 qs70 okX10_endText npX10_endText rfl rfl) (kX10_endText hT hz Y) (fun V65 hz65 => ?_)
  refine TGo.al0 dX10_law_68 rfl ?_
  refine TGo.getI (t := 18) 14 14 (hT 0 (by decide)) rfl fgX10_249_10 dX10_law_69 rfl rfl rfl ?_
  refine TGo.toz _ (hz65.1 14 rfl) ?_
  refine TGo.if_eq 82 dX10_law_72 (by decide) (by omega) (fun h72 => ?_) (fun h72 => ?_)
  · refine TGo.sip 780 dX10_law_82 (by decide) ?_
    refine TGo.sip 900 dX10_law_85 (by decide) ?_
    refine TGo.al0 dX10_law_88 rfl ?_
    refine TGo.getS (t := 18) 3 3 (T + 2) (hT 0 (by decide)) rfl fgX10_13_10 dX10_law_89 rfl rfl rfl ?_
    refine TGo.ic3 dX10_law_92 ?_
    refine TGo.iald dX10_law_93 (hT 2 (by decide)) (by omega) rfl ?_
    refine TGo.toz _ (hz65.2.1 3 (by decide) _) ?_
    refine TGo.imul dX10_law_94 ?_
    refine TGo.iadd dX10_law_95 ?_
    refine TGo.is1 dX10_law_96 rfl rfl ?_
    refine TGo.al0 dX10_law_97 rfl ?_
    refine TGo.getS (t := 18) 3 3 (T + 2) (hT 0 (by decide)) rfl fgX10_13_10 dX10_law_98 rfl rfl rfl ?_
    refine TGo.il1 dX10_law_101 rfl ?_
    refine TGo.ic1 dX10_law_102 ?_
    refine TGo.iadd dX10_law_103 ?_
    refine TGo.al0 dX10_law_104 rfl ?_
    refine TGo.getI (t := 18) 16 16 (hT 0 (by decide)) rfl fgX10_374_10 dX10_law_105 rfl rfl rfl ?_
    refine TGo.toz _ (hz65.1 16 rfl) ?_
    refine TGo.iast dX10_law_108 (hT 2 (by decide)) (by omega) rfl ?_
    refine TGo.ic0 dX10_law_109 ?_
    refine TGo.is2 dX10_law_110 rfl rfl ?_
    unfold lwE
    rw [if_pos (by assumption)]
    exact TGo.seq [some (.ref T), some (.int (iI (780 + 900 * (etZ z).2 3 3))), some (.int (iI (((0) : Nat) : Int)))] [] _ rfl rfl rfl (lX10_law1 (y := etZ z) hT (by omega) (by omega) (by omega) ((8 * (etZ z).1 16).toNat + 1) 0 _ (by omega) (by omega) (hz65.a 3 rfl rfl))
  · refine TGo.al0 dX10_law_75 rfl ?_
    refine TGo.bip (-6) dX10_law_76 (by decide) ?_
    refine TGo.cS (csV1 (y2 := mX10_tell) (t := 18) 1 rfl (hT 0 (by decide)) rfl rfl dX10_law_78 q2035 q2037 qs39 okX10_tell npX10_tell rfl rfl) (kX10_tell hT (hz65).pe (by omega)) (fun v78 V78 h78 => ?_)
    obtain ⟨rfl, hz78⟩ := h78
    refine TGo.iret dX10_law_81 rfl ?_
    unfold lwE
    rw [if_neg (by assumption)]
    exact ⟨rfl, rfl, rfl, hz78⟩
theorem lwF_t (n : Nat) (z : ZT) : lwF (n + 1) z = if z.1 14 = 0 ∧ sgA z 59 then lwF n (rlZ (neZ z)) else z := rfl
theorem rlS {z : ZT} : (rlZ z).1 15 = z.1 15 ∧ (rlZ z).1 8 = z.1 8 ∧ ∀ k, (aOK k && !(k == 17)) = true → (rlZ z).2 k = z.2 k := by
  have M : Sm z (muZ z (bZ (headZ z ≠ -1 ∧ z.1 16 < 12))) := Sm.rf.mu
  generalize hm : muZ z (bZ (headZ z ≠ -1 ∧ z.1 16 < 12)) = m at M
  have key : ∀ j, (j == 15 || j == 8) = true → (rlX m (headZ z)).1 j = m.1 j := by
    intro j hj
    have hk : kOK j = true := by rcases (by simpa using hj : j = 15 ∨ j = 8) with e | e <;> subst e <;> rfl
    have h16 : j ≠ 16 := by rcases (by simpa using hj : j = 15 ∨ j = 8) with e | e <;> omega
    have e1 : (rl1 m (headZ z)).1 j = m.1 j := by show (if j = 16 then _ else (zcl m (8 * m.1 16) 8).1 j) = _; rw [if_neg h16, zcl_1.1]
    have e2 : (rl2 (headZ z) (rl1 m (headZ z))).1 j = m.1 j := by
      unfold rl2; split
      · exact e1
      · exact (Sm.ex.1 j hk).trans e1
    show (rl4 (rl3 (8 * m.1 16) (rl2 (headZ z) (rl1 m (headZ z))))).1 j = _
    unfold rl4; split
    · exact ((Sm.rf.ne.tr Sm.ex).1 j hk).trans e2
    · exact e2
  have key2 : ∀ k, (aOK k && !(k == 17)) = true → (rlX m (headZ z)).2 k = m.2 k := by
    intro k hk
    have hk2 : aOK k = true ∧ (k == 17) = false := by simpa using hk
    have e1 : (rl1 m (headZ z)).2 k = m.2 k := ((za_2 hk2.2).trans ((za_2 hk2.2))).trans (zcl_1.2 k hk2.2)
    have e2 : (rl2 (headZ z) (rl1 m (headZ z))).2 k = m.2 k := by
      unfold rl2; split
      · exact e1
      · exact (Sm.ex.2 k hk2.1).trans e1
    have e3 : (rl3 (8 * m.1 16) (rl2 (headZ z) (rl1 m (headZ z)))).2 k = m.2 k := ((za_2 hk2.2).trans (za_2 hk2.2)).trans e2
    show (za (rl4 (rl3 (8 * m.1 16) (rl2 (headZ z) (rl1 m (headZ z))))) 17 _ _).2 k = _
    rw [za_2 hk2.2]
    unfold rl4; split
    · exact ((Sm.rf.ne.tr Sm.ex).2 k hk2.1).trans e3
    · exact e3
  unfold rlZ
  rw [hm]
  have aux : ∀ k, (aOK k && !(k == 17)) = true → aOK k = true := fun k hk => (show aOK k = true ∧ (k == 17) = false by simpa using hk).1
  unfold rlZ1
  split
  · exact ⟨(key 15 rfl).trans (M.1 15 rfl), (key 8 rfl).trans (M.1 8 rfl), fun k hk => (key2 k hk).trans (M.2 k (aux k hk))⟩
  · exact ⟨M.1 15 rfl, M.1 8 rfl, fun k hk => M.2 k (aux k hk)⟩
set_option maxHeartbeats 4000000 in
theorem lX10_lawL {E : ET} {sh : SHT} {nn : Nat × Nat} {T : Nat} (hT : MSh T sh) : ∀ (N n : Nat) (z : ZT) (V : VT), n < N → PZ T V z → YV z → (z.1 15 = 0 ∨ z.1 15 = 1) → (0 ≤ z.2 3 3 ∧ z.2 3 3 < 6) → z.1 8 - z.1 9 ≤ (n : Int) → TGo E mX10_law 9 37 [some (.ref T), none, none] [] sh nn V (ZP T sh nn (lwE (etZ (lwF (n + 1) z)))) := by
  intro N
  induction N with
  | zero => intro n z V h; omega
  | succ N ih =>
    intro n z V hn hz Y h15 h3 hm
    have hb := Y.b
    rw [lwF_t]
    refine TGo.al0 dX10_law_37 rfl ?_
    refine TGo.getI (t := 18) 14 14 (hT 0 (by decide)) rfl fgX10_249_10 dX10_law_38 rfl rfl rfl ?_
    refine TGo.toz _ (hz.1 14 rfl) ?_
    refine TGo.if_ne 64 dX10_law_41 (by decide) (by omega) (fun h41 => ?_) (fun h41 => ?_)
    · rw [if_neg (fun q => by first | exact absurd q.1 (by assumption) | exact absurd q.2 (by assumption))]
      exact lX10_lawE hT hz Y h3
    · refine TGo.al0 dX10_law_44 rfl ?_
      refine TGo.bip 59 dX10_law_45 (by decide) ?_
      refine TGo.cF (csV1 (y2 := mX10_isSign) (t := 18) 1 rfl (hT 0 (by decide)) rfl rfl dX10_law_47 q2214 q2216 qs58 okX10_isSign npX10_isSign rfl rfl) (qX10_isSignT hT hz Y.yt (by omega)) ?_
      refine TGo.ifb_eq 64 dX10_law_50 (by decide) (fun h50 => ?_) (fun h50 => ?_)
      · rw [if_neg (fun q => by first | exact absurd q.1 (by assumption) | exact absurd q.2 (by assumption))]
        exact lX10_lawE hT hz Y h3
      · refine TGo.al0 dX10_law_53 rfl ?_
        refine TGo.cN (csV0 (y2 := mX10_next) (t := 18) 2 rfl (hT 0 (by decide)) rfl rfl dX10_law_54 q2170 q2172 qs51 okX10_next npX10_next rfl rfl) (kX10_next hT hz Y.yt.1 (by omega)) (fun V54 hz54 => ?_)
        refine TGo.al0 dX10_law_57 rfl ?_
        refine TGo.cN (csV0 (y2 := mX10_readLaw) (t := 18) 8 rfl (hT 0 (by decide)) rfl rfl dX10_law_58 q2186 q2188 qs52 okX10_readLaw npX10_readLaw rfl rfl) (kX10_readLaw hT hz54 Y.n.1 h15) (fun V58 hz58 => ?_)
        refine TGo.goto 37 dX10_law_61 (by decide) ?_
        have hs : sgA z 59 := by assumption
        have hN := Y.n
        have a := hN.2.2 (by rw [hs.1]; decide)
        have R := rlY hN.1
        have S := rlS (z := neZ z)
        have e8 : (rlZ (neZ z)).1 8 = z.1 8 := S.2.1.trans (Sm.rf.ne.1 8 rfl)
        have e15 : (rlZ (neZ z)).1 15 = z.1 15 := S.1.trans (Sm.rf.ne.1 15 rfl)
        have e3 : (rlZ (neZ z)).2 3 = z.2 3 := S.2.2 3 rfl
        have hN8 := (hN.1.b).1
        have e8n : (neZ z).1 8 = z.1 8 := Sm.rf.ne.1 8 rfl
        obtain ⟨n, rfl⟩ : ∃ j, n = j + 1 := ⟨n - 1, by omega⟩
        rw [if_pos ⟨by assumption, hs⟩]
        exact ih n _ _ (by omega) hz58 R.1 (by rw [e15]; exact h15) (by rw [e3]; exact h3) (by omega)
set_option maxHeartbeats 4000000 in
theorem lX10_law0 {E : ET} {sh : SHT} {nn : Nat × Nat} {T : Nat} {z : ZT} {V : VT} (hT : MSh T sh) (hz : PZ T V z) (Y : TPZ z) (h3 : 0 ≤ z.2 3 3 ∧ z.2 3 3 ≤ 6) : TC E mX10_law 9 [.ref T] sh nn V (ZP T sh nn (zp_law z)) := by
  have hY := Y.1
  refine TC.intro [some (.ref T), none, none] rfl ?_
  refine TGo.al0 dX10_law_0 rfl ?_
  refine TGo.ic0 dX10_law_1 ?_
  refine TGo.putI (t := 18) 0 0 (hT 0 (by decide)) rfl fpX10_163_10 dX10_law_2 rfl rfl rfl ?_
  refine TGo.al0 dX10_law_5 rfl ?_
  refine TGo.getS (t := 18) 3 3 (T + 2) (hT 0 (by decide)) rfl fgX10_13_10 dX10_law_6 rfl rfl rfl ?_
  refine TGo.ic3 dX10_law_9 ?_
  refine TGo.iald dX10_law_10 (hT 2 (by decide)) (by omega) rfl ?_
  refine TGo.toz _ ((u2_n (Or.inl (by omega))).trans (hz.2.1 3 (by decide) _)) ?_
  refine TGo.bip 6 dX10_law_11 (by decide) ?_
  refine TGo.icmp_ne 28 dX10_law_13 (by decide) (by omega) (fun h13 => ?_) (fun h13 => ?_)
  · refine TGo.al0 dX10_law_28 rfl ?_
    refine TGo.ic0 dX10_law_29 ?_
    refine TGo.cN (csV1 (y2 := mX10_beginText) (t := 18) 4 rfl (hT 0 (by decide)) rfl rfl dX10_law_30 q2162 q2164 qs49 okX10_beginText npX10_beginText rfl rfl) (kX10_beginText hT (hz.s rfl) Y (Or.inl rfl)) (fun V30 hz30 => ?_)
    refine TGo.al0 dX10_law_33 rfl ?_
    refine TGo.cN (csV0 (y2 := mX10_readLaw) (t := 18) 8 rfl (hT 0 (by decide)) rfl rfl dX10_law_34 q2186 q2188 qs52 okX10_readLaw npX10_readLaw rfl rfl) (kX10_readLaw hT hz30 (btxY Y) (Or.inl rfl)) (fun V34 hz34 => ?_)
    unfold zp_law
    rw [if_neg (by assumption)]
    have R := rlY (btxY (p := 0) Y)
    have S := rlS (z := btxZ z 0)
    have b := R.1.b
    have e3 : (rlZ (btxZ z 0)).2 3 = z.2 3 := S.2.2 3 rfl
    exact lX10_lawL hT 500 499 _ _ (by omega) hz34 R.1 (Or.inl S.1) (by rw [e3]; omega) (by omega)
  · refine TGo.al0 dX10_law_16 rfl ?_
    refine TGo.ic0 dX10_law_17 ?_
    refine TGo.putI (t := 18) 8 8 (hT 0 (by decide)) rfl fpX10_236_10 dX10_law_18 rfl rfl rfl ?_
    refine TGo.al0 dX10_law_21 rfl ?_
    refine TGo.bip (-5) dX10_law_22 (by decide) ?_
    refine TGo.cS (csV1 (y2 := mX10_tell) (t := 18) 1 rfl (hT 0 (by decide)) rfl rfl dX10_law_24 q2035 q2037 qs39 okX10_tell npX10_tell rfl rfl) (kX10_tell hT (((hz.s rfl).i rfl)).pe (by omega)) (fun v24 V24 h24 => ?_)
    obtain ⟨rfl, hz24⟩ := h24
    refine TGo.iret dX10_law_27 rfl ?_
    unfold zp_law
    rw [if_pos (by assumption)]
    exact ⟨rfl, rfl, rfl, hz24⟩
/-- an operation that uses the parser: of what lasts, z and z' are alike -/
abbrev ZPX (T : Nat) (sh : SHT) (nn : Nat × Nat) (z : ZT) (x : ZT → Int × ZT) : AO → SHT → Nat × Nat → VT → Prop := fun o sh' nn' V' => ∃ z', PSm z z' ∧ ZP T sh nn (x z') o sh' nn' V'
theorem PSm.tp {z z' : ZT} (h : PSm z z') (Y : TPZ z) : TPZ z' := Y.o (h.1 8 rfl) (h.2 7 (by decide))
theorem kX10_law {E : ET} {sh : SHT} {nn : Nat × Nat} {T : Nat} {z : ZT} {V : VT} (hT : MSh T sh) (hz : PE T V z) (Y : TPZ z) (W : RWZ (z.2 3)) : TC E mX10_law 9 [.ref T] sh nn V (ZPX T sh nn z zp_law) := by
  obtain ⟨z', hs, hp⟩ := hz.pz
  have w := W.1.2.2.2.1
  exact (lX10_law0 hT hp (hs.tp Y) (by rw [hs.2 3 (by decide)]; exact w)).mono fun o sh' nn' V' q => ⟨z', hs, q⟩
