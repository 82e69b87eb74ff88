/-! THE MODEL: the parser's scanner -/
set_option maxRecDepth 100000
/-- what the parser keeps, and what lasts -/
def rI (k : Int) : Bool := pI k || k == 9 || k == 10 || k == 11 || k == 14 || k == 16 || k == 18 || k == 21 || k == 24 || k == 25
def rA (k : Nat) : Nat := if k = 17 then 6 else if k = 19 then 7 else if k = 20 then 8 else if k = 22 then 9 else if k = 23 then 10 else if k = 35 then 16 else pA k
def rO (j : Nat) : Bool := pO j || j == 6 || j == 7 || j == 8 || j == 9 || j == 10 || j == 16
def PZ (T : Nat) (V : VT) (z : ZT) : Prop := (∀ k, rI k = true → V.1 T k = z.1 k) ∧ (∀ k, rA k ≠ 0 → ∀ i, V.1 (T + rA k) i = z.2 k i) ∧ ((∀ i, V.2.1 (T + 11) i = mW i) ∧ (∀ i, V.2.1 (T + 12) i = mPW i) ∧ V.2.1 (T + 14) 7 = 0 ∧ V.2.1 (T + 14) 8 = 0) ∧ V.2.1 T 12 = z.1 12
def rAi (o : Nat) : Nat := if o = 1 then 2 else if o = 2 then 3 else if o = 3 then 4 else if o = 4 then 5 else if o = 5 then 7 else if o = 40 then 72 else if o = 41 then 73 else if o = 6 then 17 else if o = 7 then 19 else if o = 8 then 20 else if o = 9 then 22 else if o = 10 then 23 else if o = 16 then 35 else 0
theorem rA_i {k : Nat} (h : rA k ≠ 0) : rAi (rA k) = k := by
  unfold rA pA at h ⊢
  repeat' split
  all_goals first | (subst_vars; rfl) | (exfalso; simp_all)
theorem rA_inj {k j : Nat} (e : rA k = rA j) (h : rA k ≠ 0) : k = j := by
  rw [← rA_i h, e]; exact rA_i (by rw [← e]; exact h)
theorem rA_O {k : Nat} (h : rA k ≠ 0) : rO (rA k) = true := by
  unfold rA pA at h ⊢
  repeat' split
  all_goals first | rfl | (simp_all)
theorem PZ.i {T : Nat} {V : VT} {z : ZT} {k v : Int} (h : PZ T V z) (hk : (k == 12) = false) : PZ T (vI V T k v) (zi z k v) := by
  have hk : k ≠ 12 := by simpa using hk
  refine ⟨fun j hj => ?_, fun j hj i => ?_, h.2.2.1, ?_⟩
  · show u2 V.1 T k v T j = if j = k then v else z.1 j
    by_cases e : j = k
    · subst e; rw [u2_s, if_pos rfl]
    · rw [u2_n (Or.inr e), if_neg e]; exact h.1 j hj
  · show u2 V.1 T k v (T + rA j) i = _
    rw [u2_n (Or.inl (by omega))]
    exact h.2.1 j hj i
  · show V.2.1 T 12 = if (12 : Int) = k then v else z.1 12
    rw [if_neg (fun e => hk e.symm)]; exact h.2.2.2
theorem PZ.s {T : Nat} {V : VT} {z : ZT} {k v : Int} (h : PZ T V z) (hk : rI k = false) : PZ T (vI V T k v) z := by
  refine ⟨fun j hj => ?_, fun j hj i => ?_, h.2.2.1, h.2.2.2⟩
  · show u2 V.1 T k v T j = _
    rw [u2_n (Or.inr (fun e => by subst e; rw [hk] at hj; exact absurd hj Bool.false_ne_true))]
    exact h.1 j hj
  · show u2 V.1 T k v (T + rA j) i = _
    rw [u2_n (Or.inl (by omega))]
    exact h.2.1 j hj i
theorem PZ.a {T : Nat} {V : VT} {z : ZT} {o : Nat} {i v : Int} (h : PZ T V z) (k : Nat) (hk : rA k = o) (h0 : Nat.blt 0 o = true) : PZ T (vI V (T + o) i v) (za z k i v) := by
  have h0 : 0 < o := by simpa using h0
  refine ⟨fun j hj => ?_, fun j hj i2 => ?_, h.2.2⟩
  · show u2 V.1 (T + o) i v T j = _
    rw [u2_n (Or.inl (by omega))]
    exact h.1 j hj
  · show u2 V.1 (T + o) i v (T + rA j) i2 = u2 z.2 k i v j i2
    by_cases e : j = k
    · subst e
      rw [hk]
      by_cases e2 : i2 = i
      · subst e2; rw [u2_s, u2_s]
      · rw [u2_n (Or.inr e2), u2_n (Or.inr e2), ← hk]; exact h.2.1 j hj i2
    · have e3 : rA j ≠ o := fun e3 => e (rA_inj (e3.trans hk.symm) hj)
      rw [u2_n (Or.inl (by omega)), u2_n (Or.inl e)]
      exact h.2.1 j hj i2
theorem PZ.t {T : Nat} {V : VT} {z : ZT} {i v : Int} (h : PZ T V z) (o : Nat) (ho : (rO o || o == 0) = false) : PZ T (vI V (T + o) i v) z := by
  have h1 : rO o = false ∧ o ≠ 0 := by simpa using ho
  refine ⟨fun j hj => ?_, fun j hj i2 => ?_, h.2.2⟩
  · show u2 V.1 (T + o) i v T j = _
    rw [u2_n (Or.inl (by omega))]
    exact h.1 j hj
  · show u2 V.1 (T + o) i v (T + rA j) i2 = _
    have e3 : rA j ≠ o := fun e3 => by have := rA_O hj; rw [e3, h1.1] at this; exact absurd this Bool.false_ne_true
    rw [u2_n (Or.inl (by omega))]
    exact h.2.1 j hj i2
theorem PZ.w {T : Nat} {V : VT} {z : ZT} {v : Int} (h : PZ T V z) : PZ T (vL V T 12 v) (zi z 12 v) := by
  refine ⟨fun j hj => ?_, h.2.1, ⟨fun i => ?_, fun i => ?_, ?_, ?_⟩, ?_⟩
  · show V.1 T j = if j = 12 then v else z.1 j
    rw [if_neg (fun e => by subst e; exact absurd hj (by decide))]; exact h.1 j hj
  · show u2 V.2.1 T 12 v _ i = _
    rw [u2_n (Or.inl (by omega))]; exact h.2.2.1.1 i
  · show u2 V.2.1 T 12 v _ i = _
    rw [u2_n (Or.inl (by omega))]; exact h.2.2.1.2.1 i
  · show u2 V.2.1 T 12 v (T + 14) 7 = _
    rw [u2_n (Or.inl (by omega))]; exact h.2.2.1.2.2.1
  · show u2 V.2.1 T 12 v (T + 14) 8 = _
    rw [u2_n (Or.inl (by omega))]; exact h.2.2.1.2.2.2
  · show u2 V.2.1 T 12 v T 12 = if (12 : Int) = 12 then v else z.1 12
    rw [u2_s, if_pos rfl]
theorem PZ.lf {T : Nat} {V : VT} {z : ZT} {k v : Int} (h : PZ T V z) (hk : (k == 12) = false) : PZ T (vL V T k v) z := by
  have hk : k ≠ 12 := by simpa using hk
  refine ⟨h.1, h.2.1, ⟨fun i => ?_, fun i => ?_, ?_, ?_⟩, ?_⟩
  · show u2 V.2.1 T k v _ i = _
    rw [u2_n (Or.inl (by omega))]; exact h.2.2.1.1 i
  · show u2 V.2.1 T k v _ i = _
    rw [u2_n (Or.inl (by omega))]; exact h.2.2.1.2.1 i
  · show u2 V.2.1 T k v (T + 14) 7 = _
    rw [u2_n (Or.inl (by omega))]; exact h.2.2.1.2.2.1
  · show u2 V.2.1 T k v (T + 14) 8 = _
    rw [u2_n (Or.inl (by omega))]; exact h.2.2.1.2.2.2
  · show u2 V.2.1 T k v T 12 = _
    rw [u2_n (Or.inr (fun e => hk e.symm))]; exact h.2.2.2
theorem PZ.la {T : Nat} {V : VT} {z : ZT} {k v : Int} (h : PZ T V z) (o : Nat) (ho : (o == 11 || o == 12 || o == 14 || o == 0) = false) : PZ T (vL V (T + o) k v) z := by
  have h1 : ((o ≠ 11 ∧ o ≠ 12) ∧ o ≠ 14) ∧ o ≠ 0 := by simpa using ho
  refine ⟨h.1, h.2.1, ⟨fun i => ?_, fun i => ?_, ?_, ?_⟩, ?_⟩
  · show u2 V.2.1 (T + o) k v _ i = _
    rw [u2_n (Or.inl (by omega))]; exact h.2.2.1.1 i
  · show u2 V.2.1 (T + o) k v _ i = _
    rw [u2_n (Or.inl (by omega))]; exact h.2.2.1.2.1 i
  · show u2 V.2.1 (T + o) k v (T + 14) 7 = _
    rw [u2_n (Or.inl (by omega))]; exact h.2.2.1.2.2.1
  · show u2 V.2.1 (T + o) k v (T + 14) 8 = _
    rw [u2_n (Or.inl (by omega))]; exact h.2.2.1.2.2.2
  · show u2 V.2.1 (T + o) k v T 12 = _
    rw [u2_n (Or.inl (by omega))]; exact h.2.2.2
theorem PZ.nw {T : Nat} {V : VT} {z : ZT} {k v : Int} (h : PZ T V z) (hk : (k == 7 || k == 8) = false) : PZ T (vL V (T + 14) k v) z := by
  have h1 : k ≠ 7 ∧ k ≠ 8 := by simpa using hk
  refine ⟨h.1, h.2.1, ⟨fun i => ?_, fun i => ?_, ?_, ?_⟩, ?_⟩
  · show u2 V.2.1 (T + 14) k v _ i = _
    rw [u2_n (Or.inl (by omega))]; exact h.2.2.1.1 i
  · show u2 V.2.1 (T + 14) k v _ i = _
    rw [u2_n (Or.inl (by omega))]; exact h.2.2.1.2.1 i
  · show u2 V.2.1 (T + 14) k v (T + 14) 7 = _
    rw [u2_n (Or.inr (fun e => h1.1 e.symm))]; exact h.2.2.1.2.2.1
  · show u2 V.2.1 (T + 14) k v (T + 14) 8 = _
    rw [u2_n (Or.inr (fun e => h1.2 e.symm))]; exact h.2.2.1.2.2.2
  · show u2 V.2.1 (T + 14) k v T 12 = _
    rw [u2_n (Or.inl (by omega))]; exact h.2.2.2
theorem PZ.eq {T : Nat} {V : VT} {z z' : ZT} (h : PZ T V z) (e : z = z') : PZ T V z' := e ▸ h
theorem rA_pA {k : Nat} (h : pA k ≠ 0) : rA k = pA k := by
  unfold rA
  (repeat (first | rw [if_neg (fun e => by subst e; exact h rfl)]))
theorem PZ.pe {T : Nat} {V : VT} {z : ZT} (h : PZ T V z) : PE T V z := by
  refine ⟨fun k hk => h.1 k (by unfold rI; rw [hk]; rfl), fun k hk i => ?_, h.2.2.1⟩
  have e := rA_pA hk
  rw [← e]
  exact h.2.1 k (by rw [e]; exact hk) i
/-- the same but for what the parser keeps -/
def PSm (z z' : ZT) : Prop := (∀ k, pI k = true → z'.1 k = z.1 k) ∧ ∀ k, pA k ≠ 0 → z'.2 k = z.2 k
theorem PE.pz {T : Nat} {V : VT} {z : ZT} (h : PE T V z) : ∃ z', PSm z z' ∧ PZ T V z' := by
  refine ⟨(fun k => if k = 12 then V.2.1 T 12 else V.1 T k, fun k i => if pA k ≠ 0 then z.2 k i else V.1 (T + rA k) i), ⟨fun k hk => ?_, fun k hk => ?_⟩, fun k hk => ?_, fun k hk i => ?_, h.2.2, ?_⟩
  · show (if k = 12 then _ else V.1 T k) = _
    rw [if_neg (fun e => by subst e; exact absurd hk (by decide))]; exact h.1 k hk
  · funext i; show (if pA k ≠ 0 then z.2 k i else _) = _
    rw [if_pos hk]
  · show _ = (if k = 12 then _ else V.1 T k)
    rw [if_neg (fun e => by subst e; exact absurd hk (by decide))]
  · show _ = (if pA k ≠ 0 then z.2 k i else _)
    by_cases e : pA k ≠ 0
    · rw [if_pos e, rA_pA e]; exact h.2.1 k e i
    · rw [if_neg e]
  · show _ = (if (12 : Int) = 12 then V.2.1 T 12 else V.1 T 12)
    rw [if_pos rfl]
abbrev ZPZ (T : Nat) (sh : SHT) (nn : Nat × Nat) (x : Int × ZT) : AO → SHT → Nat × Nat → VT → Prop := fun o sh' nn' V' => o = .inl (some (.int (iI x.1))) ∧ sh' = sh ∧ nn' = nn ∧ PZ T V' x.2
abbrev ZPN (T : Nat) (sh : SHT) (nn : Nat × Nat) (z' : ZT) : AO → SHT → Nat × Nat → VT → Prop := fun o sh' nn' V' => o = .inl none ∧ sh' = sh ∧ nn' = nn ∧ PZ T V' z'
theorem leafQ {T : Nat} {V : VT} {sh : SHT} {nn : Nat × Nat} {x : Int × ZT} {r : Int} {z : ZT} (hp : PZ T V z) (h : x = (r, z)) : (Sum.inl (some (Value.int (iI r))) : AO) = .inl (some (.int (iI x.1))) ∧ sh = sh ∧ nn = nn ∧ PZ T V x.2 := by subst h; exact ⟨rfl, rfl, rfl, hp⟩
theorem zi_ext {z z' : ZT} (h1 : ∀ k, z.1 k = z'.1 k) (h2 : z.2 = z'.2) : z = z' := Prod.ext (funext h1) h2
/-- small letters, digits -/
abbrev smA (c : Int) : Prop := 97 ≤ c ∧ c ≤ 122
abbrev dgA (c : Int) : Prop := 48 ≤ c ∧ c ≤ 57
/-- past the blanks -/
def skF (P : Int → Int) (t : Int) : Nat → Int → Int
  | 0, i => i
  | n + 1, i => if i < t ∧ P i = 32 then skF P t n (i + 1) else i
def skZ (P : Int → Int) (t i : Int) : Int := skF P t (t - i).toNat i
def woF (P : Int → Int) (t f : Int) : Nat → Int → Int → Int × Int
  | 0, i, w => (i, w)
  | n + 1, i, w => if i < t ∧ smA (P i) then woF P t f n (i + 1) (if i - f < 10 then w * 32 + P i - 96 else -1) else (i, w)
def woZ (P : Int → Int) (t f i w : Int) : Int × Int := woF P t f (t - i).toNat i w
def dgF (P : Int → Int) (t : Int) : Nat → Int → Int → Int × Int
  | 0, i, w => (i, w)
  | n + 1, i, w => if i < t ∧ dgA (P i) then dgF P t n (i + 1) (if 1000000 < w then w else w * 10 + P i - 48) else (i, w)
def dgZ (P : Int → Int) (t i w : Int) : Int × Int := dgF P t (t - i).toNat i w
/-- a token from f on: its end, its sort, its worth -/
def tkZ (P : Int → Int) (t f : Int) : Int × Int × Int := if f = t then (f, 0, 0) else if smA (P f) then ((woZ P t f f 0).1, 1, (woZ P t f f 0).2) else if dgA (P f) then ((dgZ P t f 0).1, 2, (dgZ P t f 0).2) else (f + 1, 3, P f)
def zS (z : ZT) (f : Int) (k : Int × Int × Int) : ZT := zi (zi (zi (zi z 9 f) 10 k.1) 11 k.2.1) 12 k.2.2
def neZ (z : ZT) : ZT := zS z (skZ (z.2 7) (z.1 8) (z.1 10)) (tkZ (z.2 7) (z.1 8) (skZ (z.2 7) (z.1 8) (z.1 10)))
theorem skZ_eq (P : Int → Int) (t i : Int) : skZ P t i = if i < t ∧ P i = 32 then skZ P t (i + 1) else i := by
  unfold skZ
  by_cases h : i < t
  · rw [show (t - i).toNat = (t - (i + 1)).toNat + 1 by omega]; rfl
  · rw [show (t - i).toNat = 0 by omega, if_neg (fun e => h e.1)]; rfl
theorem woZ_eq (P : Int → Int) (t f i w : Int) : woZ P t f i w = if i < t ∧ smA (P i) then woZ P t f (i + 1) (if i - f < 10 then w * 32 + P i - 96 else -1) else (i, w) := by
  unfold woZ
  by_cases h : i < t
  · rw [show (t - i).toNat = (t - (i + 1)).toNat + 1 by omega]; rfl
  · rw [show (t - i).toNat = 0 by omega, if_neg (fun e => h e.1)]; rfl
theorem dgZ_eq (P : Int → Int) (t i w : Int) : dgZ P t i w = if i < t ∧ dgA (P i) then dgZ P t (i + 1) (if 1000000 < w then w else w * 10 + P i - 48) else (i, w) := by
  unfold dgZ
  by_cases h : i < t
  · rw [show (t - i).toNat = (t - (i + 1)).toNat + 1 by omega]; rfl
  · rw [show (t - i).toNat = 0 by omega, if_neg (fun e => h e.1)]; rfl
theorem zS_x {z : ZT} {f i so w i' w' : Int} : zi (zi (zS z f (i, so, w)) 12 w') 10 i' = zS z f (i', so, w') := by
  refine zi_ext (fun k => ?_) rfl
  show (if k = 10 then i' else if k = 12 then w' else if k = 12 then w else if k = 11 then so else if k = 10 then i else if k = 9 then f else z.1 k) = (if k = 12 then w' else if k = 11 then so else if k = 10 then i' else if k = 9 then f else z.1 k)
  (repeat' split) <;> first | rfl | omega
theorem zi_9 {z : ZT} {a b : Int} : zi (zi z 9 a) 9 b = zi z 9 b := by
  refine zi_ext (fun k => ?_) rfl
  show (if k = 9 then b else if k = 9 then a else z.1 k) = (if k = 9 then b else z.1 k)
  (repeat' split) <;> first | rfl | omega
/-- a token's end, when its sort is known -/
def enZ (P : Int → Int) (t f i so w : Int) : Int × Int × Int := if so = 1 then ((woZ P t f i w).1, 1, (woZ P t f i w).2) else if so = 2 then ((dgZ P t i w).1, 2, (dgZ P t i w).2) else (i, so, w)
/-- the tape is in order -/
abbrev TPZ (z : ZT) : Prop := (0 ≤ z.1 8 ∧ z.1 8 ≤ 400) ∧ ∀ i, 0 ≤ z.2 7 i ∧ z.2 7 i ≤ 255
set_option maxHeartbeats 4000000 in
theorem kX10_isSmall {E : ET} {sh : SHT} {nn : Nat × Nat} {V : VT} {c : Int} (hc : R32 c) : TF E mX10_isSmall 1 [.int (iI c)] sh nn V (.int (iI (bZ (smA c)))) := by
  refine TC.intro [some (.int (iI c))] rfl ?_
  refine TGo.il0 dX10_isSmall_0 rfl ?_
  refine TGo.bip 97 dX10_isSmall_1 (by decide) ?_
  refine TGo.icmp_lt 16 dX10_isSmall_3 (by decide) (by omega) (fun h3 => ?_) (fun h3 => ?_)
  · refine TGo.ic0 dX10_isSmall_16 ?_
    refine TGo.zret dX10_isSmall_17 rfl (by first | exact Or.inl rfl | exact Or.inr rfl | exact bZ_or _ | assumption) ?_
    refine leafF ?_
    first | rfl | omega | exact (bZ_t (by omega)).symm | exact (bZ_f (by omega)).symm | exact bZ_iff (by omega)
  · refine TGo.il0 dX10_isSmall_6 rfl ?_
    refine TGo.bip 122 dX10_isSmall_7 (by decide) ?_
    refine TGo.icmp_gt 16 dX10_isSmall_9 (by decide) (by omega) (fun h9 => ?_) (fun h9 => ?_)
    · refine TGo.ic0 dX10_isSmall_16 ?_
      refine TGo.zret dX10_isSmall_17 rfl (by first | exact Or.inl rfl | exact Or.inr rfl | exact bZ_or _ | assumption) ?_
      refine leafF ?_
      first | rfl | omega | exact (bZ_t (by omega)).symm | exact (bZ_f (by omega)).symm | exact bZ_iff (by omega)
    · refine TGo.ic1 dX10_isSmall_12 ?_
      refine TGo.goto 17 dX10_isSmall_13 (by decide) ?_
      refine TGo.zret dX10_isSmall_17 rfl (by first | exact Or.inl rfl | exact Or.inr rfl | exact bZ_or _ | assumption) ?_
      refine leafF ?_
      first | rfl | omega | exact (bZ_t (by omega)).symm | exact (bZ_f (by omega)).symm | exact bZ_iff (by omega)
set_option maxHeartbeats 4000000 in
theorem kX10_isDigit {E : ET} {sh : SHT} {nn : Nat × Nat} {V : VT} {c : Int} (hc : R32 c) : TF E mX10_isDigit 1 [.int (iI c)] sh nn V (.int (iI (bZ (dgA c)))) := by
  refine TC.intro [some (.int (iI c))] rfl ?_
  refine TGo.il0 dX10_isDigit_0 rfl ?_
  refine TGo.bip 48 dX10_isDigit_1 (by decide) ?_
  refine TGo.icmp_lt 16 dX10_isDigit_3 (by decide) (by omega) (fun h3 => ?_) (fun h3 => ?_)
  · refine TGo.ic0 dX10_isDigit_16 ?_
    refine TGo.zret dX10_isDigit_17 rfl (by first | exact Or.inl rfl | exact Or.inr rfl | exact bZ_or _ | assumption) ?_
    refine leafF ?_
    first | rfl | omega | exact (bZ_t (by omega)).symm | exact (bZ_f (by omega)).symm | exact bZ_iff (by omega)
  · refine TGo.il0 dX10_isDigit_6 rfl ?_
    refine TGo.bip 57 dX10_isDigit_7 (by decide) ?_
    refine TGo.icmp_gt 16 dX10_isDigit_9 (by decide) (by omega) (fun h9 => ?_) (fun h9 => ?_)
    · refine TGo.ic0 dX10_isDigit_16 ?_
      refine TGo.zret dX10_isDigit_17 rfl (by first | exact Or.inl rfl | exact Or.inr rfl | exact bZ_or _ | assumption) ?_
      refine leafF ?_
      first | rfl | omega | exact (bZ_t (by omega)).symm | exact (bZ_f (by omega)).symm | exact bZ_iff (by omega)
    · refine TGo.ic1 dX10_isDigit_12 ?_
      refine TGo.goto 17 dX10_isDigit_13 (by decide) ?_
      refine TGo.zret dX10_isDigit_17 rfl (by first | exact Or.inl rfl | exact Or.inr rfl | exact bZ_or _ | assumption) ?_
      refine leafF ?_
      first | rfl | omega | exact (bZ_t (by omega)).symm | exact (bZ_f (by omega)).symm | exact bZ_iff (by omega)
theorem enZ_1 {P : Int → Int} {t f i w : Int} : enZ P t f i 1 w = ((woZ P t f i w).1, 1, (woZ P t f i w).2) := if_pos rfl
theorem enZ_2 {P : Int → Int} {t f i w : Int} : enZ P t f i 2 w = ((dgZ P t i w).1, 2, (dgZ P t i w).2) := (if_neg (by decide)).trans (if_pos rfl)
theorem enZ_o {P : Int → Int} {t f i so w : Int} (h1 : so ≠ 1) (h2 : so ≠ 2) : enZ P t f i so w = (i, so, w) := (if_neg h1).trans (if_neg h2)
set_option maxHeartbeats 4000000 in
theorem lX10_next3 {E : ET} {sh : SHT} {nn : Nat × Nat} {T : Nat} {z : ZT} {f so : Int} (hT : MSh T sh) (Y : TPZ z) (h0 : 0 ≤ f) (hs : 0 ≤ so ∧ so ≤ 3) : ∀ (n : Nat) (i w : Int) (V : VT), z.1 8 - i < n → (f ≤ i ∧ i ≤ z.1 8) → (so = 2 → 0 ≤ w ∧ w ≤ 10000009) → PZ T V (zS z f (i, so, w)) → TGo E mX10_next 2 243 [some (.ref T)] [] sh nn V (ZPN T sh nn (zS z f (if so = 2 then ((dgZ (z.2 7) (z.1 8) i w).1, 2, (dgZ (z.2 7) (z.1 8) i w).2) else (i, so, w)))) := by
  intro n
  induction n with
  | zero => intro i w V h; omega
  | succ n ih =>
    intro i w V hn hi hw hz
    have hY := Y.1
    have hb := Y.2 i
    refine TGo.al0 dX10_next_243 rfl ?_
    refine TGo.getI (t := 18) 11 11 (hT 0 (by decide)) rfl fgX10_269_10 dX10_next_244 rfl rfl rfl ?_
    refine TGo.toz _ ((show _ = so from hz.1 11 rfl)) ?_
    refine TGo.ic2 dX10_next_247 ?_
    refine TGo.icmp_ne 335 dX10_next_248 (by decide) (by omega) (fun h248 => ?_) (fun h248 => ?_)
    · refine TGo.vret dX10_next_335 rfl ?_
      refine ⟨rfl, rfl, rfl, ?_⟩
      first
      | (rw [if_neg (by assumption)]; exact hz)
      | (obtain rfl : so = 2 := by omega
         rw [if_pos rfl, dgZ_eq, if_neg (by first | omega | (intro h; exact absurd h.2 (by assumption)) | (rintro ⟨h, h'⟩; omega))]; exact hz)
    · refine TGo.al0 dX10_next_251 rfl ?_
      refine TGo.getI (t := 18) 10 10 (hT 0 (by decide)) rfl fgX10_246_10 dX10_next_252 rfl rfl rfl ?_
      refine TGo.toz _ ((show _ = i from hz.1 10 rfl)) ?_
      refine TGo.al0 dX10_next_255 rfl ?_
      refine TGo.getI (t := 18) 8 8 (hT 0 (by decide)) rfl fgX10_236_10 dX10_next_256 rfl rfl rfl ?_
      refine TGo.toz _ ((show _ = z.1 8 from hz.1 8 rfl)) ?_
      refine TGo.icmp_ge 335 dX10_next_259 (by decide) (by omega) (fun h259 => ?_) (fun h259 => ?_)
      · refine TGo.vret dX10_next_335 rfl ?_
        refine ⟨rfl, rfl, rfl, ?_⟩
        first
        | (rw [if_neg (by assumption)]; exact hz)
        | (obtain rfl : so = 2 := by omega
           rw [if_pos rfl, dgZ_eq, if_neg (by first | omega | (intro h; exact absurd h.2 (by assumption)) | (rintro ⟨h, h'⟩; omega))]; exact hz)
      · refine TGo.al0 dX10_next_262 rfl ?_
        refine TGo.getS (t := 18) 7 7 (T + 5) (hT 0 (by decide)) rfl fgX10_23_10 dX10_next_263 rfl rfl rfl ?_
        refine TGo.al0 dX10_next_266 rfl ?_
        refine TGo.getI (t := 18) 10 10 (hT 0 (by decide)) rfl fgX10_246_10 dX10_next_267 rfl rfl rfl ?_
        refine TGo.toz _ ((show _ = i from hz.1 10 rfl)) ?_
        refine TGo.iald dX10_next_270 (hT 5 (by decide)) (by omega) rfl ?_
        refine TGo.toz _ ((show _ = z.2 7 _ from hz.2.1 7 (by decide) _)) ?_
        refine TGo.cF (csS1 (y2 := mX10_isDigit) 1 rfl dX10_next_271 q2177 q2178 okX10_isDigit npX10_isDigit rfl rfl) (kX10_isDigit (by omega)) ?_
        refine TGo.ifb_eq 335 dX10_next_274 (by decide) (fun h274 => ?_) (fun h274 => ?_)
        · refine TGo.vret dX10_next_335 rfl ?_
          refine ⟨rfl, rfl, rfl, ?_⟩
          first
          | (rw [if_neg (by assumption)]; exact hz)
          | (obtain rfl : so = 2 := by omega
             rw [if_pos rfl, dgZ_eq, if_neg (by first | omega | (intro h; exact absurd h.2 (by assumption)) | (rintro ⟨h, h'⟩; omega))]; exact hz)
        · have hw2 := hw (by omega)
          refine TGo.al0 dX10_next_277 rfl ?_
          refine TGo.al0 dX10_next_278 rfl ?_
          refine TGo.getJ (t := 18) 12 12 (hT 0 (by decide)) rfl fgX10_259_10 dX10_next_279 rfl rfl rfl ?_
          refine TGo.tol w hz.2.2.2 ?_
          refine TGo.ldc2 1000000 dX10_next_282 q2183 (by decide) ?_
          refine TGo.lc_le 296 dX10_next_285 dX10_next_286 (by decide) (by omega) (fun h285 => ?_) (fun h285 => ?_)
          · refine TGo.al0 dX10_next_296 rfl ?_
            refine TGo.getJ (t := 18) 12 12 (hT 0 (by decide)) rfl fgX10_259_10 dX10_next_297 rfl rfl rfl ?_
            refine TGo.tol w hz.2.2.2 ?_
            refine TGo.ldc2 10 dX10_next_300 q2184 (by decide) ?_
            refine TGo.lmul dX10_next_303 ?_
            refine TGo.al0 dX10_next_304 rfl ?_
            refine TGo.getS (t := 18) 7 7 (T + 5) (hT 0 (by decide)) rfl fgX10_23_10 dX10_next_305 rfl rfl rfl ?_
            refine TGo.al0 dX10_next_308 rfl ?_
            refine TGo.getI (t := 18) 10 10 (hT 0 (by decide)) rfl fgX10_246_10 dX10_next_309 rfl rfl rfl ?_
            refine TGo.toz _ ((show _ = i from hz.1 10 rfl)) ?_
            refine TGo.iald dX10_next_312 (hT 5 (by decide)) (by omega) rfl ?_
            refine TGo.toz _ ((show _ = z.2 7 _ from hz.2.1 7 (by decide) _)) ?_
            refine TGo.i2l dX10_next_313 (by omega) ?_
            refine TGo.ladd dX10_next_314 ?_
            refine TGo.ldc2 48 dX10_next_315 q2185 (by decide) ?_
            refine TGo.lsub dX10_next_318 ?_
            refine TGo.putJ (t := 18) 12 12 (hT 0 (by decide)) rfl fpX10_259_10 dX10_next_319 rfl rfl rfl ?_
            refine TGo.al0 dX10_next_322 rfl ?_
            refine TGo.dup dX10_next_323 rfl ?_
            refine TGo.getI (t := 18) 10 10 (hT 0 (by decide)) rfl fgX10_246_10 dX10_next_324 rfl rfl rfl ?_
            refine TGo.toz _ ((show _ = i from hz.1 10 rfl)) ?_
            refine TGo.ic1 dX10_next_327 ?_
            refine TGo.iadd dX10_next_328 ?_
            refine TGo.putI (t := 18) 10 10 (hT 0 (by decide)) rfl fpX10_246_10 dX10_next_329 rfl rfl rfl ?_
            refine TGo.goto 243 dX10_next_332 (by decide) ?_
            obtain rfl : so = 2 := by omega
            rw [if_pos rfl, dgZ_eq, if_pos ⟨by omega, by assumption⟩]
            first | rw [if_pos (by assumption)] | rw [if_neg (by omega)]
            refine (ih (i + 1) _ _ (by omega) (by omega) (fun _ => by omega) (((hz.w).i rfl).eq zS_x)).mono ?_
            rintro o sh' nn' V' ⟨q1, q2, q3, q4⟩
            rw [if_pos rfl] at q4
            exact ⟨q1, q2, q3, q4⟩
          · refine TGo.al0 dX10_next_289 rfl ?_
            refine TGo.getJ (t := 18) 12 12 (hT 0 (by decide)) rfl fgX10_259_10 dX10_next_290 rfl rfl rfl ?_
            refine TGo.tol w hz.2.2.2 ?_
            refine TGo.goto 319 dX10_next_293 (by decide) ?_
            refine TGo.putJ (t := 18) 12 12 (hT 0 (by decide)) rfl fpX10_259_10 dX10_next_319 rfl rfl rfl ?_
            refine TGo.al0 dX10_next_322 rfl ?_
            refine TGo.dup dX10_next_323 rfl ?_
            refine TGo.getI (t := 18) 10 10 (hT 0 (by decide)) rfl fgX10_246_10 dX10_next_324 rfl rfl rfl ?_
            refine TGo.toz _ ((show _ = i from hz.1 10 rfl)) ?_
            refine TGo.ic1 dX10_next_327 ?_
            refine TGo.iadd dX10_next_328 ?_
            refine TGo.putI (t := 18) 10 10 (hT 0 (by decide)) rfl fpX10_246_10 dX10_next_329 rfl rfl rfl ?_
            refine TGo.goto 243 dX10_next_332 (by decide) ?_
            obtain rfl : so = 2 := by omega
            rw [if_pos rfl, dgZ_eq, if_pos ⟨by omega, by assumption⟩]
            first | rw [if_pos (by assumption)] | rw [if_neg (by omega)]
            refine (ih (i + 1) _ _ (by omega) (by omega) (fun _ => by omega) (((hz.w).i rfl).eq zS_x)).mono ?_
            rintro o sh' nn' V' ⟨q1, q2, q3, q4⟩
            rw [if_pos rfl] at q4
            exact ⟨q1, q2, q3, q4⟩
set_option maxHeartbeats 4000000 in
theorem lX10_next2 {E : ET} {sh : SHT} {nn : Nat × Nat} {T : Nat} {z : ZT} {f so : Int} (hT : MSh T sh) (Y : TPZ z) (h0 : 0 ≤ f) (hs : 0 ≤ so ∧ so ≤ 3) : ∀ (n : Nat) (i w : Int) (V : VT), z.1 8 - i < n → (f ≤ i ∧ i ≤ z.1 8) → (so = 2 → 0 ≤ w ∧ w ≤ 10000009) → PZ T V (zS z f (i, so, w)) → TGo E mX10_next 2 149 [some (.ref T)] [] sh nn V (ZPN T sh nn (zS z f (enZ (z.2 7) (z.1 8) f i so w))) := by
  intro n
  induction n with
  | zero => intro i w V h; omega
  | succ n ih =>
    intro i w V hn hi hw hz
    have hY := Y.1
    have hb := Y.2 i
    refine TGo.al0 dX10_next_149 rfl ?_
    refine TGo.getI (t := 18) 11 11 (hT 0 (by decide)) rfl fgX10_269_10 dX10_next_150 rfl rfl rfl ?_
    refine TGo.toz _ ((show _ = so from hz.1 11 rfl)) ?_
    refine TGo.ic1 dX10_next_153 ?_
    refine TGo.icmp_ne 243 dX10_next_154 (by decide) (by omega) (fun h154 => ?_) (fun h154 => ?_)
    · refine (lX10_next3 hT Y h0 hs ((z.1 8 - i).toNat + 1) i w V (by omega) hi hw hz).mono ?_
      rintro o sh' nn' V' ⟨q1, q2, q3, q4⟩
      refine ⟨q1, q2, q3, q4.eq ?_⟩
      by_cases h1 : so = 1
      · subst h1
        rw [enZ_1, if_neg (by decide), woZ_eq, if_neg (by first | omega | (intro h; exact absurd h.2 (by assumption)) | (rintro ⟨h, h'⟩; omega))]
      · unfold enZ; rw [if_neg h1]
    · refine TGo.al0 dX10_next_157 rfl ?_
      refine TGo.getI (t := 18) 10 10 (hT 0 (by decide)) rfl fgX10_246_10 dX10_next_158 rfl rfl rfl ?_
      refine TGo.toz _ ((show _ = i from hz.1 10 rfl)) ?_
      refine TGo.al0 dX10_next_161 rfl ?_
      refine TGo.getI (t := 18) 8 8 (hT 0 (by decide)) rfl fgX10_236_10 dX10_next_162 rfl rfl rfl ?_
      refine TGo.toz _ ((show _ = z.1 8 from hz.1 8 rfl)) ?_
      refine TGo.icmp_ge 243 dX10_next_165 (by decide) (by omega) (fun h165 => ?_) (fun h165 => ?_)
      · refine (lX10_next3 hT Y h0 hs ((z.1 8 - i).toNat + 1) i w V (by omega) hi hw hz).mono ?_
        rintro o sh' nn' V' ⟨q1, q2, q3, q4⟩
        refine ⟨q1, q2, q3, q4.eq ?_⟩
        by_cases h1 : so = 1
        · subst h1
          rw [enZ_1, if_neg (by decide), woZ_eq, if_neg (by first | omega | (intro h; exact absurd h.2 (by assumption)) | (rintro ⟨h, h'⟩; omega))]
        · unfold enZ; rw [if_neg h1]
      · refine TGo.al0 dX10_next_168 rfl ?_
        refine TGo.getS (t := 18) 7 7 (T + 5) (hT 0 (by decide)) rfl fgX10_23_10 dX10_next_169 rfl rfl rfl ?_
        refine TGo.al0 dX10_next_172 rfl ?_
        refine TGo.getI (t := 18) 10 10 (hT 0 (by decide)) rfl fgX10_246_10 dX10_next_173 rfl rfl rfl ?_
        refine TGo.toz _ ((show _ = i from hz.1 10 rfl)) ?_
        refine TGo.iald dX10_next_176 (hT 5 (by decide)) (by omega) rfl ?_
        refine TGo.toz _ ((show _ = z.2 7 _ from hz.2.1 7 (by decide) _)) ?_
        refine TGo.cF (csS1 (y2 := mX10_isSmall) 1 rfl dX10_next_177 q2174 q2175 okX10_isSmall npX10_isSmall rfl rfl) (kX10_isSmall (by omega)) ?_
        refine TGo.ifb_eq 243 dX10_next_180 (by decide) (fun h180 => ?_) (fun h180 => ?_)
        · refine (lX10_next3 hT Y h0 hs ((z.1 8 - i).toNat + 1) i w V (by omega) hi hw hz).mono ?_
          rintro o sh' nn' V' ⟨q1, q2, q3, q4⟩
          refine ⟨q1, q2, q3, q4.eq ?_⟩
          by_cases h1 : so = 1
          · subst h1
            rw [enZ_1, if_neg (by decide), woZ_eq, if_neg (by first | omega | (intro h; exact absurd h.2 (by assumption)) | (rintro ⟨h, h'⟩; omega))]
          · unfold enZ; rw [if_neg h1]
        · refine TGo.al0 dX10_next_183 rfl ?_
          refine TGo.al0 dX10_next_184 rfl ?_
          refine TGo.getI (t := 18) 10 10 (hT 0 (by decide)) rfl fgX10_246_10 dX10_next_185 rfl rfl rfl ?_
          refine TGo.toz _ ((show _ = i from hz.1 10 rfl)) ?_
          refine TGo.al0 dX10_next_188 rfl ?_
          refine TGo.getI (t := 18) 9 9 (hT 0 (by decide)) rfl fgX10_256_10 dX10_next_189 rfl rfl rfl ?_
          refine TGo.toz _ ((show _ = f from hz.1 9 rfl)) ?_
          refine TGo.isub dX10_next_192 ?_
          refine TGo.bip 10 dX10_next_193 (by decide) ?_
          refine TGo.icmp_ge 224 dX10_next_195 (by decide) (by omega) (fun h195 => ?_) (fun h195 => ?_)
          · refine TGo.ldc2 (-1) dX10_next_224 q2182 (by decide) ?_
            refine TGo.putJ (t := 18) 12 12 (hT 0 (by decide)) rfl fpX10_259_10 dX10_next_227 rfl rfl rfl ?_
            refine TGo.al0 dX10_next_230 rfl ?_
            refine TGo.dup dX10_next_231 rfl ?_
            refine TGo.getI (t := 18) 10 10 (hT 0 (by decide)) rfl fgX10_246_10 dX10_next_232 rfl rfl rfl ?_
            refine TGo.toz _ ((show _ = i from hz.1 10 rfl)) ?_
            refine TGo.ic1 dX10_next_235 ?_
            refine TGo.iadd dX10_next_236 ?_
            refine TGo.putI (t := 18) 10 10 (hT 0 (by decide)) rfl fpX10_246_10 dX10_next_237 rfl rfl rfl ?_
            refine TGo.goto 149 dX10_next_240 (by decide) ?_
            obtain rfl : so = 1 := by omega
            rw [enZ_1, woZ_eq, if_pos ⟨by omega, by assumption⟩]
            first | rw [if_pos (by assumption)] | rw [if_neg (by omega)]
            refine (ih (i + 1) _ _ (by omega) (by omega) (fun h => absurd h (by decide)) (((hz.w).i rfl).eq zS_x)).mono ?_
            rintro o sh' nn' V' ⟨q1, q2, q3, q4⟩
            rw [enZ_1] at q4
            exact ⟨q1, q2, q3, q4⟩
          · refine TGo.al0 dX10_next_198 rfl ?_
            refine TGo.getJ (t := 18) 12 12 (hT 0 (by decide)) rfl fgX10_259_10 dX10_next_199 rfl rfl rfl ?_
            refine TGo.tol w hz.2.2.2 ?_
            refine TGo.ldc2 32 dX10_next_202 q2180 (by decide) ?_
            refine TGo.lmul dX10_next_205 ?_
            refine TGo.al0 dX10_next_206 rfl ?_
            refine TGo.getS (t := 18) 7 7 (T + 5) (hT 0 (by decide)) rfl fgX10_23_10 dX10_next_207 rfl rfl rfl ?_
            refine TGo.al0 dX10_next_210 rfl ?_
            refine TGo.getI (t := 18) 10 10 (hT 0 (by decide)) rfl fgX10_246_10 dX10_next_211 rfl rfl rfl ?_
            refine TGo.toz _ ((show _ = i from hz.1 10 rfl)) ?_
            refine TGo.iald dX10_next_214 (hT 5 (by decide)) (by omega) rfl ?_
            refine TGo.toz _ ((show _ = z.2 7 _ from hz.2.1 7 (by decide) _)) ?_
            refine TGo.i2l dX10_next_215 (by omega) ?_
            refine TGo.ladd dX10_next_216 ?_
            refine TGo.ldc2 96 dX10_next_217 q2181 (by decide) ?_
            refine TGo.lsub dX10_next_220 ?_
            refine TGo.goto 227 dX10_next_221 (by decide) ?_
            refine TGo.putJ (t := 18) 12 12 (hT 0 (by decide)) rfl fpX10_259_10 dX10_next_227 rfl rfl rfl ?_
            refine TGo.al0 dX10_next_230 rfl ?_
            refine TGo.dup dX10_next_231 rfl ?_
            refine TGo.getI (t := 18) 10 10 (hT 0 (by decide)) rfl fgX10_246_10 dX10_next_232 rfl rfl rfl ?_
            refine TGo.toz _ ((show _ = i from hz.1 10 rfl)) ?_
            refine TGo.ic1 dX10_next_235 ?_
            refine TGo.iadd dX10_next_236 ?_
            refine TGo.putI (t := 18) 10 10 (hT 0 (by decide)) rfl fpX10_246_10 dX10_next_237 rfl rfl rfl ?_
            refine TGo.goto 149 dX10_next_240 (by decide) ?_
            obtain rfl : so = 1 := by omega
            rw [enZ_1, woZ_eq, if_pos ⟨by omega, by assumption⟩]
            first | rw [if_pos (by assumption)] | rw [if_neg (by omega)]
            refine (ih (i + 1) _ _ (by omega) (by omega) (fun h => absurd h (by decide)) (((hz.w).i rfl).eq zS_x)).mono ?_
            rintro o sh' nn' V' ⟨q1, q2, q3, q4⟩
            rw [enZ_1] at q4
            exact ⟨q1, q2, q3, q4⟩
theorem zS_1 {z : ZT} {f i so w : Int} : zi (zi (zi (zi z 9 f) 10 i) 12 w) 11 so = zS z f (i, so, w) := by
  refine zi_ext (fun k => ?_) rfl
  show (if k = 11 then so else if k = 12 then w else if k = 10 then i else if k = 9 then f else z.1 k) = (if k = 12 then w else if k = 11 then so else if k = 10 then i else if k = 9 then f else z.1 k)
  (repeat' split) <;> first | rfl | omega
theorem zS_3 {z : ZT} {f : Int} {c : Int} : zi (zi (zi (zi (zi (zi z 9 f) 10 f) 12 0) 11 3) 12 c) 10 (f + 1) = zS z f (f + 1, 3, c) := by rw [zS_1, zS_x]
set_option maxHeartbeats 4000000 in
theorem lX10_next1 {E : ET} {sh : SHT} {nn : Nat × Nat} {T : Nat} {z : ZT} (hT : MSh T sh) (Y : TPZ z) : ∀ (n : Nat) (f : Int) (V : VT), z.1 8 - f < n → (0 ≤ f ∧ f ≤ z.1 8) → PZ T V (zi z 9 f) → TGo E mX10_next 2 8 [some (.ref T)] [] sh nn V (ZPN T sh nn (zS z (skZ (z.2 7) (z.1 8) f) (tkZ (z.2 7) (z.1 8) (skZ (z.2 7) (z.1 8) f)))) := by
  intro n
  induction n with
  | zero => intro f V h; omega
  | succ n ih =>
    intro f V hn hi hz
    have hY := Y.1
    have hb := Y.2 f
    refine TGo.al0 dX10_next_8 rfl ?_
    refine TGo.getI (t := 18) 9 9 (hT 0 (by decide)) rfl fgX10_256_10 dX10_next_9 rfl rfl rfl ?_
    refine TGo.toz _ ((show _ = f from hz.1 9 rfl)) ?_
    refine TGo.al0 dX10_next_12 rfl ?_
    refine TGo.getI (t := 18) 8 8 (hT 0 (by decide)) rfl fgX10_236_10 dX10_next_13 rfl rfl rfl ?_
    refine TGo.toz _ ((show _ = z.1 8 from hz.1 8 rfl)) ?_
    refine TGo.icmp_ge 46 dX10_next_16 (by decide) (by omega) (fun h16 => ?_) (fun h16 => ?_)
    · refine TGo.al0 dX10_next_46 rfl ?_
      refine TGo.al0 dX10_next_47 rfl ?_
      refine TGo.getI (t := 18) 9 9 (hT 0 (by decide)) rfl fgX10_256_10 dX10_next_48 rfl rfl rfl ?_
      refine TGo.toz _ ((show _ = f from hz.1 9 rfl)) ?_
      refine TGo.putI (t := 18) 10 10 (hT 0 (by decide)) rfl fpX10_246_10 dX10_next_51 rfl rfl rfl ?_
      refine TGo.al0 dX10_next_54 rfl ?_
      refine TGo.lc0 dX10_next_55 ?_
      refine TGo.putJ (t := 18) 12 12 (hT 0 (by decide)) rfl fpX10_259_10 dX10_next_56 rfl rfl rfl ?_
      refine TGo.al0 dX10_next_59 rfl ?_
      refine TGo.al0 dX10_next_60 rfl ?_
      refine TGo.getI (t := 18) 9 9 (hT 0 (by decide)) rfl fgX10_256_10 dX10_next_61 rfl rfl rfl ?_
      refine TGo.toz _ ((u2_n (Or.inr (by decide))).trans ((show _ = f from hz.1 9 rfl))) ?_
      refine TGo.al0 dX10_next_64 rfl ?_
      refine TGo.getI (t := 18) 8 8 (hT 0 (by decide)) rfl fgX10_236_10 dX10_next_65 rfl rfl rfl ?_
      refine TGo.toz _ ((u2_n (Or.inr (by decide))).trans ((show _ = z.1 8 from hz.1 8 rfl))) ?_
      refine TGo.icmp_ne 75 dX10_next_68 (by decide) (by omega) (fun h68 => ?_) (fun h68 => ?_)
      · refine TGo.al0 dX10_next_75 rfl ?_
        refine TGo.getS (t := 18) 7 7 (T + 5) (hT 0 (by decide)) rfl fgX10_23_10 dX10_next_76 rfl rfl rfl ?_
        refine TGo.al0 dX10_next_79 rfl ?_
        refine TGo.getI (t := 18) 9 9 (hT 0 (by decide)) rfl fgX10_256_10 dX10_next_80 rfl rfl rfl ?_
        refine TGo.toz _ ((u2_n (Or.inr (by decide))).trans ((show _ = f from hz.1 9 rfl))) ?_
        refine TGo.iald dX10_next_83 (hT 5 (by decide)) (by omega) rfl ?_
        refine TGo.toz _ ((u2_n (Or.inl (by omega))).trans ((show _ = z.2 7 _ from hz.2.1 7 (by decide) _))) ?_
        refine TGo.cF (csS1 (y2 := mX10_isSmall) 1 rfl dX10_next_84 q2174 q2175 okX10_isSmall npX10_isSmall rfl rfl) (kX10_isSmall (by omega)) ?_
        refine TGo.ifb_eq 94 dX10_next_87 (by decide) (fun h87 => ?_) (fun h87 => ?_)
        · refine TGo.al0 dX10_next_94 rfl ?_
          refine TGo.getS (t := 18) 7 7 (T + 5) (hT 0 (by decide)) rfl fgX10_23_10 dX10_next_95 rfl rfl rfl ?_
          refine TGo.al0 dX10_next_98 rfl ?_
          refine TGo.getI (t := 18) 9 9 (hT 0 (by decide)) rfl fgX10_256_10 dX10_next_99 rfl rfl rfl ?_
          refine TGo.toz _ ((u2_n (Or.inr (by decide))).trans ((show _ = f from hz.1 9 rfl))) ?_
          refine TGo.iald dX10_next_102 (hT 5 (by decide)) (by omega) rfl ?_
          refine TGo.toz _ ((u2_n (Or.inl (by omega))).trans ((show _ = z.2 7 _ from hz.2.1 7 (by decide) _))) ?_
          refine TGo.cF (csS1 (y2 := mX10_isDigit) 1 rfl dX10_next_103 q2177 q2178 okX10_isDigit npX10_isDigit rfl rfl) (kX10_isDigit (by omega)) ?_
          refine TGo.ifb_eq 113 dX10_next_106 (by decide) (fun h106 => ?_) (fun h106 => ?_)
          · refine TGo.ic3 dX10_next_113 ?_
            refine TGo.putI (t := 18) 11 11 (hT 0 (by decide)) rfl fpX10_269_10 dX10_next_114 rfl rfl rfl ?_
            refine TGo.al0 dX10_next_117 rfl ?_
            refine TGo.getI (t := 18) 11 11 (hT 0 (by decide)) rfl fgX10_269_10 dX10_next_118 rfl rfl rfl ?_
            refine TGo.toz _ (u2_s) ?_
            refine TGo.ic3 dX10_next_121 ?_
            refine TGo.icmp_ne 149 dX10_next_122 (by decide) (by omega) (fun h122 => ?_) (fun h122 => ?_)
            · rw [skZ_eq, if_neg (by first | omega | (rintro ⟨h, h'⟩; omega))]
              unfold tkZ
              first
              | (exfalso; omega)
              | (rw [if_pos (by assumption)]
                 refine (lX10_next2 (so := 0) hT Y hi.1 (by omega) ((z.1 8 - f).toNat + 1) f 0 _ (by omega) (by omega) (fun h => absurd h (by decide)) ((((hz.i rfl).w).i rfl).eq zS_1)).mono ?_
                 rintro o sh' nn' V' ⟨q1, q2, q3, q4⟩
                 exact ⟨q1, q2, q3, q4⟩)
              | (rw [if_neg (by assumption), if_pos (by assumption)]
                 refine (lX10_next2 (so := 1) hT Y hi.1 (by omega) ((z.1 8 - f).toNat + 1) f 0 _ (by omega) (by omega) (fun h => absurd h (by decide)) ((((hz.i rfl).w).i rfl).eq zS_1)).mono ?_
                 rintro o sh' nn' V' ⟨q1, q2, q3, q4⟩
                 rw [enZ_1] at q4
                 exact ⟨q1, q2, q3, q4⟩)
              | (rw [if_neg (by assumption), if_neg (by assumption), if_pos (by assumption)]
                 refine (lX10_next2 (so := 2) hT Y hi.1 (by omega) ((z.1 8 - f).toNat + 1) f 0 _ (by omega) (by omega) (fun _ => by omega) ((((hz.i rfl).w).i rfl).eq zS_1)).mono ?_
                 rintro o sh' nn' V' ⟨q1, q2, q3, q4⟩
                 rw [enZ_2] at q4
                 exact ⟨q1, q2, q3, q4⟩)
              | (rw [if_neg (by assumption), if_neg (by assumption), if_neg (by assumption)]
                 refine (lX10_next2 (so := 3) hT Y hi.1 (by omega) ((z.1 8 - (f + 1)).toNat + 1) (f + 1) (z.2 7 f) _ (by omega) (by omega) (fun h => absurd h (by decide)) ((((hz.i rfl).w).i rfl).eq zS_3)).mono ?_
                 rintro o sh' nn' V' ⟨q1, q2, q3, q4⟩
                 rw [enZ_o (by decide) (by decide)] at q4
                 exact ⟨q1, q2, q3, q4⟩)
            · refine TGo.al0 dX10_next_125 rfl ?_
              refine TGo.al0 dX10_next_126 rfl ?_
              refine TGo.getS (t := 18) 7 7 (T + 5) (hT 0 (by decide)) rfl fgX10_23_10 dX10_next_127 rfl rfl rfl ?_
              refine TGo.al0 dX10_next_130 rfl ?_
              refine TGo.getI (t := 18) 9 9 (hT 0 (by decide)) rfl fgX10_256_10 dX10_next_131 rfl rfl rfl ?_
              refine TGo.toz _ ((u2_n (Or.inr (by decide))).trans ((u2_n (Or.inr (by decide))).trans ((show _ = f from hz.1 9 rfl)))) ?_
              refine TGo.iald dX10_next_134 (hT 5 (by decide)) (by omega) rfl ?_
              refine TGo.toz _ ((u2_n (Or.inl (by omega))).trans ((u2_n (Or.inl (by omega))).trans ((show _ = z.2 7 _ from hz.2.1 7 (by decide) _)))) ?_
              refine TGo.i2l dX10_next_135 (by omega) ?_
              refine TGo.putJ (t := 18) 12 12 (hT 0 (by decide)) rfl fpX10_259_10 dX10_next_136 rfl rfl rfl ?_
              refine TGo.al0 dX10_next_139 rfl ?_
              refine TGo.dup dX10_next_140 rfl ?_
              refine TGo.getI (t := 18) 10 10 (hT 0 (by decide)) rfl fgX10_246_10 dX10_next_141 rfl rfl rfl ?_
              refine TGo.toz _ ((u2_n (Or.inr (by decide))).trans (u2_s)) ?_
              refine TGo.ic1 dX10_next_144 ?_
              refine TGo.iadd dX10_next_145 ?_
              refine TGo.putI (t := 18) 10 10 (hT 0 (by decide)) rfl fpX10_246_10 dX10_next_146 rfl rfl rfl ?_
              rw [skZ_eq, if_neg (by first | omega | (rintro ⟨h, h'⟩; omega))]
              unfold tkZ
              first
              | (exfalso; omega)
              | (rw [if_pos (by assumption)]
                 refine (lX10_next2 (so := 0) hT Y hi.1 (by omega) ((z.1 8 - f).toNat + 1) f 0 _ (by omega) (by omega) (fun h => absurd h (by decide)) ((((((hz.i rfl).w).i rfl).w).i rfl).eq zS_1)).mono ?_
                 rintro o sh' nn' V' ⟨q1, q2, q3, q4⟩
                 exact ⟨q1, q2, q3, q4⟩)
              | (rw [if_neg (by assumption), if_pos (by assumption)]
                 refine (lX10_next2 (so := 1) hT Y hi.1 (by omega) ((z.1 8 - f).toNat + 1) f 0 _ (by omega) (by omega) (fun h => absurd h (by decide)) ((((((hz.i rfl).w).i rfl).w).i rfl).eq zS_1)).mono ?_
                 rintro o sh' nn' V' ⟨q1, q2, q3, q4⟩
                 rw [enZ_1] at q4
                 exact ⟨q1, q2, q3, q4⟩)
              | (rw [if_neg (by assumption), if_neg (by assumption), if_pos (by assumption)]
                 refine (lX10_next2 (so := 2) hT Y hi.1 (by omega) ((z.1 8 - f).toNat + 1) f 0 _ (by omega) (by omega) (fun _ => by omega) ((((((hz.i rfl).w).i rfl).w).i rfl).eq zS_1)).mono ?_
                 rintro o sh' nn' V' ⟨q1, q2, q3, q4⟩
                 rw [enZ_2] at q4
                 exact ⟨q1, q2, q3, q4⟩)
              | (rw [if_neg (by assumption), if_neg (by assumption), if_neg (by assumption)]
                 refine (lX10_next2 (so := 3) hT Y hi.1 (by omega) ((z.1 8 - (f + 1)).toNat + 1) (f + 1) (z.2 7 f) _ (by omega) (by omega) (fun h => absurd h (by decide)) ((((((hz.i rfl).w).i rfl).w).i rfl).eq zS_3)).mono ?_
                 rintro o sh' nn' V' ⟨q1, q2, q3, q4⟩
                 rw [enZ_o (by decide) (by decide)] at q4
                 exact ⟨q1, q2, q3, q4⟩)
          · refine TGo.ic2 dX10_next_109 ?_
            refine TGo.goto 114 dX10_next_110 (by decide) ?_
            refine TGo.putI (t := 18) 11 11 (hT 0 (by decide)) rfl fpX10_269_10 dX10_next_114 rfl rfl rfl ?_
            refine TGo.al0 dX10_next_117 rfl ?_
            refine TGo.getI (t := 18) 11 11 (hT 0 (by decide)) rfl fgX10_269_10 dX10_next_118 rfl rfl rfl ?_
            refine TGo.toz _ (u2_s) ?_
            refine TGo.ic3 dX10_next_121 ?_
            refine TGo.icmp_ne 149 dX10_next_122 (by decide) (by omega) (fun h122 => ?_) (fun h122 => ?_)
            · rw [skZ_eq, if_neg (by first | omega | (rintro ⟨h, h'⟩; omega))]
              unfold tkZ
              first
              | (exfalso; omega)
              | (rw [if_pos (by assumption)]
                 refine (lX10_next2 (so := 0) hT Y hi.1 (by omega) ((z.1 8 - f).toNat + 1) f 0 _ (by omega) (by omega) (fun h => absurd h (by decide)) ((((hz.i rfl).w).i rfl).eq zS_1)).mono ?_
                 rintro o sh' nn' V' ⟨q1, q2, q3, q4⟩
                 exact ⟨q1, q2, q3, q4⟩)
              | (rw [if_neg (by assumption), if_pos (by assumption)]
                 refine (lX10_next2 (so := 1) hT Y hi.1 (by omega) ((z.1 8 - f).toNat + 1) f 0 _ (by omega) (by omega) (fun h => absurd h (by decide)) ((((hz.i rfl).w).i rfl).eq zS_1)).mono ?_
                 rintro o sh' nn' V' ⟨q1, q2, q3, q4⟩
                 rw [enZ_1] at q4
                 exact ⟨q1, q2, q3, q4⟩)
              | (rw [if_neg (by assumption), if_neg (by assumption), if_pos (by assumption)]
                 refine (lX10_next2 (so := 2) hT Y hi.1 (by omega) ((z.1 8 - f).toNat + 1) f 0 _ (by omega) (by omega) (fun _ => by omega) ((((hz.i rfl).w).i rfl).eq zS_1)).mono ?_
                 rintro o sh' nn' V' ⟨q1, q2, q3, q4⟩
                 rw [enZ_2] at q4
                 exact ⟨q1, q2, q3, q4⟩)
              | (rw [if_neg (by assumption), if_neg (by assumption), if_neg (by assumption)]
                 refine (lX10_next2 (so := 3) hT Y hi.1 (by omega) ((z.1 8 - (f + 1)).toNat + 1) (f + 1) (z.2 7 f) _ (by omega) (by omega) (fun h => absurd h (by decide)) ((((hz.i rfl).w).i rfl).eq zS_3)).mono ?_
                 rintro o sh' nn' V' ⟨q1, q2, q3, q4⟩
                 rw [enZ_o (by decide) (by decide)] at q4
                 exact ⟨q1, q2, q3, q4⟩)
            · refine TGo.al0 dX10_next_125 rfl ?_
              refine TGo.al0 dX10_next_126 rfl ?_
              refine TGo.getS (t := 18) 7 7 (T + 5) (hT 0 (by decide)) rfl fgX10_23_10 dX10_next_127 rfl rfl rfl ?_
              refine TGo.al0 dX10_next_130 rfl ?_
              refine TGo.getI (t := 18) 9 9 (hT 0 (by decide)) rfl fgX10_256_10 dX10_next_131 rfl rfl rfl ?_
              refine TGo.toz _ ((u2_n (Or.inr (by decide))).trans ((u2_n (Or.inr (by decide))).trans ((show _ = f from hz.1 9 rfl)))) ?_
              refine TGo.iald dX10_next_134 (hT 5 (by decide)) (by omega) rfl ?_
              refine TGo.toz _ ((u2_n (Or.inl (by omega))).trans ((u2_n (Or.inl (by omega))).trans ((show _ = z.2 7 _ from hz.2.1 7 (by decide) _)))) ?_
              refine TGo.i2l dX10_next_135 (by omega) ?_
              refine TGo.putJ (t := 18) 12 12 (hT 0 (by decide)) rfl fpX10_259_10 dX10_next_136 rfl rfl rfl ?_
              refine TGo.al0 dX10_next_139 rfl ?_
              refine TGo.dup dX10_next_140 rfl ?_
              refine TGo.getI (t := 18) 10 10 (hT 0 (by decide)) rfl fgX10_246_10 dX10_next_141 rfl rfl rfl ?_
              refine TGo.toz _ ((u2_n (Or.inr (by decide))).trans (u2_s)) ?_
              refine TGo.ic1 dX10_next_144 ?_
              refine TGo.iadd dX10_next_145 ?_
              refine TGo.putI (t := 18) 10 10 (hT 0 (by decide)) rfl fpX10_246_10 dX10_next_146 rfl rfl rfl ?_
              rw [skZ_eq, if_neg (by first | omega | (rintro ⟨h, h'⟩; omega))]
              unfold tkZ
              first
              | (exfalso; omega)
              | (rw [if_pos (by assumption)]
                 refine (lX10_next2 (so := 0) hT Y hi.1 (by omega) ((z.1 8 - f).toNat + 1) f 0 _ (by omega) (by omega) (fun h => absurd h (by decide)) ((((((hz.i rfl).w).i rfl).w).i rfl).eq zS_1)).mono ?_
                 rintro o sh' nn' V' ⟨q1, q2, q3, q4⟩
                 exact ⟨q1, q2, q3, q4⟩)
              | (rw [if_neg (by assumption), if_pos (by assumption)]
                 refine (lX10_next2 (so := 1) hT Y hi.1 (by omega) ((z.1 8 - f).toNat + 1) f 0 _ (by omega) (by omega) (fun h => absurd h (by decide)) ((((((hz.i rfl).w).i rfl).w).i rfl).eq zS_1)).mono ?_
                 rintro o sh' nn' V' ⟨q1, q2, q3, q4⟩
                 rw [enZ_1] at q4
                 exact ⟨q1, q2, q3, q4⟩)
              | (rw [if_neg (by assumption), if_neg (by assumption), if_pos (by assumption)]
                 refine (lX10_next2 (so := 2) hT Y hi.1 (by omega) ((z.1 8 - f).toNat + 1) f 0 _ (by omega) (by omega) (fun _ => by omega) ((((((hz.i rfl).w).i rfl).w).i rfl).eq zS_1)).mono ?_
                 rintro o sh' nn' V' ⟨q1, q2, q3, q4⟩
                 rw [enZ_2] at q4
                 exact ⟨q1, q2, q3, q4⟩)
              | (rw [if_neg (by assumption), if_neg (by assumption), if_neg (by assumption)]
                 refine (lX10_next2 (so := 3) hT Y hi.1 (by omega) ((z.1 8 - (f + 1)).toNat + 1) (f + 1) (z.2 7 f) _ (by omega) (by omega) (fun h => absurd h (by decide)) ((((((hz.i rfl).w).i rfl).w).i rfl).eq zS_3)).mono ?_
                 rintro o sh' nn' V' ⟨q1, q2, q3, q4⟩
                 rw [enZ_o (by decide) (by decide)] at q4
                 exact ⟨q1, q2, q3, q4⟩)
        · refine TGo.ic1 dX10_next_90 ?_
          refine TGo.goto 114 dX10_next_91 (by decide) ?_
          refine TGo.putI (t := 18) 11 11 (hT 0 (by decide)) rfl fpX10_269_10 dX10_next_114 rfl rfl rfl ?_
          refine TGo.al0 dX10_next_117 rfl ?_
          refine TGo.getI (t := 18) 11 11 (hT 0 (by decide)) rfl fgX10_269_10 dX10_next_118 rfl rfl rfl ?_
          refine TGo.toz _ (u2_s) ?_
          refine TGo.ic3 dX10_next_121 ?_
          refine TGo.icmp_ne 149 dX10_next_122 (by decide) (by omega) (fun h122 => ?_) (fun h122 => ?_)
          · rw [skZ_eq, if_neg (by first | omega | (rintro ⟨h, h'⟩; omega))]
            unfold tkZ
            first
            | (exfalso; omega)
            | (rw [if_pos (by assumption)]
               refine (lX10_next2 (so := 0) hT Y hi.1 (by omega) ((z.1 8 - f).toNat + 1) f 0 _ (by omega) (by omega) (fun h => absurd h (by decide)) ((((hz.i rfl).w).i rfl).eq zS_1)).mono ?_
               rintro o sh' nn' V' ⟨q1, q2, q3, q4⟩
               exact ⟨q1, q2, q3, q4⟩)
            | (rw [if_neg (by assumption), if_pos (by assumption)]
               refine (lX10_next2 (so := 1) hT Y hi.1 (by omega) ((z.1 8 - f).toNat + 1) f 0 _ (by omega) (by omega) (fun h => absurd h (by decide)) ((((hz.i rfl).w).i rfl).eq zS_1)).mono ?_
               rintro o sh' nn' V' ⟨q1, q2, q3, q4⟩
               rw [enZ_1] at q4
               exact ⟨q1, q2, q3, q4⟩)
            | (rw [if_neg (by assumption), if_neg (by assumption), if_pos (by assumption)]
               refine (lX10_next2 (so := 2) hT Y hi.1 (by omega) ((z.1 8 - f).toNat + 1) f 0 _ (by omega) (by omega) (fun _ => by omega) ((((hz.i rfl).w).i rfl).eq zS_1)).mono ?_
               rintro o sh' nn' V' ⟨q1, q2, q3, q4⟩
               rw [enZ_2] at q4
               exact ⟨q1, q2, q3, q4⟩)
            | (rw [if_neg (by assumption), if_neg (by assumption), if_neg (by assumption)]
               refine (lX10_next2 (so := 3) hT Y hi.1 (by omega) ((z.1 8 - (f + 1)).toNat + 1) (f + 1) (z.2 7 f) _ (by omega) (by omega) (fun h => absurd h (by decide)) ((((hz.i rfl).w).i rfl).eq zS_3)).mono ?_
               rintro o sh' nn' V' ⟨q1, q2, q3, q4⟩
               rw [enZ_o (by decide) (by decide)] at q4
               exact ⟨q1, q2, q3, q4⟩)
          · refine TGo.al0 dX10_next_125 rfl ?_
            refine TGo.al0 dX10_next_126 rfl ?_
            refine TGo.getS (t := 18) 7 7 (T + 5) (hT 0 (by decide)) rfl fgX10_23_10 dX10_next_127 rfl rfl rfl ?_
            refine TGo.al0 dX10_next_130 rfl ?_
            refine TGo.getI (t := 18) 9 9 (hT 0 (by decide)) rfl fgX10_256_10 dX10_next_131 rfl rfl rfl ?_
            refine TGo.toz _ ((u2_n (Or.inr (by decide))).trans ((u2_n (Or.inr (by decide))).trans ((show _ = f from hz.1 9 rfl)))) ?_
            refine TGo.iald dX10_next_134 (hT 5 (by decide)) (by omega) rfl ?_
            refine TGo.toz _ ((u2_n (Or.inl (by omega))).trans ((u2_n (Or.inl (by omega))).trans ((show _ = z.2 7 _ from hz.2.1 7 (by decide) _)))) ?_
            refine TGo.i2l dX10_next_135 (by omega) ?_
            refine TGo.putJ (t := 18) 12 12 (hT 0 (by decide)) rfl fpX10_259_10 dX10_next_136 rfl rfl rfl ?_
            refine TGo.al0 dX10_next_139 rfl ?_
            refine TGo.dup dX10_next_140 rfl ?_
            refine TGo.getI (t := 18) 10 10 (hT 0 (by decide)) rfl fgX10_246_10 dX10_next_141 rfl rfl rfl ?_
            refine TGo.toz _ ((u2_n (Or.inr (by decide))).trans (u2_s)) ?_
            refine TGo.ic1 dX10_next_144 ?_
            refine TGo.iadd dX10_next_145 ?_
            refine TGo.putI (t := 18) 10 10 (hT 0 (by decide)) rfl fpX10_246_10 dX10_next_146 rfl rfl rfl ?_
            rw [skZ_eq, if_neg (by first | omega | (rintro ⟨h, h'⟩; omega))]
            unfold tkZ
            first
            | (exfalso; omega)
            | (rw [if_pos (by assumption)]
               refine (lX10_next2 (so := 0) hT Y hi.1 (by omega) ((z.1 8 - f).toNat + 1) f 0 _ (by omega) (by omega) (fun h => absurd h (by decide)) ((((((hz.i rfl).w).i rfl).w).i rfl).eq zS_1)).mono ?_
               rintro o sh' nn' V' ⟨q1, q2, q3, q4⟩
               exact ⟨q1, q2, q3, q4⟩)
            | (rw [if_neg (by assumption), if_pos (by assumption)]
               refine (lX10_next2 (so := 1) hT Y hi.1 (by omega) ((z.1 8 - f).toNat + 1) f 0 _ (by omega) (by omega) (fun h => absurd h (by decide)) ((((((hz.i rfl).w).i rfl).w).i rfl).eq zS_1)).mono ?_
               rintro o sh' nn' V' ⟨q1, q2, q3, q4⟩
               rw [enZ_1] at q4
               exact ⟨q1, q2, q3, q4⟩)
            | (rw [if_neg (by assumption), if_neg (by assumption), if_pos (by assumption)]
               refine (lX10_next2 (so := 2) hT Y hi.1 (by omega) ((z.1 8 - f).toNat + 1) f 0 _ (by omega) (by omega) (fun _ => by omega) ((((((hz.i rfl).w).i rfl).w).i rfl).eq zS_1)).mono ?_
               rintro o sh' nn' V' ⟨q1, q2, q3, q4⟩
               rw [enZ_2] at q4
               exact ⟨q1, q2, q3, q4⟩)
            | (rw [if_neg (by assumption), if_neg (by assumption), if_neg (by assumption)]
               refine (lX10_next2 (so := 3) hT Y hi.1 (by omega) ((z.1 8 - (f + 1)).toNat + 1) (f + 1) (z.2 7 f) _ (by omega) (by omega) (fun h => absurd h (by decide)) ((((((hz.i rfl).w).i rfl).w).i rfl).eq zS_3)).mono ?_
               rintro o sh' nn' V' ⟨q1, q2, q3, q4⟩
               rw [enZ_o (by decide) (by decide)] at q4
               exact ⟨q1, q2, q3, q4⟩)
      · refine TGo.ic0 dX10_next_71 ?_
        refine TGo.goto 114 dX10_next_72 (by decide) ?_
        refine TGo.putI (t := 18) 11 11 (hT 0 (by decide)) rfl fpX10_269_10 dX10_next_114 rfl rfl rfl ?_
        refine TGo.al0 dX10_next_117 rfl ?_
        refine TGo.getI (t := 18) 11 11 (hT 0 (by decide)) rfl fgX10_269_10 dX10_next_118 rfl rfl rfl ?_
        refine TGo.toz _ (u2_s) ?_
        refine TGo.ic3 dX10_next_121 ?_
        refine TGo.icmp_ne 149 dX10_next_122 (by decide) (by omega) (fun h122 => ?_) (fun h122 => ?_)
        · rw [skZ_eq, if_neg (by first | omega | (rintro ⟨h, h'⟩; omega))]
          unfold tkZ
          first
          | (exfalso; omega)
          | (rw [if_pos (by assumption)]
             refine (lX10_next2 (so := 0) hT Y hi.1 (by omega) ((z.1 8 - f).toNat + 1) f 0 _ (by omega) (by omega) (fun h => absurd h (by decide)) ((((hz.i rfl).w).i rfl).eq zS_1)).mono ?_
             rintro o sh' nn' V' ⟨q1, q2, q3, q4⟩
             exact ⟨q1, q2, q3, q4⟩)
          | (rw [if_neg (by assumption), if_pos (by assumption)]
             refine (lX10_next2 (so := 1) hT Y hi.1 (by omega) ((z.1 8 - f).toNat + 1) f 0 _ (by omega) (by omega) (fun h => absurd h (by decide)) ((((hz.i rfl).w).i rfl).eq zS_1)).mono ?_
             rintro o sh' nn' V' ⟨q1, q2, q3, q4⟩
             rw [enZ_1] at q4
             exact ⟨q1, q2, q3, q4⟩)
          | (rw [if_neg (by assumption), if_neg (by assumption), if_pos (by assumption)]
             refine (lX10_next2 (so := 2) hT Y hi.1 (by omega) ((z.1 8 - f).toNat + 1) f 0 _ (by omega) (by omega) (fun _ => by omega) ((((hz.i rfl).w).i rfl).eq zS_1)).mono ?_
             rintro o sh' nn' V' ⟨q1, q2, q3, q4⟩
             rw [enZ_2] at q4
             exact ⟨q1, q2, q3, q4⟩)
          | (rw [if_neg (by assumption), if_neg (by assumption), if_neg (by assumption)]
             refine (lX10_next2 (so := 3) hT Y hi.1 (by omega) ((z.1 8 - (f + 1)).toNat + 1) (f + 1) (z.2 7 f) _ (by omega) (by omega) (fun h => absurd h (by decide)) ((((hz.i rfl).w).i rfl).eq zS_3)).mono ?_
             rintro o sh' nn' V' ⟨q1, q2, q3, q4⟩
             rw [enZ_o (by decide) (by decide)] at q4
             exact ⟨q1, q2, q3, q4⟩)
        · refine TGo.al0 dX10_next_125 rfl ?_
          refine TGo.al0 dX10_next_126 rfl ?_
          refine TGo.getS (t := 18) 7 7 (T + 5) (hT 0 (by decide)) rfl fgX10_23_10 dX10_next_127 rfl rfl rfl ?_
          refine TGo.al0 dX10_next_130 rfl ?_
          refine TGo.getI (t := 18) 9 9 (hT 0 (by decide)) rfl fgX10_256_10 dX10_next_131 rfl rfl rfl ?_
          refine TGo.toz _ ((u2_n (Or.inr (by decide))).trans ((u2_n (Or.inr (by decide))).trans ((show _ = f from hz.1 9 rfl)))) ?_
          refine TGo.iald dX10_next_134 (hT 5 (by decide)) (by omega) rfl ?_
          refine TGo.toz _ ((u2_n (Or.inl (by omega))).trans ((u2_n (Or.inl (by omega))).trans ((show _ = z.2 7 _ from hz.2.1 7 (by decide) _)))) ?_
          refine TGo.i2l dX10_next_135 (by omega) ?_
          refine TGo.putJ (t := 18) 12 12 (hT 0 (by decide)) rfl fpX10_259_10 dX10_next_136 rfl rfl rfl ?_
          refine TGo.al0 dX10_next_139 rfl ?_
          refine TGo.dup dX10_next_140 rfl ?_
          refine TGo.getI (t := 18) 10 10 (hT 0 (by decide)) rfl fgX10_246_10 dX10_next_141 rfl rfl rfl ?_
          refine TGo.toz _ ((u2_n (Or.inr (by decide))).trans (u2_s)) ?_
          refine TGo.ic1 dX10_next_144 ?_
          refine TGo.iadd dX10_next_145 ?_
          refine TGo.putI (t := 18) 10 10 (hT 0 (by decide)) rfl fpX10_246_10 dX10_next_146 rfl rfl rfl ?_
          rw [skZ_eq, if_neg (by first | omega | (rintro ⟨h, h'⟩; omega))]
          unfold tkZ
          first
          | (exfalso; omega)
          | (rw [if_pos (by assumption)]
             refine (lX10_next2 (so := 0) hT Y hi.1 (by omega) ((z.1 8 - f).toNat + 1) f 0 _ (by omega) (by omega) (fun h => absurd h (by decide)) ((((((hz.i rfl).w).i rfl).w).i rfl).eq zS_1)).mono ?_
             rintro o sh' nn' V' ⟨q1, q2, q3, q4⟩
             exact ⟨q1, q2, q3, q4⟩)
          | (rw [if_neg (by assumption), if_pos (by assumption)]
             refine (lX10_next2 (so := 1) hT Y hi.1 (by omega) ((z.1 8 - f).toNat + 1) f 0 _ (by omega) (by omega) (fun h => absurd h (by decide)) ((((((hz.i rfl).w).i rfl).w).i rfl).eq zS_1)).mono ?_
             rintro o sh' nn' V' ⟨q1, q2, q3, q4⟩
             rw [enZ_1] at q4
             exact ⟨q1, q2, q3, q4⟩)
          | (rw [if_neg (by assumption), if_neg (by assumption), if_pos (by assumption)]
             refine (lX10_next2 (so := 2) hT Y hi.1 (by omega) ((z.1 8 - f).toNat + 1) f 0 _ (by omega) (by omega) (fun _ => by omega) ((((((hz.i rfl).w).i rfl).w).i rfl).eq zS_1)).mono ?_
             rintro o sh' nn' V' ⟨q1, q2, q3, q4⟩
             rw [enZ_2] at q4
             exact ⟨q1, q2, q3, q4⟩)
          | (rw [if_neg (by assumption), if_neg (by assumption), if_neg (by assumption)]
             refine (lX10_next2 (so := 3) hT Y hi.1 (by omega) ((z.1 8 - (f + 1)).toNat + 1) (f + 1) (z.2 7 f) _ (by omega) (by omega) (fun h => absurd h (by decide)) ((((((hz.i rfl).w).i rfl).w).i rfl).eq zS_3)).mono ?_
             rintro o sh' nn' V' ⟨q1, q2, q3, q4⟩
             rw [enZ_o (by decide) (by decide)] at q4
             exact ⟨q1, q2, q3, q4⟩)
    · refine TGo.al0 dX10_next_19 rfl ?_
      refine TGo.getS (t := 18) 7 7 (T + 5) (hT 0 (by decide)) rfl fgX10_23_10 dX10_next_20 rfl rfl rfl ?_
      refine TGo.al0 dX10_next_23 rfl ?_
      refine TGo.getI (t := 18) 9 9 (hT 0 (by decide)) rfl fgX10_256_10 dX10_next_24 rfl rfl rfl ?_
      refine TGo.toz _ ((show _ = f from hz.1 9 rfl)) ?_
      refine TGo.iald dX10_next_27 (hT 5 (by decide)) (by omega) rfl ?_
      refine TGo.toz _ ((show _ = z.2 7 _ from hz.2.1 7 (by decide) _)) ?_
      refine TGo.bip 32 dX10_next_28 (by decide) ?_
      refine TGo.icmp_ne 46 dX10_next_30 (by decide) (by omega) (fun h30 => ?_) (fun h30 => ?_)
      · refine TGo.al0 dX10_next_46 rfl ?_
        refine TGo.al0 dX10_next_47 rfl ?_
        refine TGo.getI (t := 18) 9 9 (hT 0 (by decide)) rfl fgX10_256_10 dX10_next_48 rfl rfl rfl ?_
        refine TGo.toz _ ((show _ = f from hz.1 9 rfl)) ?_
        refine TGo.putI (t := 18) 10 10 (hT 0 (by decide)) rfl fpX10_246_10 dX10_next_51 rfl rfl rfl ?_
        refine TGo.al0 dX10_next_54 rfl ?_
        refine TGo.lc0 dX10_next_55 ?_
        refine TGo.putJ (t := 18) 12 12 (hT 0 (by decide)) rfl fpX10_259_10 dX10_next_56 rfl rfl rfl ?_
        refine TGo.al0 dX10_next_59 rfl ?_
        refine TGo.al0 dX10_next_60 rfl ?_
        refine TGo.getI (t := 18) 9 9 (hT 0 (by decide)) rfl fgX10_256_10 dX10_next_61 rfl rfl rfl ?_
        refine TGo.toz _ ((u2_n (Or.inr (by decide))).trans ((show _ = f from hz.1 9 rfl))) ?_
        refine TGo.al0 dX10_next_64 rfl ?_
        refine TGo.getI (t := 18) 8 8 (hT 0 (by decide)) rfl fgX10_236_10 dX10_next_65 rfl rfl rfl ?_
        refine TGo.toz _ ((u2_n (Or.inr (by decide))).trans ((show _ = z.1 8 from hz.1 8 rfl))) ?_
        refine TGo.icmp_ne 75 dX10_next_68 (by decide) (by omega) (fun h68 => ?_) (fun h68 => ?_)
        · refine TGo.al0 dX10_next_75 rfl ?_
          refine TGo.getS (t := 18) 7 7 (T + 5) (hT 0 (by decide)) rfl fgX10_23_10 dX10_next_76 rfl rfl rfl ?_
          refine TGo.al0 dX10_next_79 rfl ?_
          refine TGo.getI (t := 18) 9 9 (hT 0 (by decide)) rfl fgX10_256_10 dX10_next_80 rfl rfl rfl ?_
          refine TGo.toz _ ((u2_n (Or.inr (by decide))).trans ((show _ = f from hz.1 9 rfl))) ?_
          refine TGo.iald dX10_next_83 (hT 5 (by decide)) (by omega) rfl ?_
          refine TGo.toz _ ((u2_n (Or.inl (by omega))).trans ((show _ = z.2 7 _ from hz.2.1 7 (by decide) _))) ?_
          refine TGo.cF (csS1 (y2 := mX10_isSmall) 1 rfl dX10_next_84 q2174 q2175 okX10_isSmall npX10_isSmall rfl rfl) (kX10_isSmall (by omega)) ?_
          refine TGo.ifb_eq 94 dX10_next_87 (by decide) (fun h87 => ?_) (fun h87 => ?_)
          · refine TGo.al0 dX10_next_94 rfl ?_
            refine TGo.getS (t := 18) 7 7 (T + 5) (hT 0 (by decide)) rfl fgX10_23_10 dX10_next_95 rfl rfl rfl ?_
            refine TGo.al0 dX10_next_98 rfl ?_
            refine TGo.getI (t := 18) 9 9 (hT 0 (by decide)) rfl fgX10_256_10 dX10_next_99 rfl rfl rfl ?_
            refine TGo.toz _ ((u2_n (Or.inr (by decide))).trans ((show _ = f from hz.1 9 rfl))) ?_
            refine TGo.iald dX10_next_102 (hT 5 (by decide)) (by omega) rfl ?_
            refine TGo.toz _ ((u2_n (Or.inl (by omega))).trans ((show _ = z.2 7 _ from hz.2.1 7 (by decide) _))) ?_
            refine TGo.cF (csS1 (y2 := mX10_isDigit) 1 rfl dX10_next_103 q2177 q2178 okX10_isDigit npX10_isDigit rfl rfl) (kX10_isDigit (by omega)) ?_
            refine TGo.ifb_eq 113 dX10_next_106 (by decide) (fun h106 => ?_) (fun h106 => ?_)
            · refine TGo.ic3 dX10_next_113 ?_
              refine TGo.putI (t := 18) 11 11 (hT 0 (by decide)) rfl fpX10_269_10 dX10_next_114 rfl rfl rfl ?_
              refine TGo.al0 dX10_next_117 rfl ?_
              refine TGo.getI (t := 18) 11 11 (hT 0 (by decide)) rfl fgX10_269_10 dX10_next_118 rfl rfl rfl ?_
              refine TGo.toz _ (u2_s) ?_
              refine TGo.ic3 dX10_next_121 ?_
              refine TGo.icmp_ne 149 dX10_next_122 (by decide) (by omega) (fun h122 => ?_) (fun h122 => ?_)
              · rw [skZ_eq, if_neg (by first | omega | (rintro ⟨h, h'⟩; omega))]
                unfold tkZ
                first
                | (exfalso; omega)
                | (rw [if_pos (by assumption)]
                   refine (lX10_next2 (so := 0) hT Y hi.1 (by omega) ((z.1 8 - f).toNat + 1) f 0 _ (by omega) (by omega) (fun h => absurd h (by decide)) ((((hz.i rfl).w).i rfl).eq zS_1)).mono ?_
                   rintro o sh' nn' V' ⟨q1, q2, q3, q4⟩
                   exact ⟨q1, q2, q3, q4⟩)
                | (rw [if_neg (by assumption), if_pos (by assumption)]
                   refine (lX10_next2 (so := 1) hT Y hi.1 (by omega) ((z.1 8 - f).toNat + 1) f 0 _ (by omega) (by omega) (fun h => absurd h (by decide)) ((((hz.i rfl).w).i rfl).eq zS_1)).mono ?_
                   rintro o sh' nn' V' ⟨q1, q2, q3, q4⟩
                   rw [enZ_1] at q4
                   exact ⟨q1, q2, q3, q4⟩)
                | (rw [if_neg (by assumption), if_neg (by assumption), if_pos (by assumption)]
                   refine (lX10_next2 (so := 2) hT Y hi.1 (by omega) ((z.1 8 - f).toNat + 1) f 0 _ (by omega) (by omega) (fun _ => by omega) ((((hz.i rfl).w).i rfl).eq zS_1)).mono ?_
                   rintro o sh' nn' V' ⟨q1, q2, q3, q4⟩
                   rw [enZ_2] at q4
                   exact ⟨q1, q2, q3, q4⟩)
                | (rw [if_neg (by assumption), if_neg (by assumption), if_neg (by assumption)]
                   refine (lX10_next2 (so := 3) hT Y hi.1 (by omega) ((z.1 8 - (f + 1)).toNat + 1) (f + 1) (z.2 7 f) _ (by omega) (by omega) (fun h => absurd h (by decide)) ((((hz.i rfl).w).i rfl).eq zS_3)).mono ?_
                   rintro o sh' nn' V' ⟨q1, q2, q3, q4⟩
                   rw [enZ_o (by decide) (by decide)] at q4
                   exact ⟨q1, q2, q3, q4⟩)
              · refine TGo.al0 dX10_next_125 rfl ?_
                refine TGo.al0 dX10_next_126 rfl ?_
                refine TGo.getS (t := 18) 7 7 (T + 5) (hT 0 (by decide)) rfl fgX10_23_10 dX10_next_127 rfl rfl rfl ?_
                refine TGo.al0 dX10_next_130 rfl ?_
                refine TGo.getI (t := 18) 9 9 (hT 0 (by decide)) rfl fgX10_256_10 dX10_next_131 rfl rfl rfl ?_
                refine TGo.toz _ ((u2_n (Or.inr (by decide))).trans ((u2_n (Or.inr (by decide))).trans ((show _ = f from hz.1 9 rfl)))) ?_
                refine TGo.iald dX10_next_134 (hT 5 (by decide)) (by omega) rfl ?_
                refine TGo.toz _ ((u2_n (Or.inl (by omega))).trans ((u2_n (Or.inl (by omega))).trans ((show _ = z.2 7 _ from hz.2.1 7 (by decide) _)))) ?_
                refine TGo.i2l dX10_next_135 (by omega) ?_
                refine TGo.putJ (t := 18) 12 12 (hT 0 (by decide)) rfl fpX10_259_10 dX10_next_136 rfl rfl rfl ?_
                refine TGo.al0 dX10_next_139 rfl ?_
                refine TGo.dup dX10_next_140 rfl ?_
                refine TGo.getI (t := 18) 10 10 (hT 0 (by decide)) rfl fgX10_246_10 dX10_next_141 rfl rfl rfl ?_
                refine TGo.toz _ ((u2_n (Or.inr (by decide))).trans (u2_s)) ?_
                refine TGo.ic1 dX10_next_144 ?_
                refine TGo.iadd dX10_next_145 ?_
                refine TGo.putI (t := 18) 10 10 (hT 0 (by decide)) rfl fpX10_246_10 dX10_next_146 rfl rfl rfl ?_
                rw [skZ_eq, if_neg (by first | omega | (rintro ⟨h, h'⟩; omega))]
                unfold tkZ
                first
                | (exfalso; omega)
                | (rw [if_pos (by assumption)]
                   refine (lX10_next2 (so := 0) hT Y hi.1 (by omega) ((z.1 8 - f).toNat + 1) f 0 _ (by omega) (by omega) (fun h => absurd h (by decide)) ((((((hz.i rfl).w).i rfl).w).i rfl).eq zS_1)).mono ?_
                   rintro o sh' nn' V' ⟨q1, q2, q3, q4⟩
                   exact ⟨q1, q2, q3, q4⟩)
                | (rw [if_neg (by assumption), if_pos (by assumption)]
                   refine (lX10_next2 (so := 1) hT Y hi.1 (by omega) ((z.1 8 - f).toNat + 1) f 0 _ (by omega) (by omega) (fun h => absurd h (by decide)) ((((((hz.i rfl).w).i rfl).w).i rfl).eq zS_1)).mono ?_
                   rintro o sh' nn' V' ⟨q1, q2, q3, q4⟩
                   rw [enZ_1] at q4
                   exact ⟨q1, q2, q3, q4⟩)
                | (rw [if_neg (by assumption), if_neg (by assumption), if_pos (by assumption)]
                   refine (lX10_next2 (so := 2) hT Y hi.1 (by omega) ((z.1 8 - f).toNat + 1) f 0 _ (by omega) (by omega) (fun _ => by omega) ((((((hz.i rfl).w).i rfl).w).i rfl).eq zS_1)).mono ?_
                   rintro o sh' nn' V' ⟨q1, q2, q3, q4⟩
                   rw [enZ_2] at q4
                   exact ⟨q1, q2, q3, q4⟩)
                | (rw [if_neg (by assumption), if_neg (by assumption), if_neg (by assumption)]
                   refine (lX10_next2 (so := 3) hT Y hi.1 (by omega) ((z.1 8 - (f + 1)).toNat + 1) (f + 1) (z.2 7 f) _ (by omega) (by omega) (fun h => absurd h (by decide)) ((((((hz.i rfl).w).i rfl).w).i rfl).eq zS_3)).mono ?_
                   rintro o sh' nn' V' ⟨q1, q2, q3, q4⟩
                   rw [enZ_o (by decide) (by decide)] at q4
                   exact ⟨q1, q2, q3, q4⟩)
            · refine TGo.ic2 dX10_next_109 ?_
              refine TGo.goto 114 dX10_next_110 (by decide) ?_
              refine TGo.putI (t := 18) 11 11 (hT 0 (by decide)) rfl fpX10_269_10 dX10_next_114 rfl rfl rfl ?_
              refine TGo.al0 dX10_next_117 rfl ?_
              refine TGo.getI (t := 18) 11 11 (hT 0 (by decide)) rfl fgX10_269_10 dX10_next_118 rfl rfl rfl ?_
              refine TGo.toz _ (u2_s) ?_
              refine TGo.ic3 dX10_next_121 ?_
              refine TGo.icmp_ne 149 dX10_next_122 (by decide) (by omega) (fun h122 => ?_) (fun h122 => ?_)
              · rw [skZ_eq, if_neg (by first | omega | (rintro ⟨h, h'⟩; omega))]
                unfold tkZ
                first
                | (exfalso; omega)
                | (rw [if_pos (by assumption)]
                   refine (lX10_next2 (so := 0) hT Y hi.1 (by omega) ((z.1 8 - f).toNat + 1) f 0 _ (by omega) (by omega) (fun h => absurd h (by decide)) ((((hz.i rfl).w).i rfl).eq zS_1)).mono ?_
                   rintro o sh' nn' V' ⟨q1, q2, q3, q4⟩
                   exact ⟨q1, q2, q3, q4⟩)
                | (rw [if_neg (by assumption), if_pos (by assumption)]
                   refine (lX10_next2 (so := 1) hT Y hi.1 (by omega) ((z.1 8 - f).toNat + 1) f 0 _ (by omega) (by omega) (fun h => absurd h (by decide)) ((((hz.i rfl).w).i rfl).eq zS_1)).mono ?_
                   rintro o sh' nn' V' ⟨q1, q2, q3, q4⟩
                   rw [enZ_1] at q4
                   exact ⟨q1, q2, q3, q4⟩)
                | (rw [if_neg (by assumption), if_neg (by assumption), if_pos (by assumption)]
                   refine (lX10_next2 (so := 2) hT Y hi.1 (by omega) ((z.1 8 - f).toNat + 1) f 0 _ (by omega) (by omega) (fun _ => by omega) ((((hz.i rfl).w).i rfl).eq zS_1)).mono ?_
                   rintro o sh' nn' V' ⟨q1, q2, q3, q4⟩
                   rw [enZ_2] at q4
                   exact ⟨q1, q2, q3, q4⟩)
                | (rw [if_neg (by assumption), if_neg (by assumption), if_neg (by assumption)]
                   refine (lX10_next2 (so := 3) hT Y hi.1 (by omega) ((z.1 8 - (f + 1)).toNat + 1) (f + 1) (z.2 7 f) _ (by omega) (by omega) (fun h => absurd h (by decide)) ((((hz.i rfl).w).i rfl).eq zS_3)).mono ?_
                   rintro o sh' nn' V' ⟨q1, q2, q3, q4⟩
                   rw [enZ_o (by decide) (by decide)] at q4
                   exact ⟨q1, q2, q3, q4⟩)
              · refine TGo.al0 dX10_next_125 rfl ?_
                refine TGo.al0 dX10_next_126 rfl ?_
                refine TGo.getS (t := 18) 7 7 (T + 5) (hT 0 (by decide)) rfl fgX10_23_10 dX10_next_127 rfl rfl rfl ?_
                refine TGo.al0 dX10_next_130 rfl ?_
                refine TGo.getI (t := 18) 9 9 (hT 0 (by decide)) rfl fgX10_256_10 dX10_next_131 rfl rfl rfl ?_
                refine TGo.toz _ ((u2_n (Or.inr (by decide))).trans ((u2_n (Or.inr (by decide))).trans ((show _ = f from hz.1 9 rfl)))) ?_
                refine TGo.iald dX10_next_134 (hT 5 (by decide)) (by omega) rfl ?_
                refine TGo.toz _ ((u2_n (Or.inl (by omega))).trans ((u2_n (Or.inl (by omega))).trans ((show _ = z.2 7 _ from hz.2.1 7 (by decide) _)))) ?_
                refine TGo.i2l dX10_next_135 (by omega) ?_
                refine TGo.putJ (t := 18) 12 12 (hT 0 (by decide)) rfl fpX10_259_10 dX10_next_136 rfl rfl rfl ?_
                refine TGo.al0 dX10_next_139 rfl ?_
                refine TGo.dup dX10_next_140 rfl ?_
                refine TGo.getI (t := 18) 10 10 (hT 0 (by decide)) rfl fgX10_246_10 dX10_next_141 rfl rfl rfl ?_
                refine TGo.toz _ ((u2_n (Or.inr (by decide))).trans (u2_s)) ?_
                refine TGo.ic1 dX10_next_144 ?_
                refine TGo.iadd dX10_next_145 ?_
                refine TGo.putI (t := 18) 10 10 (hT 0 (by decide)) rfl fpX10_246_10 dX10_next_146 rfl rfl rfl ?_
                rw [skZ_eq, if_neg (by first | omega | (rintro ⟨h, h'⟩; omega))]
                unfold tkZ
                first
                | (exfalso; omega)
                | (rw [if_pos (by assumption)]
                   refine (lX10_next2 (so := 0) hT Y hi.1 (by omega) ((z.1 8 - f).toNat + 1) f 0 _ (by omega) (by omega) (fun h => absurd h (by decide)) ((((((hz.i rfl).w).i rfl).w).i rfl).eq zS_1)).mono ?_
                   rintro o sh' nn' V' ⟨q1, q2, q3, q4⟩
                   exact ⟨q1, q2, q3, q4⟩)
                | (rw [if_neg (by assumption), if_pos (by assumption)]
                   refine (lX10_next2 (so := 1) hT Y hi.1 (by omega) ((z.1 8 - f).toNat + 1) f 0 _ (by omega) (by omega) (fun h => absurd h (by decide)) ((((((hz.i rfl).w).i rfl).w).i rfl).eq zS_1)).mono ?_
                   rintro o sh' nn' V' ⟨q1, q2, q3, q4⟩
                   rw [enZ_1] at q4
                   exact ⟨q1, q2, q3, q4⟩)
                | (rw [if_neg (by assumption), if_neg (by assumption), if_pos (by assumption)]
                   refine (lX10_next2 (so := 2) hT Y hi.1 (by omega) ((z.1 8 - f).toNat + 1) f 0 _ (by omega) (by omega) (fun _ => by omega) ((((((hz.i rfl).w).i rfl).w).i rfl).eq zS_1)).mono ?_
                   rintro o sh' nn' V' ⟨q1, q2, q3, q4⟩
                   rw [enZ_2] at q4
                   exact ⟨q1, q2, q3, q4⟩)
                | (rw [if_neg (by assumption), if_neg (by assumption), if_neg (by assumption)]
                   refine (lX10_next2 (so := 3) hT Y hi.1 (by omega) ((z.1 8 - (f + 1)).toNat + 1) (f + 1) (z.2 7 f) _ (by omega) (by omega) (fun h => absurd h (by decide)) ((((((hz.i rfl).w).i rfl).w).i rfl).eq zS_3)).mono ?_
                   rintro o sh' nn' V' ⟨q1, q2, q3, q4⟩
                   rw [enZ_o (by decide) (by decide)] at q4
                   exact ⟨q1, q2, q3, q4⟩)
          · refine TGo.ic1 dX10_next_90 ?_
            refine TGo.goto 114 dX10_next_91 (by decide) ?_
            refine TGo.putI (t := 18) 11 11 (hT 0 (by decide)) rfl fpX10_269_10 dX10_next_114 rfl rfl rfl ?_
            refine TGo.al0 dX10_next_117 rfl ?_
            refine TGo.getI (t := 18) 11 11 (hT 0 (by decide)) rfl fgX10_269_10 dX10_next_118 rfl rfl rfl ?_
            refine TGo.toz _ (u2_s) ?_
            refine TGo.ic3 dX10_next_121 ?_
            refine TGo.icmp_ne 149 dX10_next_122 (by decide) (by omega) (fun h122 => ?_) (fun h122 => ?_)
            · rw [skZ_eq, if_neg (by first | omega | (rintro ⟨h, h'⟩; omega))]
              unfold tkZ
              first
              | (exfalso; omega)
              | (rw [if_pos (by assumption)]
                 refine (lX10_next2 (so := 0) hT Y hi.1 (by omega) ((z.1 8 - f).toNat + 1) f 0 _ (by omega) (by omega) (fun h => absurd h (by decide)) ((((hz.i rfl).w).i rfl).eq zS_1)).mono ?_
                 rintro o sh' nn' V' ⟨q1, q2, q3, q4⟩
                 exact ⟨q1, q2, q3, q4⟩)
              | (rw [if_neg (by assumption), if_pos (by assumption)]
                 refine (lX10_next2 (so := 1) hT Y hi.1 (by omega) ((z.1 8 - f).toNat + 1) f 0 _ (by omega) (by omega) (fun h => absurd h (by decide)) ((((hz.i rfl).w).i rfl).eq zS_1)).mono ?_
                 rintro o sh' nn' V' ⟨q1, q2, q3, q4⟩
                 rw [enZ_1] at q4
                 exact ⟨q1, q2, q3, q4⟩)
              | (rw [if_neg (by assumption), if_neg (by assumption), if_pos (by assumption)]
                 refine (lX10_next2 (so := 2) hT Y hi.1 (by omega) ((z.1 8 - f).toNat + 1) f 0 _ (by omega) (by omega) (fun _ => by omega) ((((hz.i rfl).w).i rfl).eq zS_1)).mono ?_
                 rintro o sh' nn' V' ⟨q1, q2, q3, q4⟩
                 rw [enZ_2] at q4
                 exact ⟨q1, q2, q3, q4⟩)
              | (rw [if_neg (by assumption), if_neg (by assumption), if_neg (by assumption)]
                 refine (lX10_next2 (so := 3) hT Y hi.1 (by omega) ((z.1 8 - (f + 1)).toNat + 1) (f + 1) (z.2 7 f) _ (by omega) (by omega) (fun h => absurd h (by decide)) ((((hz.i rfl).w).i rfl).eq zS_3)).mono ?_
                 rintro o sh' nn' V' ⟨q1, q2, q3, q4⟩
                 rw [enZ_o (by decide) (by decide)] at q4
                 exact ⟨q1, q2, q3, q4⟩)
            · refine TGo.al0 dX10_next_125 rfl ?_
              refine TGo.al0 dX10_next_126 rfl ?_
              refine TGo.getS (t := 18) 7 7 (T + 5) (hT 0 (by decide)) rfl fgX10_23_10 dX10_next_127 rfl rfl rfl ?_
              refine TGo.al0 dX10_next_130 rfl ?_
              refine TGo.getI (t := 18) 9 9 (hT 0 (by decide)) rfl fgX10_256_10 dX10_next_131 rfl rfl rfl ?_
              refine TGo.toz _ ((u2_n (Or.inr (by decide))).trans ((u2_n (Or.inr (by decide))).trans ((show _ = f from hz.1 9 rfl)))) ?_
              refine TGo.iald dX10_next_134 (hT 5 (by decide)) (by omega) rfl ?_
              refine TGo.toz _ ((u2_n (Or.inl (by omega))).trans ((u2_n (Or.inl (by omega))).trans ((show _ = z.2 7 _ from hz.2.1 7 (by decide) _)))) ?_
              refine TGo.i2l dX10_next_135 (by omega) ?_
              refine TGo.putJ (t := 18) 12 12 (hT 0 (by decide)) rfl fpX10_259_10 dX10_next_136 rfl rfl rfl ?_
              refine TGo.al0 dX10_next_139 rfl ?_
              refine TGo.dup dX10_next_140 rfl ?_
              refine TGo.getI (t := 18) 10 10 (hT 0 (by decide)) rfl fgX10_246_10 dX10_next_141 rfl rfl rfl ?_
              refine TGo.toz _ ((u2_n (Or.inr (by decide))).trans (u2_s)) ?_
              refine TGo.ic1 dX10_next_144 ?_
              refine TGo.iadd dX10_next_145 ?_
              refine TGo.putI (t := 18) 10 10 (hT 0 (by decide)) rfl fpX10_246_10 dX10_next_146 rfl rfl rfl ?_
              rw [skZ_eq, if_neg (by first | omega | (rintro ⟨h, h'⟩; omega))]
              unfold tkZ
              first
              | (exfalso; omega)
              | (rw [if_pos (by assumption)]
                 refine (lX10_next2 (so := 0) hT Y hi.1 (by omega) ((z.1 8 - f).toNat + 1) f 0 _ (by omega) (by omega) (fun h => absurd h (by decide)) ((((((hz.i rfl).w).i rfl).w).i rfl).eq zS_1)).mono ?_
                 rintro o sh' nn' V' ⟨q1, q2, q3, q4⟩
                 exact ⟨q1, q2, q3, q4⟩)
              | (rw [if_neg (by assumption), if_pos (by assumption)]
                 refine (lX10_next2 (so := 1) hT Y hi.1 (by omega) ((z.1 8 - f).toNat + 1) f 0 _ (by omega) (by omega) (fun h => absurd h (by decide)) ((((((hz.i rfl).w).i rfl).w).i rfl).eq zS_1)).mono ?_
                 rintro o sh' nn' V' ⟨q1, q2, q3, q4⟩
                 rw [enZ_1] at q4
                 exact ⟨q1, q2, q3, q4⟩)
              | (rw [if_neg (by assumption), if_neg (by assumption), if_pos (by assumption)]
                 refine (lX10_next2 (so := 2) hT Y hi.1 (by omega) ((z.1 8 - f).toNat + 1) f 0 _ (by omega) (by omega) (fun _ => by omega) ((((((hz.i rfl).w).i rfl).w).i rfl).eq zS_1)).mono ?_
                 rintro o sh' nn' V' ⟨q1, q2, q3, q4⟩
                 rw [enZ_2] at q4
                 exact ⟨q1, q2, q3, q4⟩)
              | (rw [if_neg (by assumption), if_neg (by assumption), if_neg (by assumption)]
                 refine (lX10_next2 (so := 3) hT Y hi.1 (by omega) ((z.1 8 - (f + 1)).toNat + 1) (f + 1) (z.2 7 f) _ (by omega) (by omega) (fun h => absurd h (by decide)) ((((((hz.i rfl).w).i rfl).w).i rfl).eq zS_3)).mono ?_
                 rintro o sh' nn' V' ⟨q1, q2, q3, q4⟩
                 rw [enZ_o (by decide) (by decide)] at q4
                 exact ⟨q1, q2, q3, q4⟩)
        · refine TGo.ic0 dX10_next_71 ?_
          refine TGo.goto 114 dX10_next_72 (by decide) ?_
          refine TGo.putI (t := 18) 11 11 (hT 0 (by decide)) rfl fpX10_269_10 dX10_next_114 rfl rfl rfl ?_
          refine TGo.al0 dX10_next_117 rfl ?_
          refine TGo.getI (t := 18) 11 11 (hT 0 (by decide)) rfl fgX10_269_10 dX10_next_118 rfl rfl rfl ?_
          refine TGo.toz _ (u2_s) ?_
          refine TGo.ic3 dX10_next_121 ?_
          refine TGo.icmp_ne 149 dX10_next_122 (by decide) (by omega) (fun h122 => ?_) (fun h122 => ?_)
          · rw [skZ_eq, if_neg (by first | omega | (rintro ⟨h, h'⟩; omega))]
            unfold tkZ
            first
            | (exfalso; omega)
            | (rw [if_pos (by assumption)]
               refine (lX10_next2 (so := 0) hT Y hi.1 (by omega) ((z.1 8 - f).toNat + 1) f 0 _ (by omega) (by omega) (fun h => absurd h (by decide)) ((((hz.i rfl).w).i rfl).eq zS_1)).mono ?_
               rintro o sh' nn' V' ⟨q1, q2, q3, q4⟩
               exact ⟨q1, q2, q3, q4⟩)
            | (rw [if_neg (by assumption), if_pos (by assumption)]
               refine (lX10_next2 (so := 1) hT Y hi.1 (by omega) ((z.1 8 - f).toNat + 1) f 0 _ (by omega) (by omega) (fun h => absurd h (by decide)) ((((hz.i rfl).w).i rfl).eq zS_1)).mono ?_
               rintro o sh' nn' V' ⟨q1, q2, q3, q4⟩
               rw [enZ_1] at q4
               exact ⟨q1, q2, q3, q4⟩)
            | (rw [if_neg (by assumption), if_neg (by assumption), if_pos (by assumption)]
               refine (lX10_next2 (so := 2) hT Y hi.1 (by omega) ((z.1 8 - f).toNat + 1) f 0 _ (by omega) (by omega) (fun _ => by omega) ((((hz.i rfl).w).i rfl).eq zS_1)).mono ?_
               rintro o sh' nn' V' ⟨q1, q2, q3, q4⟩
               rw [enZ_2] at q4
               exact ⟨q1, q2, q3, q4⟩)
            | (rw [if_neg (by assumption), if_neg (by assumption), if_neg (by assumption)]
               refine (lX10_next2 (so := 3) hT Y hi.1 (by omega) ((z.1 8 - (f + 1)).toNat + 1) (f + 1) (z.2 7 f) _ (by omega) (by omega) (fun h => absurd h (by decide)) ((((hz.i rfl).w).i rfl).eq zS_3)).mono ?_
               rintro o sh' nn' V' ⟨q1, q2, q3, q4⟩
               rw [enZ_o (by decide) (by decide)] at q4
               exact ⟨q1, q2, q3, q4⟩)
          · refine TGo.al0 dX10_next_125 rfl ?_
            refine TGo.al0 dX10_next_126 rfl ?_
            refine TGo.getS (t := 18) 7 7 (T + 5) (hT 0 (by decide)) rfl fgX10_23_10 dX10_next_127 rfl rfl rfl ?_
            refine TGo.al0 dX10_next_130 rfl ?_
            refine TGo.getI (t := 18) 9 9 (hT 0 (by decide)) rfl fgX10_256_10 dX10_next_131 rfl rfl rfl ?_
            refine TGo.toz _ ((u2_n (Or.inr (by decide))).trans ((u2_n (Or.inr (by decide))).trans ((show _ = f from hz.1 9 rfl)))) ?_
            refine TGo.iald dX10_next_134 (hT 5 (by decide)) (by omega) rfl ?_
            refine TGo.toz _ ((u2_n (Or.inl (by omega))).trans ((u2_n (Or.inl (by omega))).trans ((show _ = z.2 7 _ from hz.2.1 7 (by decide) _)))) ?_
            refine TGo.i2l dX10_next_135 (by omega) ?_
            refine TGo.putJ (t := 18) 12 12 (hT 0 (by decide)) rfl fpX10_259_10 dX10_next_136 rfl rfl rfl ?_
            refine TGo.al0 dX10_next_139 rfl ?_
            refine TGo.dup dX10_next_140 rfl ?_
            refine TGo.getI (t := 18) 10 10 (hT 0 (by decide)) rfl fgX10_246_10 dX10_next_141 rfl rfl rfl ?_
            refine TGo.toz _ ((u2_n (Or.inr (by decide))).trans (u2_s)) ?_
            refine TGo.ic1 dX10_next_144 ?_
            refine TGo.iadd dX10_next_145 ?_
            refine TGo.putI (t := 18) 10 10 (hT 0 (by decide)) rfl fpX10_246_10 dX10_next_146 rfl rfl rfl ?_
            rw [skZ_eq, if_neg (by first | omega | (rintro ⟨h, h'⟩; omega))]
            unfold tkZ
            first
            | (exfalso; omega)
            | (rw [if_pos (by assumption)]
               refine (lX10_next2 (so := 0) hT Y hi.1 (by omega) ((z.1 8 - f).toNat + 1) f 0 _ (by omega) (by omega) (fun h => absurd h (by decide)) ((((((hz.i rfl).w).i rfl).w).i rfl).eq zS_1)).mono ?_
               rintro o sh' nn' V' ⟨q1, q2, q3, q4⟩
               exact ⟨q1, q2, q3, q4⟩)
            | (rw [if_neg (by assumption), if_pos (by assumption)]
               refine (lX10_next2 (so := 1) hT Y hi.1 (by omega) ((z.1 8 - f).toNat + 1) f 0 _ (by omega) (by omega) (fun h => absurd h (by decide)) ((((((hz.i rfl).w).i rfl).w).i rfl).eq zS_1)).mono ?_
               rintro o sh' nn' V' ⟨q1, q2, q3, q4⟩
               rw [enZ_1] at q4
               exact ⟨q1, q2, q3, q4⟩)
            | (rw [if_neg (by assumption), if_neg (by assumption), if_pos (by assumption)]
               refine (lX10_next2 (so := 2) hT Y hi.1 (by omega) ((z.1 8 - f).toNat + 1) f 0 _ (by omega) (by omega) (fun _ => by omega) ((((((hz.i rfl).w).i rfl).w).i rfl).eq zS_1)).mono ?_
               rintro o sh' nn' V' ⟨q1, q2, q3, q4⟩
               rw [enZ_2] at q4
               exact ⟨q1, q2, q3, q4⟩)
            | (rw [if_neg (by assumption), if_neg (by assumption), if_neg (by assumption)]
               refine (lX10_next2 (so := 3) hT Y hi.1 (by omega) ((z.1 8 - (f + 1)).toNat + 1) (f + 1) (z.2 7 f) _ (by omega) (by omega) (fun h => absurd h (by decide)) ((((((hz.i rfl).w).i rfl).w).i rfl).eq zS_3)).mono ?_
               rintro o sh' nn' V' ⟨q1, q2, q3, q4⟩
               rw [enZ_o (by decide) (by decide)] at q4
               exact ⟨q1, q2, q3, q4⟩)
      · refine TGo.al0 dX10_next_33 rfl ?_
        refine TGo.dup dX10_next_34 rfl ?_
        refine TGo.getI (t := 18) 9 9 (hT 0 (by decide)) rfl fgX10_256_10 dX10_next_35 rfl rfl rfl ?_
        refine TGo.toz _ ((show _ = f from hz.1 9 rfl)) ?_
        refine TGo.ic1 dX10_next_38 ?_
        refine TGo.iadd dX10_next_39 ?_
        refine TGo.putI (t := 18) 9 9 (hT 0 (by decide)) rfl fpX10_256_10 dX10_next_40 rfl rfl rfl ?_
        refine TGo.goto 8 dX10_next_43 (by decide) ?_
        rw [skZ_eq, if_pos ⟨by omega, by omega⟩]
        exact ih (f + 1) _ (by omega) (by omega) ((hz.i rfl).eq zi_9)
set_option maxHeartbeats 4000000 in
theorem kX10_next {E : ET} {sh : SHT} {nn : Nat × Nat} {V : VT} {T : Nat} {z : ZT} (hT : MSh T sh) (hz : PZ T V z) (Y : TPZ z) (hto : 0 ≤ z.1 10 ∧ z.1 10 ≤ z.1 8) : TN E mX10_next 2 [.ref T] sh nn V (fun V1 => PZ T V1 (neZ z)) := by
  refine TC.intro [some (.ref T)] rfl ?_
  refine TGo.al0 dX10_next_0 rfl ?_
  refine TGo.al0 dX10_next_1 rfl ?_
  refine TGo.getI (t := 18) 10 10 (hT 0 (by decide)) rfl fgX10_246_10 dX10_next_2 rfl rfl rfl ?_
  refine TGo.toz _ (hz.1 10 rfl) ?_
  refine TGo.putI (t := 18) 9 9 (hT 0 (by decide)) rfl fpX10_256_10 dX10_next_5 rfl rfl rfl ?_
  exact lX10_next1 hT Y ((z.1 8 - z.1 10).toNat + 1) (z.1 10) _ (by omega) hto (hz.i rfl)
