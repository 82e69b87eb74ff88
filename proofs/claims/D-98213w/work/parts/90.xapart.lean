/-! X: apart, trap -/
set_option maxRecDepth 100000
/-- X's search: two scripts at a pair of states and a cue; the next pair -/
def xdZ (ga gb : Int → Int) (x c : Int) : Int := bZ (wZ (ga (6 * (x / 6) + c)) ≠ wZ (gb (6 * (x % 6) + c)))
def xnZ (ga gb : Int → Int) (x c : Int) : Int := if ga (6 * (x / 6) + c) = -1 then -1 else 6 * nZ (ga (6 * (x / 6) + c)) + nZ (gb (6 * (x % 6) + c))
theorem ngZ_r {ga gb : Int → Int} (ha : ∀ r, 0 ≤ r → r < 36 → cOK (ga r)) (hb : ∀ r, 0 ≤ r → r < 36 → cOK (gb r)) : ∀ x c, (0 ≤ x ∧ x < 36) → (0 ≤ c ∧ c < 6) → xdZ ga gb x c ≠ 1 → -1 ≤ xnZ ga gb x c ∧ xnZ ga gb x c < 36 := by
  intro x c hx hc hd
  have q1 := ha (6 * (x / 6) + c) (by omega) (by omega)
  have q2 := hb (6 * (x % 6) + c) (by omega) (by omega)
  have h1 := wZ_r q1
  have h2 := nZ_r q1
  have h3 := wZ_r q2
  have h4 := nZ_r q2
  have hd2 : ¬ (wZ (ga (6 * (x / 6) + c)) ≠ wZ (gb (6 * (x % 6) + c))) := fun q => hd (bZ_t q)
  unfold xnZ
  split
  · omega
  · omega
def ApS (sh : SHT) (P : Nat) : Prop := sh P = (13, 0) ∧ sh (P + 1) = (1, 36) ∧ sh (P + 2) = (1, 36) ∧ sh (P + 3) = (1, 36) ∧ sh (P + 4) = (1, 37)
/-- what stands in X's arrays -/
def AVZ (P : Nat) (V : VT) (S : BT) : Prop := (∀ i, 0 ≤ i → i < S.2.1 → V.1 (P + 1) i = S.1.1 i) ∧ (∀ x, 0 ≤ x → x < 36 → V.1 (P + 2) x = S.1.2.1 x) ∧ (∀ x, 0 ≤ x → x < 36 → x ≠ 0 → S.1.2.1 x ≠ -1 → V.1 (P + 3) x = S.1.2.2 x) ∧ V.1 P 4 = S.2.1
/-- a row was found -/
def FXZ (P : Nat) (V' : VT) (S : BT) : Prop := V'.1 P 5 = (pnZ S.1.2.1 36 S.2.2.1 : Int) + 1 ∧ V'.1 (P + 4) (pnZ S.1.2.1 36 S.2.2.1 : Int) = S.2.2.2 ∧ ∀ i : Nat, i < pnZ S.1.2.1 36 S.2.2.1 → V'.1 (P + 4) ((pnZ S.1.2.1 36 S.2.2.1 : Int) - 1 - (i : Int)) = S.1.2.2 (itZ S.1.2.1 S.2.2.1 i)
set_option maxHeartbeats 4000000 in
theorem kX5_comes {E : ET} {sh : SHT} {nn : Nat × Nat} {V : VT} {P : Nat} {y x c : Int} (hP : ApS sh P) (hy : 0 ≤ y ∧ y < 36) {m : Int} (e4 : V.1 P 4 = m) (hm : V.1 (P + 2) y = -1 → 0 ≤ m ∧ m < 36) {cy : Int} (ey : V.1 (P + 2) y = cy) (hcy : R32 cy) : TN E mX5_comes 1 [.ref P, .int (iI y), .int (iI x), .int (iI c)] sh nn V (fun V1 => (V.1 (P + 2) y ≠ -1 → V1 = V) ∧ (V.1 (P + 2) y = -1 → V1 = vI (vI (vI (vI V (P + 2) y x) (P + 3) y c) (P + 1) m y) P 4 (m + 1))) := by
  refine TC.intro [some (.ref P), some (.int (iI y)), some (.int (iI x)), some (.int (iI c))] rfl ?_
  refine TGo.al0 dX5_comes_0 rfl ?_
  refine TGo.getS (t := 13) 1 1 (P + 2) hP.1 rfl fgX5_19_5 dX5_comes_1 rfl rfl rfl ?_
  refine TGo.il1 dX5_comes_4 rfl ?_
  refine TGo.iald dX5_comes_5 hP.2.2.1 (by omega) rfl ?_
  refine TGo.toz _ (ey) ?_
  refine TGo.icm1 dX5_comes_6 ?_
  refine TGo.icmp_eq 11 dX5_comes_7 (by decide) (by omega) (fun h7 => ?_) (fun h7 => ?_)
  · have hm := hm (by omega)
    refine TGo.al0 dX5_comes_11 rfl ?_
    refine TGo.getS (t := 13) 1 1 (P + 2) hP.1 rfl fgX5_19_5 dX5_comes_12 rfl rfl rfl ?_
    refine TGo.il1 dX5_comes_15 rfl ?_
    refine TGo.il2 dX5_comes_16 rfl ?_
    refine TGo.iast dX5_comes_17 hP.2.2.1 (by omega) rfl ?_
    refine TGo.al0 dX5_comes_18 rfl ?_
    refine TGo.getS (t := 13) 2 2 (P + 3) hP.1 rfl fgX5_22_5 dX5_comes_19 rfl rfl rfl ?_
    refine TGo.il1 dX5_comes_22 rfl ?_
    refine TGo.il3 dX5_comes_23 rfl ?_
    refine TGo.iast dX5_comes_24 hP.2.2.2.1 (by omega) rfl ?_
    refine TGo.al0 dX5_comes_25 rfl ?_
    refine TGo.getS (t := 13) 0 0 (P + 1) hP.1 rfl fgX5_15_5 dX5_comes_26 rfl rfl rfl ?_
    refine TGo.al0 dX5_comes_29 rfl ?_
    refine TGo.getI (t := 13) 4 4 hP.1 rfl fgX5_28_5 dX5_comes_30 rfl rfl rfl ?_
    refine TGo.toz _ ((u2_n (Or.inl (by omega))).trans ((u2_n (Or.inl (by omega))).trans (e4))) ?_
    refine TGo.il1 dX5_comes_33 rfl ?_
    refine TGo.iast dX5_comes_34 hP.2.1 (by omega) rfl ?_
    refine TGo.al0 dX5_comes_35 rfl ?_
    refine TGo.dup dX5_comes_36 rfl ?_
    refine TGo.getI (t := 13) 4 4 hP.1 rfl fgX5_28_5 dX5_comes_37 rfl rfl rfl ?_
    refine TGo.toz _ ((u2_n (Or.inl (by omega))).trans ((u2_n (Or.inl (by omega))).trans ((u2_n (Or.inl (by omega))).trans (e4)))) ?_
    refine TGo.ic1 dX5_comes_40 ?_
    refine TGo.iadd dX5_comes_41 ?_
    refine TGo.putI (t := 13) 4 4 hP.1 rfl fpX5_28_5 dX5_comes_42 rfl rfl rfl ?_
    refine TGo.vret dX5_comes_45 rfl ?_
    exact ⟨rfl, rfl, rfl, fun h => by omega, fun _ => rfl⟩
  · refine TGo.vret dX5_comes_10 rfl ?_
    exact ⟨rfl, rfl, rfl, fun _ => rfl, fun h => by omega⟩
set_option maxHeartbeats 4000000 in
theorem nX5_ends {E : ET} {sh : SHT} {nn : Nat × Nat} {P : Nat} {f bc : Int → Int} {x c : Int} {m : Nat} {V0 : VT} (hP : ApS sh P) (hm : m < 36) (h0 : itZ f x m = 0) (hp : ∀ k : Nat, k ≤ m → (0 ≤ itZ f x k ∧ itZ f x k < 36) ∧ (k < m → itZ f x k ≠ 0)) (hf : ∀ k : Nat, k < m → V0.1 (P + 2) (itZ f x k) = f (itZ f x k)) (hb : ∀ k : Nat, k < m → V0.1 (P + 3) (itZ f x k) = bc (itZ f x k)) : ∀ (n j : Nat) (V : VT), m - j < n → j ≤ m → ApS sh P → (Fr [P, P + 4] V0 V ∧ V.1 P 5 = (m : Int) + 1 ∧ V.1 (P + 4) (m : Int) = c ∧ ∀ i : Nat, i < j → V.1 (P + 4) ((m : Int) - 1 - (i : Int)) = bc (itZ f x i)) → TGo E mX5_ends 1 48 [some (.ref P), some (.int (iI x)), some (.int (iI c)), some (.int (iI ((m : Int) - (((j) : Nat) : Int)))), some (.int (iI (itZ f x (j))))] [] sh nn V (fun o sh' nn' V' => o = .inl (some (.int (iI ((m : Int) + 1)))) ∧ sh' = sh ∧ nn' = nn ∧ Fr [P, P + 4] V0 V' ∧ V'.1 P 5 = (m : Int) + 1 ∧ V'.1 (P + 4) (m : Int) = c ∧ ∀ i : Nat, i < m → V'.1 (P + 4) ((m : Int) - 1 - (i : Int)) = bc (itZ f x i)) := by
  intro n
  induction n with
  | zero => intro j V h; omega
  | succ n ih =>
    intro j V hn hj hz hx
    have hp1 := hp j (by omega)
    have em : j < m ∨ itZ f x j = 0 := by
      rcases Nat.lt_or_ge j m with e | e
      · exact Or.inl e
      · right; obtain rfl : j = m := by omega
        exact h0
    have en : j < m → itZ f x j ≠ 0 := hp1.2
    refine TGo.il dX5_ends_48 rfl ?_
    refine TGo.if_eq 81 dX5_ends_50 (by decide) (by omega) (fun h50 => ?_) (fun h50 => ?_)
    · refine TGo.al0 dX5_ends_81 rfl ?_
      refine TGo.getI (t := 13) 5 5 hP.1 rfl fgX5_52_5 dX5_ends_82 rfl rfl rfl ?_
      refine TGo.toz _ (hx.2.1) ?_
      refine TGo.iret dX5_ends_85 rfl ?_
      obtain rfl : j = m := by
        rcases Nat.lt_or_ge j m with e | e
        · exact absurd (by assumption) (en e)
        · omega
      exact ⟨rfl, rfl, rfl, hx⟩
    · refine TGo.iinc dX5_ends_53 rfl rfl rfl ?_
      refine TGo.al0 dX5_ends_56 rfl ?_
      refine TGo.getS (t := 13) 3 3 (P + 4) hP.1 rfl fgX5_25_5 dX5_ends_57 rfl rfl rfl ?_
      refine TGo.il3 dX5_ends_60 rfl ?_
      refine TGo.al0 dX5_ends_61 rfl ?_
      refine TGo.getS (t := 13) 2 2 (P + 3) hP.1 rfl fgX5_22_5 dX5_ends_62 rfl rfl rfl ?_
      refine TGo.il dX5_ends_65 rfl ?_
      refine TGo.iald dX5_ends_67 hP.2.2.2.1 (by omega) rfl ?_
      refine TGo.toz _ ((congrFun (hx.1.1 _ (by simp)) _).trans (hb j (by omega))) ?_
      refine TGo.iast dX5_ends_68 hP.2.2.2.2 (by omega) rfl ?_
      refine TGo.al0 dX5_ends_69 rfl ?_
      refine TGo.getS (t := 13) 1 1 (P + 2) hP.1 rfl fgX5_19_5 dX5_ends_70 rfl rfl rfl ?_
      refine TGo.il dX5_ends_73 rfl ?_
      refine TGo.iald dX5_ends_75 hP.2.2.1 (by omega) rfl ?_
      refine TGo.toz _ ((u2_n (Or.inl (by omega))).trans ((congrFun (hx.1.1 _ (by simp)) _).trans (hf j (by omega)))) ?_
      refine TGo.is dX5_ends_76 rfl rfl ?_
      refine TGo.goto 48 dX5_ends_78 (by decide) ?_
      first | (exfalso; omega) | exact TGo.seq [some (.ref P), some (.int (iI x)), some (.int (iI c)), some (.int (iI ((m : Int) - ((((j + 1)) : Nat) : Int)))), some (.int (iI (itZ f x ((j + 1)))))] [] _ (by rw [show (m : Int) - ((j + 1 : Nat) : Int) = (m : Int) - (j : Int) + -1 by omega]; rfl) rfl rfl (ih (j + 1) _ (by omega) (by omega) hz ⟨hx.1.i (by simp), (u2_n (Or.inl (by omega))).trans hx.2.1, (u2_n (Or.inr (by omega))).trans hx.2.2.1, fun i hi => by
        rcases Nat.lt_or_ge i j with e | e
        · exact (u2_n (Or.inr (by omega))).trans (hx.2.2.2 i e)
        · obtain rfl : i = j := by omega
          rw [show (m : Int) - 1 - (i : Int) = (m : Int) - (i : Int) + -1 by omega]
          exact u2_s⟩)
set_option maxHeartbeats 4000000 in
theorem lX5_ends {E : ET} {sh : SHT} {nn : Nat × Nat} {P : Nat} {f bc : Int → Int} {x c : Int} {m : Nat} {V0 : VT} (hP : ApS sh P) (hm : m < 36) (h0 : itZ f x m = 0) (hp : ∀ k : Nat, k ≤ m → (0 ≤ itZ f x k ∧ itZ f x k < 36) ∧ (k < m → itZ f x k ≠ 0)) (hf : ∀ k : Nat, k < m → V0.1 (P + 2) (itZ f x k) = f (itZ f x k)) (hb : ∀ k : Nat, k < m → V0.1 (P + 3) (itZ f x k) = bc (itZ f x k)) : ∀ (n j : Nat) (V : VT), m - j < n → j ≤ m → ApS sh P → (Fr [P, P + 4] V0 V ∧ V.1 P 5 = (j : Int) + 1) → TGo E mX5_ends 1 7 [some (.ref P), some (.int (iI x)), some (.int (iI c)), some (.int (iI (itZ f x (j)))), none] [] sh nn V (fun o sh' nn' V' => o = .inl (some (.int (iI ((m : Int) + 1)))) ∧ sh' = sh ∧ nn' = nn ∧ Fr [P, P + 4] V0 V' ∧ V'.1 P 5 = (m : Int) + 1 ∧ V'.1 (P + 4) (m : Int) = c ∧ ∀ i : Nat, i < m → V'.1 (P + 4) ((m : Int) - 1 - (i : Int)) = bc (itZ f x i)) := by
  intro n
  induction n with
  | zero => intro j V h; omega
  | succ n ih =>
    intro j V hn hj hz hx
    have hp1 := hp j (by omega)
    have em : j < m ∨ itZ f x j = 0 := by
      rcases Nat.lt_or_ge j m with e | e
      · exact Or.inl e
      · right; obtain rfl : j = m := by omega
        exact h0
    have en : j < m → itZ f x j ≠ 0 := hp1.2
    refine TGo.il3 dX5_ends_7 rfl ?_
    refine TGo.if_eq 31 dX5_ends_8 (by decide) (by omega) (fun h8 => ?_) (fun h8 => ?_)
    · refine TGo.al0 dX5_ends_31 rfl ?_
      refine TGo.getI (t := 13) 5 5 hP.1 rfl fgX5_52_5 dX5_ends_32 rfl rfl rfl ?_
      refine TGo.toz _ (hx.2) ?_
      refine TGo.ic1 dX5_ends_35 ?_
      refine TGo.isub dX5_ends_36 ?_
      refine TGo.is3 dX5_ends_37 rfl rfl ?_
      refine TGo.al0 dX5_ends_38 rfl ?_
      refine TGo.getS (t := 13) 3 3 (P + 4) hP.1 rfl fgX5_25_5 dX5_ends_39 rfl rfl rfl ?_
      refine TGo.il3 dX5_ends_42 rfl ?_
      refine TGo.il2 dX5_ends_43 rfl ?_
      refine TGo.iast dX5_ends_44 hP.2.2.2.2 (by omega) rfl ?_
      refine TGo.il1 dX5_ends_45 rfl ?_
      refine TGo.is dX5_ends_46 rfl rfl ?_
      obtain rfl : j = m := by
        rcases Nat.lt_or_ge j m with e | e
        · exact absurd (by assumption) (en e)
        · omega
      refine TGo.seq [some (.ref P), some (.int (iI x)), some (.int (iI c)), some (.int (iI ((j : Int) - (((0 : Nat)) : Int)))), some (.int (iI (itZ f x 0)))] [] _ (by rw [show (j : Int) - ((0 : Nat) : Int) = (j : Int) + 1 - 1 by omega]; rfl) rfl rfl (nX5_ends hP hm h0 hp hf hb (j + 1) 0 _ (by omega) (by omega) hz ⟨hx.1.i (by simp), (u2_n (Or.inl (by omega))).trans hx.2, ?_, fun i hi => by omega⟩)
      show u2 _ (P + 4) ((j : Int) + 1 - 1) c (P + 4) (j : Int) = c
      rw [show (j : Int) + 1 - 1 = (j : Int) by omega]
      exact u2_s
    · refine TGo.al0 dX5_ends_11 rfl ?_
      refine TGo.dup dX5_ends_12 rfl ?_
      refine TGo.getI (t := 13) 5 5 hP.1 rfl fgX5_52_5 dX5_ends_13 rfl rfl rfl ?_
      refine TGo.toz _ (hx.2) ?_
      refine TGo.ic1 dX5_ends_16 ?_
      refine TGo.iadd dX5_ends_17 ?_
      refine TGo.putI (t := 13) 5 5 hP.1 rfl fpX5_52_5 dX5_ends_18 rfl rfl rfl ?_
      refine TGo.al0 dX5_ends_21 rfl ?_
      refine TGo.getS (t := 13) 1 1 (P + 2) hP.1 rfl fgX5_19_5 dX5_ends_22 rfl rfl rfl ?_
      refine TGo.il3 dX5_ends_25 rfl ?_
      refine TGo.iald dX5_ends_26 hP.2.2.1 (by omega) rfl ?_
      refine TGo.toz _ ((u2_n (Or.inl (by omega))).trans ((congrFun (hx.1.1 _ (by simp)) _).trans (hf j (by omega)))) ?_
      refine TGo.is3 dX5_ends_27 rfl rfl ?_
      refine TGo.goto 7 dX5_ends_28 (by decide) ?_
      first | (exfalso; omega) | exact TGo.seq [some (.ref P), some (.int (iI x)), some (.int (iI c)), some (.int (iI (itZ f x ((j + 1))))), none] [] _ (rfl) rfl rfl (ih (j + 1) _ (by omega) (by omega) hz ⟨hx.1.i (by simp), u2_s.trans (by omega)⟩)
set_option maxHeartbeats 4000000 in
theorem kX5_ends {E : ET} {sh : SHT} {nn : Nat × Nat} {V : VT} {P : Nat} {f bc : Int → Int} {m : Nat} {x c : Int} (hP : ApS sh P) (hm : m < 36) (h0 : itZ f x m = 0) (hp : ∀ k : Nat, k ≤ m → (0 ≤ itZ f x k ∧ itZ f x k < 36) ∧ (k < m → itZ f x k ≠ 0)) (hf : ∀ k : Nat, k < m → V.1 (P + 2) (itZ f x k) = f (itZ f x k)) (hb : ∀ k : Nat, k < m → V.1 (P + 3) (itZ f x k) = bc (itZ f x k)) : TS E mX5_ends 1 [.ref P, .int (iI x), .int (iI c)] sh nn V (fun v V' => v = .int (iI ((m : Int) + 1)) ∧ Fr [P, P + 4] V V' ∧ V'.1 P 5 = (m : Int) + 1 ∧ V'.1 (P + 4) (m : Int) = c ∧ ∀ i : Nat, i < m → V'.1 (P + 4) ((m : Int) - 1 - (i : Int)) = bc (itZ f x i)) := by
  refine TC.intro [some (.ref P), some (.int (iI x)), some (.int (iI c)), none, none] rfl ?_
  refine TGo.al0 dX5_ends_0 rfl ?_
  refine TGo.ic1 dX5_ends_1 ?_
  refine TGo.putI (t := 13) 5 5 hP.1 rfl fpX5_52_5 dX5_ends_2 rfl rfl rfl ?_
  refine TGo.il1 dX5_ends_5 rfl ?_
  refine TGo.is3 dX5_ends_6 rfl rfl ?_
  refine (lX5_ends (V0 := V) hP hm h0 hp hf hb (m + 1) 0 _ (by omega) (by omega) hP ⟨Fr.rf.i (by simp), u2_s⟩).mono ?_
  rintro o sh' nn' V' ⟨q1, q2, q3, q4⟩
  exact ⟨_, q1, q2, q3, rfl, q4⟩
set_option maxHeartbeats 4000000 in
theorem iX5_finds {E : ET} {sh : SHT} {nn : Nat × Nat} {P : Nat} {S S2 : Nat} {ga gb : Int → Int} {x : Int} {k : Nat} {V0 : VT} (hS : ScS sh S) (hS2 : ScS sh S2) (hga : ∀ r, 0 ≤ r → r < 36 → cOK (ga r)) (hgb : ∀ r, 0 ≤ r → r < 36 → cOK (gb r)) (KS : ∀ V, Fr [P, P + 1, P + 2, P + 3, P + 4] V0 V → ScV V S ga ∧ ScV V S2 gb) (hk : (k : Int) < (bfS (xdZ ga gb) (xnZ ga gb) k).2.1) (hk36 : k < 36) (hf0 : (bfS (xdZ ga gb) (xnZ ga gb) k).2.2.2 = -1) (hxk : (bfS (xdZ ga gb) (xnZ ga gb) k).1.1 (k : Int) = x) (K : ∀ (V : VT) (y4 y5 y6 : Option Value), Fr [P, P + 1, P + 2, P + 3, P + 4] V0 V → AVZ P V (bfS (xdZ ga gb) (xnZ ga gb) (k + 1)) → (bfS (xdZ ga gb) (xnZ ga gb) (k + 1)).2.2.2 = -1 → TGo E mX5_finds 2 42 [some (.ref P), some (.ref S), some (.ref S2), some (.int (iI (((k + 1) : Nat) : Int))), y4, y5, y6] [] sh nn V (fun o sh' nn' V' => ∃ v, o = .inl (some v) ∧ sh' = sh ∧ nn' = nn ∧ ((∃ w, v = .int (iI w)) ∧ Fr [P, P + 1, P + 2, P + 3, P + 4] V0 V' ∧ ((bfS (xdZ ga gb) (xnZ ga gb) 36).2.2.2 ≠ -1 → FXZ P V' (bfS (xdZ ga gb) (xnZ ga gb) 36)) ∧ ((bfS (xdZ ga gb) (xnZ ga gb) 36).2.2.2 = -1 → V'.1 P 5 = -1)))) : ∀ (n j : Nat) (V : VT) (y5 y6 : Option Value), 6 - j < n → j ≤ 6 → ApS sh P → (Fr [P, P + 1, P + 2, P + 3, P + 4] V0 V ∧ AVZ P V (bfR (xdZ ga gb) (xnZ ga gb) (bfS (xdZ ga gb) (xnZ ga gb) k) x j) ∧ (bfR (xdZ ga gb) (xnZ ga gb) (bfS (xdZ ga gb) (xnZ ga gb) k) x j).2.2.2 = -1) → TGo E mX5_finds 2 53 [some (.ref P), some (.ref S), some (.ref S2), some (.int (iI (k : Int))), some (.int (iI (((j) : Nat) : Int))), y5, y6] [] sh nn V (fun o sh' nn' V' => ∃ v, o = .inl (some v) ∧ sh' = sh ∧ nn' = nn ∧ ((∃ w, v = .int (iI w)) ∧ Fr [P, P + 1, P + 2, P + 3, P + 4] V0 V' ∧ ((bfS (xdZ ga gb) (xnZ ga gb) 36).2.2.2 ≠ -1 → FXZ P V' (bfS (xdZ ga gb) (xnZ ga gb) 36)) ∧ ((bfS (xdZ ga gb) (xnZ ga gb) 36).2.2.2 = -1 → V'.1 P 5 = -1))) := by
  intro n
  induction n with
  | zero => intro j V y5 y6 h; omega
  | succ n ih =>
    intro j V y5 y6 hn hj hz hx
    have hP := hz
    have hnr := ngZ_r hga hgb
    have hS0 := bfS_ok hnr k
    have hx36 : 0 ≤ x ∧ x < 36 := by rw [← hxk]; exact (hS0.2.1 k (by omega) hk).1
    have hxm : (bfS (xdZ ga gb) (xnZ ga gb) k).1.2.1 x ≠ -1 := by rw [← hxk]; exact (hS0.2.1 k (by omega) hk).2
    have hI := bfR_ok hnr hS0 hx36 hxm j hj
    have hle := hI.1.le
    have hcm := bfR_come (df := (xdZ ga gb)) (nx := (xnZ ga gb)) (S := (bfS (xdZ ga gb) (xnZ ga gb) k)) (x := x) j
    have hkx : (bfR (xdZ ga gb) (xnZ ga gb) (bfS (xdZ ga gb) (xnZ ga gb) k) x j).1.1 (k : Int) = x := by rw [hcm.2 k hk]; exact hxk
    obtain ⟨hfr, ⟨hv1, hv2, hv3, hv4⟩, hfc⟩ := hx
    obtain ⟨hv, hw⟩ := KS V hfr
    refine TGo.il dX5_finds_53 rfl ?_
    refine TGo.bip 6 dX5_finds_55 (by decide) ?_
    refine TGo.icmp_ge 169 dX5_finds_57 (by decide) (by omega) (fun h57 => ?_) (fun h57 => ?_)
    · obtain rfl : j = 6 := by omega
      have g1 : bfS (xdZ ga gb) (xnZ ga gb) (k + 1) = bfR (xdZ ga gb) (xnZ ga gb) (bfS (xdZ ga gb) (xnZ ga gb) k) x 6 := by rw [bfS, if_neg (by omega), hxk]
      refine TGo.iinc dX5_finds_169 rfl rfl rfl ?_
      refine TGo.goto 42 dX5_finds_172 (by decide) ?_
      exact TGo.seq [some (.ref P), some (.ref S), some (.ref S2), some (.int (iI (((k + 1) : Nat) : Int))), _, _, _] [] _ (by rfl) rfl rfl (K _ _ _ _ hfr (by rw [g1]; exact ⟨hv1, hv2, hv3, hv4⟩) (by rw [g1]; exact hfc))
    · have hpq1 := hga (6 * (x / 6) + (j : Int)) (by omega) (by omega)
      have hpq2 := hgb (6 * (x % 6) + (j : Int)) (by omega) (by omega)
      have hw1 := wZ_r hpq1
      have hw2 := nZ_r hpq1
      have hw3 := wZ_r hpq2
      have hw4 := nZ_r hpq2
      refine TGo.bip 6 dX5_finds_60 (by decide) ?_
      refine TGo.al0 dX5_finds_62 rfl ?_
      refine TGo.getS (t := 13) 0 0 (P + 1) hP.1 rfl fgX5_15_5 dX5_finds_63 rfl rfl rfl ?_
      refine TGo.il3 dX5_finds_66 rfl ?_
      refine TGo.iald dX5_finds_67 hP.2.1 (by omega) rfl ?_
      refine TGo.toz _ (((hv1 _ (by omega) (by omega)).trans hkx)) ?_
      refine TGo.bip 6 dX5_finds_68 (by decide) ?_
      refine TGo.idiv dX5_finds_70 (by omega) ?_
      refine TGo.imul dX5_finds_71 ?_
      refine TGo.il dX5_finds_72 rfl ?_
      refine TGo.iadd dX5_finds_74 ?_
      refine TGo.is dX5_finds_75 rfl rfl ?_
      refine TGo.bip 6 dX5_finds_77 (by decide) ?_
      refine TGo.al0 dX5_finds_79 rfl ?_
      refine TGo.getS (t := 13) 0 0 (P + 1) hP.1 rfl fgX5_15_5 dX5_finds_80 rfl rfl rfl ?_
      refine TGo.il3 dX5_finds_83 rfl ?_
      refine TGo.iald dX5_finds_84 hP.2.1 (by omega) rfl ?_
      refine TGo.toz _ (((hv1 _ (by omega) (by omega)).trans hkx)) ?_
      refine TGo.bip 6 dX5_finds_85 (by decide) ?_
      refine TGo.irem dX5_finds_87 (by omega) ?_
      refine TGo.imul dX5_finds_88 ?_
      refine TGo.il dX5_finds_89 rfl ?_
      refine TGo.iadd dX5_finds_91 ?_
      refine TGo.is dX5_finds_92 rfl rfl ?_
      refine TGo.al1 dX5_finds_94 rfl ?_
      refine TGo.getS (t := 10) 0 0 (S + 1) hS.1 rfl fgX5_32_2 dX5_finds_95 rfl rfl rfl ?_
      refine TGo.il dX5_finds_98 rfl ?_
      refine TGo.iald dX5_finds_100 hS.2.1 (by omega) rfl ?_
      refine TGo.toz _ ((hv _ (by omega) (by omega)).1) ?_
      refine TGo.al2 dX5_finds_101 rfl ?_
      refine TGo.getS (t := 10) 0 0 (S2 + 1) hS2.1 rfl fgX5_32_2 dX5_finds_102 rfl rfl rfl ?_
      refine TGo.il dX5_finds_105 rfl ?_
      refine TGo.iald dX5_finds_107 hS2.2.1 (by omega) rfl ?_
      refine TGo.toz _ ((hw _ (by omega) (by omega)).1) ?_
      refine TGo.icmp_eq 124 dX5_finds_108 (by decide) (by omega) (fun h108 => ?_) (fun h108 => ?_)
      · have hd0 : xdZ ga gb x (j : Int) ≠ 1 := fun q => absurd (bZ_1.mp q) (by omega)
        have hnr1 := hnr x (j : Int) hx36 (by omega) hd0
        refine TGo.al1 dX5_finds_124 rfl ?_
        refine TGo.il dX5_finds_125 rfl ?_
        refine TGo.cF (csV1 (y2 := mX2_isHole) (t := 10) 1 rfl hS.1 rfl rfl dX5_finds_127 q1580 q745 q746 okX2_isHole npX2_isHole rfl rfl) (kX2_isHole hS hv (by omega) hpq1) ?_
        refine TGo.ifb_ne 163 dX5_finds_130 (by decide) (fun h130 => ?_) (fun h130 => ?_)
        · refine TGo.iinc dX5_finds_163 rfl rfl rfl ?_
          refine TGo.goto 53 dX5_finds_166 (by decide) ?_
          first | (exfalso; omega) | exact TGo.seq [some (.ref P), some (.ref S), some (.ref S2), some (.int (iI (k : Int))), some (.int (iI ((((j + 1)) : Nat) : Int))), _, _] [] _ (rfl) rfl rfl (ih (j + 1) _ _ _ (by omega) (by omega) hz (by
            first
            | (have e1 : (bfR (xdZ ga gb) (xnZ ga gb) (bfS (xdZ ga gb) (xnZ ga gb) k) x (j + 1)) = (bfR (xdZ ga gb) (xnZ ga gb) (bfS (xdZ ga gb) (xnZ ga gb) k) x j) := by rw [bfR, bfC, if_neg (by omega), if_neg hd0, if_neg (fun q => q.1 (if_pos (by assumption)))]
               rw [e1]; exact ⟨hfr, ⟨hv1, hv2, hv3, hv4⟩, hfc⟩)
            | (by_cases ec : (bfR (xdZ ga gb) (xnZ ga gb) (bfS (xdZ ga gb) (xnZ ga gb) k) x j).1.2.1 (xnZ ga gb x (j : Int)) = -1
               · obtain rfl := h160.2 ((hv2 _ (by omega) (by omega)).trans ec)
                 have e1 : (bfR (xdZ ga gb) (xnZ ga gb) (bfS (xdZ ga gb) (xnZ ga gb) k) x (j + 1)) = ((zu (bfR (xdZ ga gb) (xnZ ga gb) (bfS (xdZ ga gb) (xnZ ga gb) k) x j).1.1 (bfR (xdZ ga gb) (xnZ ga gb) (bfS (xdZ ga gb) (xnZ ga gb) k) x j).2.1 (xnZ ga gb x (j : Int)), zu (bfR (xdZ ga gb) (xnZ ga gb) (bfS (xdZ ga gb) (xnZ ga gb) k) x j).1.2.1 (xnZ ga gb x (j : Int)) x, zu (bfR (xdZ ga gb) (xnZ ga gb) (bfS (xdZ ga gb) (xnZ ga gb) k) x j).1.2.2 (xnZ ga gb x (j : Int)) (j : Int)), (bfR (xdZ ga gb) (xnZ ga gb) (bfS (xdZ ga gb) (xnZ ga gb) k) x j).2.1 + 1, (bfR (xdZ ga gb) (xnZ ga gb) (bfS (xdZ ga gb) (xnZ ga gb) k) x j).2.2) := by rw [bfR, bfC, if_neg (by omega), if_neg hd0, if_pos ⟨by omega, ec⟩]
                 rw [e1]
                 refine ⟨(((hfr.i (by simp)).i (by simp)).i (by simp)).i (by simp), ⟨fun i h0 h1 => ?_, fun w h0 h1 => ?_, fun w h0 h1 h2 h3 => ?_, u2_s⟩, hfc⟩
                 · show _ = zu (bfR (xdZ ga gb) (xnZ ga gb) (bfS (xdZ ga gb) (xnZ ga gb) k) x j).1.1 (bfR (xdZ ga gb) (xnZ ga gb) (bfS (xdZ ga gb) (xnZ ga gb) k) x j).2.1 (xnZ ga gb x (j : Int)) i
                   have h1 : i < (bfR (xdZ ga gb) (xnZ ga gb) (bfS (xdZ ga gb) (xnZ ga gb) k) x j).2.1 + 1 := h1
                   refine (u2_n (Or.inl (by omega))).trans ?_
                   by_cases e : i = (bfR (xdZ ga gb) (xnZ ga gb) (bfS (xdZ ga gb) (xnZ ga gb) k) x j).2.1
                   · rw [e, zu_s]; exact u2_s
                   · rw [zu_n e]; exact (u2_n (Or.inr e)).trans ((u2_n (Or.inl (by omega))).trans ((u2_n (Or.inl (by omega))).trans (hv1 i h0 (by omega))))
                 · show _ = zu (bfR (xdZ ga gb) (xnZ ga gb) (bfS (xdZ ga gb) (xnZ ga gb) k) x j).1.2.1 (xnZ ga gb x (j : Int)) x w
                   refine (u2_n (Or.inl (by omega))).trans ((u2_n (Or.inl (by omega))).trans ((u2_n (Or.inl (by omega))).trans ?_))
                   by_cases e : w = (xnZ ga gb x (j : Int))
                   · rw [e, zu_s]; exact u2_s
                   · rw [zu_n e]; exact (u2_n (Or.inr e)).trans (hv2 w h0 h1)
                 · show _ = zu (bfR (xdZ ga gb) (xnZ ga gb) (bfS (xdZ ga gb) (xnZ ga gb) k) x j).1.2.2 (xnZ ga gb x (j : Int)) (j : Int) w
                   have h3 : zu (bfR (xdZ ga gb) (xnZ ga gb) (bfS (xdZ ga gb) (xnZ ga gb) k) x j).1.2.1 (xnZ ga gb x (j : Int)) x w ≠ -1 := h3
                   refine (u2_n (Or.inl (by omega))).trans ((u2_n (Or.inl (by omega))).trans ?_)
                   by_cases e : w = (xnZ ga gb x (j : Int))
                   · rw [e, zu_s]; exact u2_s
                   · rw [zu_n e] at h3 ⊢; exact (u2_n (Or.inr e)).trans ((u2_n (Or.inl (by omega))).trans (hv3 w h0 h1 h2 h3))
               · obtain rfl := h160.1 (fun q => ec ((hv2 _ (by omega) (by omega)).symm.trans q))
                 have e1 : (bfR (xdZ ga gb) (xnZ ga gb) (bfS (xdZ ga gb) (xnZ ga gb) k) x (j + 1)) = (bfR (xdZ ga gb) (xnZ ga gb) (bfS (xdZ ga gb) (xnZ ga gb) k) x j) := by rw [bfR, bfC, if_neg (by omega), if_neg hd0, if_neg (fun q => ec q.2)]
                 rw [e1]; exact ⟨hfr, ⟨hv1, hv2, hv3, hv4⟩, hfc⟩)))
        · have hnx : (xnZ ga gb x (j : Int)) = 6 * nZ (ga (6 * (x / 6) + (j : Int))) + nZ (gb (6 * (x % 6) + (j : Int))) := if_neg (by assumption)
          have hlt : (bfR (xdZ ga gb) (xnZ ga gb) (bfS (xdZ ga gb) (xnZ ga gb) k) x j).1.2.1 (xnZ ga gb x (j : Int)) = -1 → (bfR (xdZ ga gb) (xnZ ga gb) (bfS (xdZ ga gb) (xnZ ga gb) k) x j).2.1 < 36 := fun e => (hI.1.step (y := (xnZ ga gb x (j : Int))) (c := (j : Int)) ⟨hx36, hI.2⟩ (by omega) e hfc).2
          have hge := hI.1.1
          refine TGo.al0 dX5_finds_133 rfl ?_
          refine TGo.bip 6 dX5_finds_134 (by decide) ?_
          refine TGo.al1 dX5_finds_136 rfl ?_
          refine TGo.getS (t := 10) 1 1 (S + 2) hS.1 rfl fgX5_45_2 dX5_finds_137 rfl rfl rfl ?_
          refine TGo.il dX5_finds_140 rfl ?_
          refine TGo.iald dX5_finds_142 hS.2.2 (by omega) rfl ?_
          refine TGo.toz _ (((hv _ (by omega) (by omega)).2 (by assumption))) ?_
          refine TGo.imul dX5_finds_143 ?_
          refine TGo.al2 dX5_finds_144 rfl ?_
          refine TGo.getS (t := 10) 1 1 (S2 + 2) hS2.1 rfl fgX5_45_2 dX5_finds_145 rfl rfl rfl ?_
          refine TGo.il dX5_finds_148 rfl ?_
          refine TGo.iald dX5_finds_150 hS2.2.2 (by omega) rfl ?_
          refine TGo.toz _ (((hw _ (by omega) (by omega)).2 (by omega))) ?_
          refine TGo.iadd dX5_finds_151 ?_
          refine TGo.toz (xnZ ga gb x (j : Int)) (by omega) ?_
          refine TGo.al0 dX5_finds_152 rfl ?_
          refine TGo.getS (t := 13) 0 0 (P + 1) hP.1 rfl fgX5_15_5 dX5_finds_153 rfl rfl rfl ?_
          refine TGo.il3 dX5_finds_156 rfl ?_
          refine TGo.iald dX5_finds_157 hP.2.1 (by omega) rfl ?_
          refine TGo.toz _ (((hv1 _ (by omega) (by omega)).trans hkx)) ?_
          refine TGo.il dX5_finds_158 rfl ?_
          refine TGo.cN (csV3 (y2 := mX5_comes) (t := 13) 1 rfl hP.1 rfl rfl dX5_finds_160 q1581 q1583 qs25 okX5_comes npX5_comes rfl rfl) (kX5_comes hP (by omega) hv4 (fun e => by have := hlt ((hv2 _ (by omega) (by omega)).symm.trans e); omega) (hv2 _ (by omega) (by omega)) (by have := hI.1.2.2.1 (xnZ ga gb x (j : Int)) (by omega) (by omega); omega)) (fun V160 h160 => ?_)
          refine TGo.iinc dX5_finds_163 rfl rfl rfl ?_
          refine TGo.goto 53 dX5_finds_166 (by decide) ?_
          first | (exfalso; omega) | exact TGo.seq [some (.ref P), some (.ref S), some (.ref S2), some (.int (iI (k : Int))), some (.int (iI ((((j + 1)) : Nat) : Int))), _, _] [] _ (rfl) rfl rfl (ih (j + 1) _ _ _ (by omega) (by omega) hz (by
            first
            | (have e1 : (bfR (xdZ ga gb) (xnZ ga gb) (bfS (xdZ ga gb) (xnZ ga gb) k) x (j + 1)) = (bfR (xdZ ga gb) (xnZ ga gb) (bfS (xdZ ga gb) (xnZ ga gb) k) x j) := by rw [bfR, bfC, if_neg (by omega), if_neg hd0, if_neg (fun q => q.1 (if_pos (by assumption)))]
               rw [e1]; exact ⟨hfr, ⟨hv1, hv2, hv3, hv4⟩, hfc⟩)
            | (by_cases ec : (bfR (xdZ ga gb) (xnZ ga gb) (bfS (xdZ ga gb) (xnZ ga gb) k) x j).1.2.1 (xnZ ga gb x (j : Int)) = -1
               · obtain rfl := h160.2 ((hv2 _ (by omega) (by omega)).trans ec)
                 have e1 : (bfR (xdZ ga gb) (xnZ ga gb) (bfS (xdZ ga gb) (xnZ ga gb) k) x (j + 1)) = ((zu (bfR (xdZ ga gb) (xnZ ga gb) (bfS (xdZ ga gb) (xnZ ga gb) k) x j).1.1 (bfR (xdZ ga gb) (xnZ ga gb) (bfS (xdZ ga gb) (xnZ ga gb) k) x j).2.1 (xnZ ga gb x (j : Int)), zu (bfR (xdZ ga gb) (xnZ ga gb) (bfS (xdZ ga gb) (xnZ ga gb) k) x j).1.2.1 (xnZ ga gb x (j : Int)) x, zu (bfR (xdZ ga gb) (xnZ ga gb) (bfS (xdZ ga gb) (xnZ ga gb) k) x j).1.2.2 (xnZ ga gb x (j : Int)) (j : Int)), (bfR (xdZ ga gb) (xnZ ga gb) (bfS (xdZ ga gb) (xnZ ga gb) k) x j).2.1 + 1, (bfR (xdZ ga gb) (xnZ ga gb) (bfS (xdZ ga gb) (xnZ ga gb) k) x j).2.2) := by rw [bfR, bfC, if_neg (by omega), if_neg hd0, if_pos ⟨by omega, ec⟩]
                 rw [e1]
                 refine ⟨(((hfr.i (by simp)).i (by simp)).i (by simp)).i (by simp), ⟨fun i h0 h1 => ?_, fun w h0 h1 => ?_, fun w h0 h1 h2 h3 => ?_, u2_s⟩, hfc⟩
                 · show _ = zu (bfR (xdZ ga gb) (xnZ ga gb) (bfS (xdZ ga gb) (xnZ ga gb) k) x j).1.1 (bfR (xdZ ga gb) (xnZ ga gb) (bfS (xdZ ga gb) (xnZ ga gb) k) x j).2.1 (xnZ ga gb x (j : Int)) i
                   have h1 : i < (bfR (xdZ ga gb) (xnZ ga gb) (bfS (xdZ ga gb) (xnZ ga gb) k) x j).2.1 + 1 := h1
                   refine (u2_n (Or.inl (by omega))).trans ?_
                   by_cases e : i = (bfR (xdZ ga gb) (xnZ ga gb) (bfS (xdZ ga gb) (xnZ ga gb) k) x j).2.1
                   · rw [e, zu_s]; exact u2_s
                   · rw [zu_n e]; exact (u2_n (Or.inr e)).trans ((u2_n (Or.inl (by omega))).trans ((u2_n (Or.inl (by omega))).trans (hv1 i h0 (by omega))))
                 · show _ = zu (bfR (xdZ ga gb) (xnZ ga gb) (bfS (xdZ ga gb) (xnZ ga gb) k) x j).1.2.1 (xnZ ga gb x (j : Int)) x w
                   refine (u2_n (Or.inl (by omega))).trans ((u2_n (Or.inl (by omega))).trans ((u2_n (Or.inl (by omega))).trans ?_))
                   by_cases e : w = (xnZ ga gb x (j : Int))
                   · rw [e, zu_s]; exact u2_s
                   · rw [zu_n e]; exact (u2_n (Or.inr e)).trans (hv2 w h0 h1)
                 · show _ = zu (bfR (xdZ ga gb) (xnZ ga gb) (bfS (xdZ ga gb) (xnZ ga gb) k) x j).1.2.2 (xnZ ga gb x (j : Int)) (j : Int) w
                   have h3 : zu (bfR (xdZ ga gb) (xnZ ga gb) (bfS (xdZ ga gb) (xnZ ga gb) k) x j).1.2.1 (xnZ ga gb x (j : Int)) x w ≠ -1 := h3
                   refine (u2_n (Or.inl (by omega))).trans ((u2_n (Or.inl (by omega))).trans ?_)
                   by_cases e : w = (xnZ ga gb x (j : Int))
                   · rw [e, zu_s]; exact u2_s
                   · rw [zu_n e] at h3 ⊢; exact (u2_n (Or.inr e)).trans ((u2_n (Or.inl (by omega))).trans (hv3 w h0 h1 h2 h3))
               · obtain rfl := h160.1 (fun q => ec ((hv2 _ (by omega) (by omega)).symm.trans q))
                 have e1 : (bfR (xdZ ga gb) (xnZ ga gb) (bfS (xdZ ga gb) (xnZ ga gb) k) x (j + 1)) = (bfR (xdZ ga gb) (xnZ ga gb) (bfS (xdZ ga gb) (xnZ ga gb) k) x j) := by rw [bfR, bfC, if_neg (by omega), if_neg hd0, if_neg (fun q => ec q.2)]
                 rw [e1]; exact ⟨hfr, ⟨hv1, hv2, hv3, hv4⟩, hfc⟩)))
      · have hd1 : xdZ ga gb x (j : Int) = 1 := bZ_t (by omega)
        have ef : (bfR (xdZ ga gb) (xnZ ga gb) (bfS (xdZ ga gb) (xnZ ga gb) k) x (j + 1)) = ((bfR (xdZ ga gb) (xnZ ga gb) (bfS (xdZ ga gb) (xnZ ga gb) k) x j).1, (bfR (xdZ ga gb) (xnZ ga gb) (bfS (xdZ ga gb) (xnZ ga gb) k) x j).2.1, x, (j : Int)) := by
          rw [bfR, bfC, if_neg (by omega), if_pos hd1]
        have e36 : (bfS (xdZ ga gb) (xnZ ga gb) 36) = ((bfR (xdZ ga gb) (xnZ ga gb) (bfS (xdZ ga gb) (xnZ ga gb) k) x j).1, (bfR (xdZ ga gb) (xnZ ga gb) (bfS (xdZ ga gb) (xnZ ga gb) k) x j).2.1, x, (j : Int)) := by
          have g1 : bfS (xdZ ga gb) (xnZ ga gb) (k + 1) = bfR (xdZ ga gb) (xnZ ga gb) (bfS (xdZ ga gb) (xnZ ga gb) k) x 6 := by rw [bfS, if_neg (by omega), hxk]
          have g2 : bfR (xdZ ga gb) (xnZ ga gb) (bfS (xdZ ga gb) (xnZ ga gb) k) x 6 = (bfR (xdZ ga gb) (xnZ ga gb) (bfS (xdZ ga gb) (xnZ ga gb) k) x (j + 1)) := bfR_stay (by rw [ef]; show (j : Int) ≠ -1; omega) 6 (by omega)
          have g3 : (bfS (xdZ ga gb) (xnZ ga gb) (k + 1)).2.2.2 ≠ -1 := by rw [g1, g2, ef]; show (j : Int) ≠ -1; omega
          rw [bfS_stay (Or.inl g3) 36 (by omega), g1, g2, ef]
        obtain ⟨m, q1, q2, q3⟩ := (hI.1.2.2.2.2.1 x hx36.1 hx36.2 hI.2).1
        have hm36 := hI.1.le
        refine TGo.al0 dX5_finds_111 rfl ?_
        refine TGo.al0 dX5_finds_112 rfl ?_
        refine TGo.getS (t := 13) 0 0 (P + 1) hP.1 rfl fgX5_15_5 dX5_finds_113 rfl rfl rfl ?_
        refine TGo.il3 dX5_finds_116 rfl ?_
        refine TGo.iald dX5_finds_117 hP.2.1 (by omega) rfl ?_
        refine TGo.toz _ (((hv1 _ (by omega) (by omega)).trans hkx)) ?_
        refine TGo.il dX5_finds_118 rfl ?_
        refine TGo.cS (csV2 (y2 := mX5_ends) (t := 13) 1 rfl hP.1 rfl rfl dX5_finds_120 q1576 q1578 qs24 okX5_ends npX5_ends rfl rfl) (kX5_ends (f := (bfR (xdZ ga gb) (xnZ ga gb) (bfS (xdZ ga gb) (xnZ ga gb) k) x j).1.2.1) (bc := (bfR (xdZ ga gb) (xnZ ga gb) (bfS (xdZ ga gb) (xnZ ga gb) k) x j).1.2.2) (m := m) hP (by omega) q2 (fun i hi => ⟨(q3 i hi).1, (q3 i hi).2.2⟩) (fun i hi => hv2 _ (q3 i (by omega)).1.1 (q3 i (by omega)).1.2) (fun i hi => hv3 _ (q3 i (by omega)).1.1 (q3 i (by omega)).1.2 ((q3 i (by omega)).2.2 hi) (q3 i (by omega)).2.1)) (fun v120 V120 h120 => ?_)
        obtain ⟨rfl, hf120, hn120, hl120, hb120⟩ := h120
        refine TGo.iret dX5_finds_123 rfl ?_
        refine ⟨_, rfl, rfl, rfl, ⟨_, rfl⟩, hfr.tr (hf120.sub (fun i hi => by simp only [List.mem_cons, List.not_mem_nil, or_false] at hi ⊢; omega)), fun _ => ?_, fun e => ?_⟩
        · have ep : pnZ (bfR (xdZ ga gb) (xnZ ga gb) (bfS (xdZ ga gb) (xnZ ga gb) k) x j).1.2.1 36 x = m := pnZ_eq 36 m x (by omega) q2 (fun i hi => (q3 i (by omega)).2.2 hi)
          rw [e36]
          unfold FXZ
          simp only
          rw [ep]
          exact ⟨hn120, hl120, hb120⟩
        · rw [e36] at e
          have e : (j : Int) = -1 := e
          omega
set_option maxHeartbeats 4000000 in
theorem lX5_finds {E : ET} {sh : SHT} {nn : Nat × Nat} {P : Nat} {S S2 : Nat} {ga gb : Int → Int} {V0 : VT} (hS : ScS sh S) (hS2 : ScS sh S2) (hga : ∀ r, 0 ≤ r → r < 36 → cOK (ga r)) (hgb : ∀ r, 0 ≤ r → r < 36 → cOK (gb r)) (KS : ∀ V, Fr [P, P + 1, P + 2, P + 3, P + 4] V0 V → ScV V S ga ∧ ScV V S2 gb) : ∀ (n j : Nat) (V : VT) (y4 y5 y6 : Option Value), 36 - j < n → j ≤ 36 → ApS sh P → (Fr [P, P + 1, P + 2, P + 3, P + 4] V0 V ∧ AVZ P V (bfS (xdZ ga gb) (xnZ ga gb) j) ∧ (bfS (xdZ ga gb) (xnZ ga gb) j).2.2.2 = -1) → TGo E mX5_finds 2 42 [some (.ref P), some (.ref S), some (.ref S2), some (.int (iI (((j) : Nat) : Int))), y4, y5, y6] [] sh nn V (fun o sh' nn' V' => ∃ v, o = .inl (some v) ∧ sh' = sh ∧ nn' = nn ∧ ((∃ w, v = .int (iI w)) ∧ Fr [P, P + 1, P + 2, P + 3, P + 4] V0 V' ∧ ((bfS (xdZ ga gb) (xnZ ga gb) 36).2.2.2 ≠ -1 → FXZ P V' (bfS (xdZ ga gb) (xnZ ga gb) 36)) ∧ ((bfS (xdZ ga gb) (xnZ ga gb) 36).2.2.2 = -1 → V'.1 P 5 = -1))) := by
  intro n
  induction n with
  | zero => intro j V y4 y5 y6 h; omega
  | succ n ih =>
    intro j V y4 y5 y6 hn hj hz hx
    have hP := hz
    have hnr := ngZ_r hga hgb
    have hS0 := bfS_ok hnr j
    have hle := hS0.le
    have hge := hS0.1.1
    refine TGo.il3 dX5_finds_42 rfl ?_
    refine TGo.al0 dX5_finds_43 rfl ?_
    refine TGo.getI (t := 13) 4 4 hP.1 rfl fgX5_28_5 dX5_finds_44 rfl rfl rfl ?_
    refine TGo.toz _ (hx.2.1.2.2.2) ?_
    refine TGo.icmp_ge 175 dX5_finds_47 (by decide) (by omega) (fun h47 => ?_) (fun h47 => ?_)
    · refine TGo.al0 dX5_finds_175 rfl ?_
      refine TGo.icm1 dX5_finds_176 ?_
      refine TGo.putI (t := 13) 5 5 hP.1 rfl fpX5_52_5 dX5_finds_177 rfl rfl rfl ?_
      refine TGo.icm1 dX5_finds_180 ?_
      refine TGo.iret dX5_finds_181 rfl ?_
      have e36 : (bfS (xdZ ga gb) (xnZ ga gb) 36) = bfS (xdZ ga gb) (xnZ ga gb) j := bfS_stay (Or.inr (by omega)) 36 hj
      exact ⟨_, rfl, rfl, rfl, ⟨_, rfl⟩, hx.1.i (by simp), fun q => absurd hx.2.2 (by rw [← e36]; exact q), fun _ => u2_s⟩
    · refine TGo.ic0 dX5_finds_50 ?_
      refine TGo.is dX5_finds_51 rfl rfl ?_
      refine TGo.seq [some (.ref P), some (.ref S), some (.ref S2), some (.int (iI (j : Int))), some (.int (iI (((0 : Nat) : Int)))), y5, y6] [] _ rfl rfl rfl (iX5_finds (k := j) hS hS2 hga hgb KS (by omega) (by omega) hx.2.2 rfl (fun V1 z4 z5 z6 hf1 hv1 hc1 => ih (j + 1) V1 z4 z5 z6 (by omega) (by omega) hz ⟨hf1, hv1, hc1⟩) 7 0 _ _ _ (by omega) (by omega) hz hx)
set_option maxHeartbeats 4000000 in
theorem zX5_finds {E : ET} {sh : SHT} {nn : Nat × Nat} {P : Nat} {S S2 : Nat} {ga gb : Int → Int} {V0 : VT} (hS : ScS sh S) (hS2 : ScS sh S2) (hga : ∀ r, 0 ≤ r → r < 36 → cOK (ga r)) (hgb : ∀ r, 0 ≤ r → r < 36 → cOK (gb r)) (KS : ∀ V, Fr [P, P + 1, P + 2, P + 3, P + 4] V0 V → ScV V S ga ∧ ScV V S2 gb) : ∀ (n j : Nat) (V : VT), 36 - j < n → j ≤ 36 → ApS sh P → (Fr [P, P + 1, P + 2, P + 3, P + 4] V0 V ∧ ∀ w, 0 ≤ w → w < (j : Int) → V.1 (P + 2) w = -1) → TGo E mX5_finds 2 2 [some (.ref P), some (.ref S), some (.ref S2), some (.int (iI (((j) : Nat) : Int))), none, none, none] [] sh nn V (fun o sh' nn' V' => ∃ v, o = .inl (some v) ∧ sh' = sh ∧ nn' = nn ∧ ((∃ w, v = .int (iI w)) ∧ Fr [P, P + 1, P + 2, P + 3, P + 4] V0 V' ∧ ((bfS (xdZ ga gb) (xnZ ga gb) 36).2.2.2 ≠ -1 → FXZ P V' (bfS (xdZ ga gb) (xnZ ga gb) 36)) ∧ ((bfS (xdZ ga gb) (xnZ ga gb) 36).2.2.2 = -1 → V'.1 P 5 = -1))) := by
  intro n
  induction n with
  | zero => intro j V h; omega
  | succ n ih =>
    intro j V hn hj hz hx
    have hP := hz
    refine TGo.il3 dX5_finds_2 rfl ?_
    refine TGo.bip 36 dX5_finds_3 (by decide) ?_
    refine TGo.icmp_ge 21 dX5_finds_5 (by decide) (by omega) (fun h5 => ?_) (fun h5 => ?_)
    · refine TGo.al0 dX5_finds_21 rfl ?_
      refine TGo.getS (t := 13) 1 1 (P + 2) hP.1 rfl fgX5_19_5 dX5_finds_22 rfl rfl rfl ?_
      refine TGo.ic0 dX5_finds_25 ?_
      refine TGo.ic0 dX5_finds_26 ?_
      refine TGo.iast dX5_finds_27 hP.2.2.1 (by omega) rfl ?_
      refine TGo.al0 dX5_finds_28 rfl ?_
      refine TGo.getS (t := 13) 0 0 (P + 1) hP.1 rfl fgX5_15_5 dX5_finds_29 rfl rfl rfl ?_
      refine TGo.ic0 dX5_finds_32 ?_
      refine TGo.ic0 dX5_finds_33 ?_
      refine TGo.iast dX5_finds_34 hP.2.1 (by omega) rfl ?_
      refine TGo.al0 dX5_finds_35 rfl ?_
      refine TGo.ic1 dX5_finds_36 ?_
      refine TGo.putI (t := 13) 4 4 hP.1 rfl fpX5_28_5 dX5_finds_37 rfl rfl rfl ?_
      refine TGo.ic0 dX5_finds_40 ?_
      refine TGo.is3 dX5_finds_41 rfl rfl ?_
      obtain rfl : j = 36 := by omega
      refine TGo.seq [some (.ref P), some (.ref S), some (.ref S2), some (.int (iI (((0) : Nat) : Int))), _, _, _] [] _ rfl rfl rfl (lX5_finds hS hS2 hga hgb KS 37 0 _ _ _ _ (by omega) (by omega) hz ⟨((hx.1.i (by simp)).i (by simp)).i (by simp), ⟨fun i h0 h1 => ?_, fun w h0 h1 => ?_, fun w h0 h1 h2 h3 => ?_, u2_s⟩, rfl⟩)
      · have h1 : i < 1 := h1
        obtain rfl : i = 0 := by omega
        exact (u2_n (Or.inl (by omega))).trans u2_s
      · show _ = if w = 0 then (0 : Int) else -1
        refine (u2_n (Or.inl (by omega))).trans ((u2_n (Or.inl (by omega))).trans ?_)
        by_cases e : w = 0
        · rw [e]; exact u2_s.trans (if_pos rfl).symm
        · rw [if_neg e]; exact (u2_n (Or.inr e)).trans (hx.2 w h0 (by omega))
      · have h3 : (if w = 0 then (0 : Int) else -1) ≠ -1 := h3
        rw [if_neg h2] at h3; exact absurd rfl h3
    · refine TGo.al0 dX5_finds_8 rfl ?_
      refine TGo.getS (t := 13) 1 1 (P + 2) hP.1 rfl fgX5_19_5 dX5_finds_9 rfl rfl rfl ?_
      refine TGo.il3 dX5_finds_12 rfl ?_
      refine TGo.icm1 dX5_finds_13 ?_
      refine TGo.iast dX5_finds_14 hP.2.2.1 (by omega) rfl ?_
      refine TGo.iinc dX5_finds_15 rfl rfl rfl ?_
      refine TGo.goto 2 dX5_finds_18 (by decide) ?_
      exact TGo.seq [some (.ref P), some (.ref S), some (.ref S2), some (.int (iI ((((j + 1)) : Nat) : Int))), none, none, none] [] _ (rfl) rfl rfl (ih (j + 1) _ (by omega) (by omega) hz ⟨hx.1.i (by simp), fun r h0 h1 => by
        by_cases e : r = (j : Int)
        · rw [e]; exact u2_s
        · exact (u2_n (Or.inr e)).trans (hx.2 r h0 (by omega))⟩)
set_option maxHeartbeats 4000000 in
theorem kX5_finds {E : ET} {sh : SHT} {nn : Nat × Nat} {V : VT} {P S S2 : Nat} {ga gb : Int → Int} (hP : ApS sh P) (hS : ScS sh S) (hS2 : ScS sh S2) (hga : ∀ r, 0 ≤ r → r < 36 → cOK (ga r)) (hgb : ∀ r, 0 ≤ r → r < 36 → cOK (gb r)) (KS : ∀ V', Fr [P, P + 1, P + 2, P + 3, P + 4] V V' → ScV V' S ga ∧ ScV V' S2 gb) : TS E mX5_finds 2 [.ref P, .ref S, .ref S2] sh nn V (fun v V' => ((∃ w, v = .int (iI w)) ∧ Fr [P, P + 1, P + 2, P + 3, P + 4] V V' ∧ ((bfS (xdZ ga gb) (xnZ ga gb) 36).2.2.2 ≠ -1 → FXZ P V' (bfS (xdZ ga gb) (xnZ ga gb) 36)) ∧ ((bfS (xdZ ga gb) (xnZ ga gb) 36).2.2.2 = -1 → V'.1 P 5 = -1))) := by
  refine TC.intro [some (.ref P), some (.ref S), some (.ref S2), none, none, none, none] rfl ?_
  refine TGo.ic0 dX5_finds_0 ?_
  refine TGo.is3 dX5_finds_1 rfl rfl ?_
  exact zX5_finds (V0 := V) hS hS2 hga hgb KS 37 0 _ (by omega) (by omega) hP ⟨Fr.rf, fun w h0 h1 => by omega⟩
set_option maxHeartbeats 4000000 in
theorem kX5_tells {E : ET} {sh : SHT} {nn : Nat × Nat} {V : VT} {P : Nat} {S : BT} {i : Int} (hP : ApS sh P) (h1 : S.2.2.2 ≠ -1 → FXZ P V S) (h2 : S.2.2.2 = -1 → V.1 P 5 = -1) (hi : R32 i) : TF E mX5_tells 2 [.ref P, .int (iI i)] sh nn V (.int (iI (ofRZ S i))) := by
  have hpn := pnZ_le S.1.2.1 36 S.2.2.1
  obtain ⟨w, hw⟩ : ∃ w, V.1 P 5 = w := ⟨_, rfl⟩
  have hw1 : S.2.2.2 ≠ -1 → w = (pnZ S.1.2.1 36 S.2.2.1 : Int) + 1 := fun e => hw.symm.trans (h1 e).1
  have hw2 : S.2.2.2 = -1 → w = -1 := fun e => hw.symm.trans (h2 e)
  refine TC.intro [some (.ref P), some (.int (iI i))] rfl ?_
  refine TGo.il1 dX5_tells_0 rfl ?_
  refine TGo.icm1 dX5_tells_1 ?_
  refine TGo.icmp_ne 12 dX5_tells_2 (by decide) (by omega) (fun h2 => ?_) (fun h2 => ?_)
  · refine TGo.al0 dX5_tells_12 rfl ?_
    refine TGo.getI (t := 13) 5 5 hP.1 rfl fgX5_52_5 dX5_tells_13 rfl rfl rfl ?_
    refine TGo.toz _ (hw) ?_
    refine TGo.icm1 dX5_tells_16 ?_
    refine TGo.icmp_eq 43 dX5_tells_17 (by decide) (by omega) (fun h17 => ?_) (fun h17 => ?_)
    · refine TGo.icm1 dX5_tells_43 ?_
      refine TGo.iret dX5_tells_44 rfl ?_
      refine leafF ?_
      unfold ofRZ
      by_cases es : S.2.2.2 = -1
      · have hw2 := hw2 es
        first
        | (rw [if_pos es]; done)
        | (rw [if_pos es, hw2]; done)
        | (exfalso; omega)
        | exact absurd es hs
      · have hw1 := hw1 es
        first
        | (exfalso; omega)
        | (rw [if_neg es, if_pos (show i = -1 by omega)]; omega)
        | (rw [if_neg es, if_neg (show ¬ i = -1 by omega), if_pos (show 0 ≤ i ∧ i ≤ (pnZ S.1.2.1 36 S.2.2.1 : Int) by omega)]; done)
        | (rw [if_neg es, if_neg (show ¬ i = -1 by omega), if_neg (show ¬ (0 ≤ i ∧ i ≤ (pnZ S.1.2.1 36 S.2.2.1 : Int)) by omega)]; done)
    · have hs : S.2.2.2 ≠ -1 := fun e => absurd (hw2 e) (by assumption)
      have hw3 := hw1 hs
      refine TGo.il1 dX5_tells_20 rfl ?_
      refine TGo.ic0 dX5_tells_21 ?_
      refine TGo.al0 dX5_tells_22 rfl ?_
      refine TGo.getI (t := 13) 5 5 hP.1 rfl fgX5_52_5 dX5_tells_23 rfl rfl rfl ?_
      refine TGo.toz _ (hw) ?_
      refine TGo.ic1 dX5_tells_26 ?_
      refine TGo.isub dX5_tells_27 ?_
      refine TGo.cF (csSN3 (y2 := mX0_in) 1 rfl dX5_tells_28 q1589 q599 okX0_in npX0_in rfl rfl) (kX0_in (by omega) (by omega) (by omega)) ?_
      refine TGo.ifb_eq 43 dX5_tells_31 (by decide) (fun h31 => ?_) (fun h31 => ?_)
      · refine TGo.icm1 dX5_tells_43 ?_
        refine TGo.iret dX5_tells_44 rfl ?_
        refine leafF ?_
        unfold ofRZ
        by_cases es : S.2.2.2 = -1
        · have hw2 := hw2 es
          first
          | (rw [if_pos es]; done)
          | (rw [if_pos es, hw2]; done)
          | (exfalso; omega)
          | exact absurd es hs
        · have hw1 := hw1 es
          first
          | (exfalso; omega)
          | (rw [if_neg es, if_pos (show i = -1 by omega)]; omega)
          | (rw [if_neg es, if_neg (show ¬ i = -1 by omega), if_pos (show 0 ≤ i ∧ i ≤ (pnZ S.1.2.1 36 S.2.2.1 : Int) by omega)]; done)
          | (rw [if_neg es, if_neg (show ¬ i = -1 by omega), if_neg (show ¬ (0 ≤ i ∧ i ≤ (pnZ S.1.2.1 36 S.2.2.1 : Int)) by omega)]; done)
      · refine TGo.al0 dX5_tells_34 rfl ?_
        refine TGo.getS (t := 13) 3 3 (P + 4) hP.1 rfl fgX5_25_5 dX5_tells_35 rfl rfl rfl ?_
        refine TGo.il1 dX5_tells_38 rfl ?_
        refine TGo.iald dX5_tells_39 hP.2.2.2.2 (by omega) rfl ?_
        have e9 : V.1 (P + 4) i = (if i = (pnZ S.1.2.1 36 S.2.2.1 : Int) then S.2.2.2 else S.1.2.2 (itZ S.1.2.1 S.2.2.1 (pnZ S.1.2.1 36 S.2.2.1 - 1 - i.toNat))) := by
          obtain ⟨-, s2, s3⟩ := h1 hs
          by_cases e : i = (pnZ S.1.2.1 36 S.2.2.1 : Int)
          · rw [if_pos e, e]; exact s2
          · rw [if_neg e, ← s3 _ (by omega)]; exact congrArg _ (by omega)
        refine TGo.toz _ e9 ?_
        refine TGo.goto 44 dX5_tells_40 (by decide) ?_
        refine TGo.iret dX5_tells_44 rfl ?_
        refine leafF ?_
        unfold ofRZ
        by_cases es : S.2.2.2 = -1
        · have hw2 := hw2 es
          first
          | (rw [if_pos es]; done)
          | (rw [if_pos es, hw2]; done)
          | (exfalso; omega)
          | exact absurd es hs
        · have hw1 := hw1 es
          first
          | (exfalso; omega)
          | (rw [if_neg es, if_pos (show i = -1 by omega)]; omega)
          | (rw [if_neg es, if_neg (show ¬ i = -1 by omega), if_pos (show 0 ≤ i ∧ i ≤ (pnZ S.1.2.1 36 S.2.2.1 : Int) by omega)]; done)
          | (rw [if_neg es, if_neg (show ¬ i = -1 by omega), if_neg (show ¬ (0 ≤ i ∧ i ≤ (pnZ S.1.2.1 36 S.2.2.1 : Int)) by omega)]; done)
  · refine TGo.al0 dX5_tells_5 rfl ?_
    refine TGo.getI (t := 13) 5 5 hP.1 rfl fgX5_52_5 dX5_tells_6 rfl rfl rfl ?_
    refine TGo.toz _ (hw) ?_
    refine TGo.goto 44 dX5_tells_9 (by decide) ?_
    refine TGo.iret dX5_tells_44 rfl ?_
    refine leafF ?_
    unfold ofRZ
    by_cases es : S.2.2.2 = -1
    · have hw2 := hw2 es
      first
      | (rw [if_pos es]; done)
      | (rw [if_pos es, hw2]; done)
      | (exfalso; omega)
      | exact absurd es hs
    · have hw1 := hw1 es
      first
      | (exfalso; omega)
      | (rw [if_neg es, if_pos (show i = -1 by omega)]; omega)
      | (rw [if_neg es, if_neg (show ¬ i = -1 by omega), if_pos (show 0 ≤ i ∧ i ≤ (pnZ S.1.2.1 36 S.2.2.1 : Int) by omega)]; done)
      | (rw [if_neg es, if_neg (show ¬ i = -1 by omega), if_neg (show ¬ (0 ≤ i ∧ i ≤ (pnZ S.1.2.1 36 S.2.2.1 : Int)) by omega)]; done)
/-- only scratch cells may differ -/
def FrS (B : Nat) (V V' : VT) : Prop := ∀ a, (∀ i, (34 ≤ i ∧ i < 68 ∧ i ≠ 66) → a ≠ B + i) → V'.1 a = V.1 a ∧ V'.2.1 a = V.2.1 a ∧ V'.2.2 a = V.2.2 a
theorem FrS.rf {B : Nat} {V : VT} : FrS B V V := fun _ _ => ⟨rfl, rfl, rfl⟩
theorem FrS.tr {B : Nat} {V V1 V2 : VT} (h : FrS B V V1) (h2 : FrS B V1 V2) : FrS B V V2 := fun a ha => ⟨(h2 a ha).1.trans (h a ha).1, (h2 a ha).2.1.trans (h a ha).2.1, (h2 a ha).2.2.trans (h a ha).2.2⟩
theorem FrS.i {B : Nat} {V V' : VT} {k v : Int} (h : FrS B V V') (i : Nat) (hi : 34 ≤ i ∧ i < 68 ∧ i ≠ 66) : FrS B V (vI V' (B + i) k v) := fun a ha => ⟨(u2_a (ha i hi)).trans (h a ha).1, (h a ha).2.1, (h a ha).2.2⟩
theorem FrS.of {B : Nat} {L : List Nat} {V V' : VT} (h : Fr L V V') (hL : ∀ a, a ∈ L → ∃ i, (34 ≤ i ∧ i < 68 ∧ i ≠ 66) ∧ a = B + i) : FrS B V V' := fun a ha => ⟨h.1 a (fun q => by obtain ⟨i, h1, h2⟩ := hL a q; exact ha i h1 h2), by rw [h.2], by rw [h.2]⟩
theorem FrS.x {B : Nat} {V V' : VT} (h : FrS B V V') : FrX B V V' := fun a ha => h a (fun i hi => ha i (by
  have key : ∀ j : Nat, j < 68 → 34 ≤ j → j ≠ 66 → xWr j = true := by decide
  exact key i hi.2.1 hi.1 hi.2.2))
theorem XC.sc {V V' : VT} {B : Nat} {z : ZT} (h : XC V B z) (hf : FrS B V V') : XC V' B z := by
  obtain ⟨⟨n1, n2, n3, n4, n5, n6, n7⟩, s1, s2, s3, s4⟩ := h
  have q : ∀ a, (∀ i, (34 ≤ i ∧ i < 68 ∧ i ≠ 66) → a ≠ B + i) → V'.1 a = V.1 a := fun a ha => (hf a ha).1
  refine ⟨⟨fun p hp => by rw [(hf (B + 2 + 1) (by omega)).2.2]; exact n1 p hp, ?_, fun i i0 i1 => ?_, fun i i0 i1 => ?_, fun i i0 i1 => ?_, fun i i0 i1 => ?_, fun p hp6 hp r r0 r1 => ?_⟩, ?_, fun j j0 j1 => ?_, fun i i0 i1 => ?_, fun h => ?_⟩
  · rw [q _ (by omega)]; exact n2
  · rw [q _ (by omega)]; exact n3 i i0 i1
  · rw [q _ (by omega)]; exact n4 i i0 i1
  · rw [q _ (by omega)]; exact n5 i i0 i1
  · rw [q _ (by omega)]; exact n6 i i0 i1
  · have w := n7 p hp6 hp r r0 r1
    rw [q _ (by omega), q _ (by omega)]; exact w
  · rw [q _ (by omega)]; exact s1
  · rw [q _ (by omega)]; exact s2 j j0 j1
  · rw [q _ (by omega)]; exact s3 i i0 i1
  · rw [q _ (by omega), q _ (by omega)]; exact s4 h
theorem XR.sc {ow : Nat → Nat} {sh : SHT} {nn : Nat × Nat} {V V' : VT} {B : Nat} {z : ZT} (h : XR ow sh nn V B z) (hf : FrS B V V') : XR ow sh nn V' B z := h.wr0 hf.x (h.2.2.1.sc hf) rfl rfl rfl
/-- a cell that is not X's own -/
theorem FrS.o {ow : Nat → Nat} {B : Nat} {V V' : VT} (hf : FrS B V V') (how : ∀ i, xOk i = true → ow (B + i) = 1) {a : Nat} (ha : ow a ≠ 1) : V'.1 a = V.1 a ∧ V'.2.1 a = V.2.1 a ∧ V'.2.2 a = V.2.2 a := hf a (fun i hi e => ha (by
  have key : ∀ j : Nat, j < 68 → 34 ≤ j → j ≠ 66 → xOk j = true := by decide
  rw [e]; exact how i (key i hi.2.1 hi.1 hi.2.2)))
theorem ScV.o {ow : Nat → Nat} {B : Nat} {V V' : VT} (hf : FrS B V V') (how : ∀ i, xOk i = true → ow (B + i) = 1) {S : Nat} {g : Int → Int} (h1 : ow (S + 1) ≠ 1) (h2 : ow (S + 2) ≠ 1) (h : ScV V S g) : ScV V' S g := fun r r0 r1 => by
  rw [(hf.o how h1).1, (hf.o how h2).1]; exact h r r0 r1
theorem XSh.ap {B : Nat} {sh : SHT} (h : XSh B sh) : ApS sh (B + 37) := ⟨h 37 (by decide), h 38 (by decide), h 39 (by decide), h 40 (by decide), h 41 (by decide)⟩
theorem FrA {B : Nat} {V V' : VT} (h : Fr [B + 37, B + 37 + 1, B + 37 + 2, B + 37 + 3, B + 37 + 4] V V') : FrS B V V' := FrS.of h (fun a ha => by
  simp only [List.mem_cons, List.not_mem_nil, or_false] at ha
  rcases ha with e | e | e | e | e
  · exact ⟨37, by omega, e⟩
  · exact ⟨38, by omega, by omega⟩
  · exact ⟨39, by omega, by omega⟩
  · exact ⟨40, by omega, by omega⟩
  · exact ⟨41, by omega, by omega⟩)
/-- the searches of the model and of X -/
theorem bfS_dg {df nx df' nx' : Int → Int → Int} {D : Int → Prop} (h0 : D 0) (hd : ∀ x c, D x → 0 ≤ c → c < 6 → df x c = df' x c ∧ (df x c ≠ 1 → nx x c = nx' x c ∧ (nx x c ≠ -1 → D (nx x c)))) : ∀ k : Nat, bfS df nx k = bfS df' nx' k ∧ ∀ i, 0 ≤ i → i < (bfS df nx k).2.1 → D ((bfS df nx k).1.1 i) := by
  have hr : ∀ (S : BT) (x : Int), D x → (∀ i, 0 ≤ i → i < S.2.1 → D (S.1.1 i)) → ∀ c : Nat, c ≤ 6 → bfR df nx S x c = bfR df' nx' S x c ∧ ∀ i, 0 ≤ i → i < (bfR df nx S x c).2.1 → D ((bfR df nx S x c).1.1 i) := by
    intro S x hx hS c
    induction c with
    | zero => intro _; exact ⟨rfl, hS⟩
    | succ c ih =>
      intro hc
      have q := ih (by omega)
      have w := hd x (c : Int) hx (by omega) (by omega)
      rw [bfR, bfR, ← q.1]
      unfold bfC
      rw [← w.1]
      by_cases h1 : (bfR df nx S x c).2.2.2 ≠ -1
      · rw [if_pos h1, if_pos h1]; exact ⟨rfl, q.2⟩
      · rw [if_neg h1, if_neg h1]
        by_cases h2 : df x (c : Int) = 1
        · rw [if_pos h2, if_pos h2]; exact ⟨rfl, q.2⟩
        · rw [if_neg h2, if_neg h2, ← (w.2 h2).1]
          refine ⟨rfl, ?_⟩
          by_cases h3 : nx x (c : Int) ≠ -1 ∧ (bfR df nx S x c).1.2.1 (nx x (c : Int)) = -1
          · rw [if_pos h3]
            intro i i0 i1
            show D (zu _ _ _ i)
            have i1 : i < (bfR df nx S x c).2.1 + 1 := i1
            by_cases e : i = (bfR df nx S x c).2.1
            · rw [e, zu_s]; exact (w.2 h2).2 h3.1
            · rw [zu_n e]; exact q.2 i i0 (by omega)
          · rw [if_neg h3]; exact q.2
  intro k
  induction k with
  | zero => exact ⟨rfl, fun i i0 i1 => by
      have i1 : i < 1 := i1
      exact h0⟩
  | succ k ih =>
    rw [bfS, bfS, ← ih.1]
    by_cases h : (bfS df nx k).2.2.2 ≠ -1 ∨ (bfS df nx k).2.1 ≤ (k : Int)
    · rw [if_pos h, if_pos h]; exact ⟨rfl, ih.2⟩
    · rw [if_neg h, if_neg h]
      exact hr _ _ (ih.2 _ (by omega) (by omega)) ih.2 6 (by omega)
theorem bf_apart {z : ZT} {a b : Int} (hb : b ≠ -1) : dfZ z a b = xdZ (fun r => z.2 3 (298 + 36 * a + r)) (fun r => z.2 3 (298 + 36 * b + r)) ∧ nxZ z a b = xnZ (fun r => z.2 3 (298 + 36 * a + r)) (fun r => z.2 3 (298 + 36 * b + r)) := by
  refine ⟨?_, ?_⟩
  · funext x c
    unfold dfZ xdZ pvZ qvZ
    rw [if_neg hb]
    by_cases e : wZ (z.2 3 (298 + 36 * a + (6 * (x / 6) + c))) = wZ (z.2 3 (298 + 36 * b + (6 * (x % 6) + c)))
    · rw [bZ_f (fun q => by rcases q with q | q; exact hb q.1; exact q.2 e), bZ_f (fun q => q e)]
    · rw [bZ_t (Or.inr ⟨hb, e⟩), bZ_t e]
  · funext x c
    unfold nxZ xnZ pvZ qvZ
    rw [if_neg hb]
theorem bf_trap {z : ZT} (W : RWZ (z.2 3)) {a : Int} (ha : 0 ≤ a ∧ a < z.2 3 2) : bfS (dfZ z a (-1)) (nxZ z a (-1)) 36 = bfS (xdZ (fun r => z.2 3 (298 + 36 * a + r)) (fun r => if z.2 3 (298 + 36 * a + r) = -1 then 0 else z.2 3 (298 + 36 * a + r))) (xnZ (fun r => z.2 3 (298 + 36 * a + r)) (fun r => if z.2 3 (298 + 36 * a + r) = -1 then 0 else z.2 3 (298 + 36 * a + r))) 36 := by
  refine (bfS_dg (D := fun x => (0 ≤ x ∧ x < 36) ∧ x / 6 = x % 6) (by omega) (fun x c hx c0 c1 => ?_) 36).1
  have hc : cOK (pvZ z a x c) := W.2.2.2.2.2.1 a (6 * (x / 6) + c) ha.1 ha.2 (by omega) (by omega)
  have e1 : dfZ z a (-1) x c = bZ (pvZ z a x c = -1) := by
    unfold dfZ
    by_cases e : pvZ z a x c = -1
    · rw [bZ_t (Or.inl ⟨rfl, e⟩), bZ_t e]
    · rw [bZ_f (fun q => by rcases q with q | q; exact e q.2; exact q.1 rfl), bZ_f e]
  have e2 : nxZ z a (-1) x c = if pvZ z a x c = -1 then -1 else 6 * nZ (pvZ z a x c) + nZ (pvZ z a x c) := by unfold nxZ qvZ; rw [if_pos rfl]
  have e3 : xdZ (fun r => z.2 3 (298 + 36 * a + r)) (fun r => if z.2 3 (298 + 36 * a + r) = -1 then 0 else z.2 3 (298 + 36 * a + r)) x c = bZ (wZ (pvZ z a x c) ≠ wZ (if pvZ z a x c = -1 then 0 else pvZ z a x c)) := by unfold xdZ; rw [← hx.2]; rfl
  have e4 : xnZ (fun r => z.2 3 (298 + 36 * a + r)) (fun r => if z.2 3 (298 + 36 * a + r) = -1 then 0 else z.2 3 (298 + 36 * a + r)) x c = if pvZ z a x c = -1 then -1 else 6 * nZ (pvZ z a x c) + nZ (if pvZ z a x c = -1 then 0 else pvZ z a x c) := by unfold xnZ; rw [← hx.2]; rfl
  rw [e1, e2, e3, e4]
  have hn := nZ_r hc
  generalize pvZ z a x c = Q at hn
  by_cases e : Q = -1
  · subst e
    exact ⟨(bZ_t rfl).trans (bZ_t (by decide)).symm, fun h => absurd (bZ_t rfl) h⟩
  · rw [if_neg e, if_neg e, bZ_f e, bZ_f (fun q => q rfl)]
    exact ⟨rfl, fun _ => ⟨rfl, fun _ => by omega⟩⟩
set_option maxHeartbeats 4000000 in
theorem kX0_apart {E : ET} {sh : SHT} {nn : Nat × Nat} {V : VT} {B : Nat} {ow : Nat → Nat} {z : ZT} {a b i : Int} (hR : XR ow sh nn V B z) (W : RWZ (z.2 3)) (ra : R32 a) (rb : R32 b) (ri : R32 i) : TC E mX0_apart 5 [.ref B, .int (iI a), .int (iI b), .int (iI i)] sh nn V (XP B nn (zp_apart z a b i)) := by
  obtain ⟨hB, -, hc, -⟩ := id hR
  have w2 := W.1.2.2.1
  obtain ⟨ap, av, al, cp, cv, cl, gp, gv, gl, hne, ⟨hp1, hp2⟩, ⟨hv1, hv2⟩, hl1, hl2⟩ := id hR.2.2.2.1
  refine TC.intro [some (.ref B), some (.int (iI a)), some (.int (iI b)), some (.int (iI i))] rfl ?_
  refine TGo.al0 dX0_apart_0 rfl ?_
  refine TGo.il1 dX0_apart_1 rfl ?_
  refine TGo.cF (csV1 (y2 := mX0_isVersion) (t := 8) 2 rfl (hB 0 (by decide)) rfl rfl dX0_apart_2 q1496 q1498 qs19 okX0_isVersion npX0_isVersion rfl rfl) (kX0_isVersion hR W (by omega)) ?_
  refine TGo.ifb_eq 21 dX0_apart_5 (by decide) (fun h5 => ?_) (fun h5 => ?_)
  · refine TGo.icm1 dX0_apart_21 ?_
    refine TGo.iret dX0_apart_22 rfl ?_
    first
    | (exfalso; omega)
    | (refine hR.same ?_
       unfold zp_apart
       rw [if_pos (by omega)])
    | (refine hR.same ?_
       unfold zp_apart
       have e9 : ∀ S : BT, ofRZ S i = -1 := fun S => by
         unfold ofRZ
         rw [if_neg (show ¬ i = -1 by omega), if_neg (show ¬ (0 ≤ i ∧ i ≤ (pnZ S.1.2.1 36 S.2.2.1 : Int)) by omega)]
         split <;> rfl
       rw [if_neg (by omega), e9])
    | (refine (hR.sc (FrA hf37)).same ?_
       unfold zp_apart
       rw [if_neg (by omega), (bf_apart (show b ≠ -1 by omega)).1, (bf_apart (show b ≠ -1 by omega)).2])
  · refine TGo.al0 dX0_apart_8 rfl ?_
    refine TGo.il2 dX0_apart_9 rfl ?_
    refine TGo.cF (csV1 (y2 := mX0_isVersion) (t := 8) 2 rfl (hB 0 (by decide)) rfl rfl dX0_apart_10 q1496 q1498 qs19 okX0_isVersion npX0_isVersion rfl rfl) (kX0_isVersion hR W (by omega)) ?_
    refine TGo.ifb_eq 21 dX0_apart_13 (by decide) (fun h13 => ?_) (fun h13 => ?_)
    · refine TGo.icm1 dX0_apart_21 ?_
      refine TGo.iret dX0_apart_22 rfl ?_
      first
      | (exfalso; omega)
      | (refine hR.same ?_
         unfold zp_apart
         rw [if_pos (by omega)])
      | (refine hR.same ?_
         unfold zp_apart
         have e9 : ∀ S : BT, ofRZ S i = -1 := fun S => by
           unfold ofRZ
           rw [if_neg (show ¬ i = -1 by omega), if_neg (show ¬ (0 ≤ i ∧ i ≤ (pnZ S.1.2.1 36 S.2.2.1 : Int)) by omega)]
           split <;> rfl
         rw [if_neg (by omega), e9])
      | (refine (hR.sc (FrA hf37)).same ?_
         unfold zp_apart
         rw [if_neg (by omega), (bf_apart (show b ≠ -1 by omega)).1, (bf_apart (show b ≠ -1 by omega)).2])
    · refine TGo.il3 dX0_apart_16 rfl ?_
      refine TGo.icm1 dX0_apart_17 ?_
      refine TGo.icmp_ge 23 dX0_apart_18 (by decide) (by omega) (fun h18 => ?_) (fun h18 => ?_)
      · refine TGo.al0 dX0_apart_23 rfl ?_
        refine TGo.getS (t := 8) 9 9 (B + 37) (hB 0 (by decide)) rfl fgX0_44_0 dX0_apart_24 rfl rfl rfl ?_
        refine TGo.al0 dX0_apart_27 rfl ?_
        refine TGo.il1 dX0_apart_28 rfl ?_
        refine TGo.callG (csV1 (y2 := mX0_scriptOf) (t := 8) 4 rfl (hB 0 (by decide)) rfl rfl dX0_apart_29 q1548 q1550 qs23 okX0_scriptOf npX0_scriptOf rfl rfl) (kX0_scriptOf hR W (v := a) (by omega)) (fun o29 sh29 nn29 V29 e29 h29 => ?_)
        obtain ⟨⟨S, rfl, ⟨vSS, vVS⟩, oSS⟩, rfl, rfl, rfl⟩ := h29
        show TGo _ _ _ _ _ _ _ _ _ _
        refine TGo.al0 dX0_apart_32 rfl ?_
        refine TGo.il2 dX0_apart_33 rfl ?_
        refine TGo.callG (csV1 (y2 := mX0_scriptOf) (t := 8) 4 rfl (hB 0 (by decide)) rfl rfl dX0_apart_34 q1548 q1550 qs23 okX0_scriptOf npX0_scriptOf rfl rfl) (kX0_scriptOf hR W (v := b) (by omega)) (fun o34 sh34 nn34 V34 e34 h34 => ?_)
        obtain ⟨⟨S2, rfl, ⟨vSS2, vVS2⟩, oSS2⟩, rfl, rfl, rfl⟩ := h34
        show TGo _ _ _ _ _ _ _ _ _ _
        refine TGo.cS (csV2 (y2 := mX5_finds) (t := 13) 2 rfl (hB 37 (by decide)) rfl rfl dX0_apart_37 q1572 q1573 q1574 okX5_finds npX5_finds rfl rfl) (kX5_finds (ga := (fun r => z.2 3 (298 + 36 * a + r))) (gb := (fun r => z.2 3 (298 + 36 * b + r))) hB.ap vSS vSS2 (fun r r0 r1 => W.2.2.2.2.2.1 a r (by omega) (by omega) r0 r1) (fun r r0 r1 => W.2.2.2.2.2.1 b r (by omega) (by omega) r0 r1) (fun V1 q => ⟨vVS.o (FrA q) hR.2.1 (by omega) (by omega), vVS2.o (FrA q) hR.2.1 (by omega) (by omega)⟩)) (fun v37 V37 h37 => ?_)
        obtain ⟨⟨w37, rfl⟩, hf37, hg37, hn37⟩ := h37
        refine TGo.pop dX0_apart_40 rfl ?_
        refine TGo.al0 dX0_apart_41 rfl ?_
        refine TGo.getS (t := 8) 9 9 (B + 37) (hB 0 (by decide)) rfl fgX0_44_0 dX0_apart_42 rfl rfl rfl ?_
        refine TGo.il3 dX0_apart_45 rfl ?_
        refine TGo.cF (csV1 (y2 := mX5_tells) (t := 13) 2 rfl (hB 37 (by decide)) rfl rfl dX0_apart_46 q1585 q1586 q1587 okX5_tells npX5_tells rfl rfl) (kX5_tells (S := bfS (xdZ (fun r => z.2 3 (298 + 36 * a + r)) (fun r => z.2 3 (298 + 36 * b + r))) (xnZ (fun r => z.2 3 (298 + 36 * a + r)) (fun r => z.2 3 (298 + 36 * b + r))) 36) hB.ap hg37 hn37 (by omega)) ?_
        refine TGo.iret dX0_apart_49 rfl ?_
        first
        | (exfalso; omega)
        | (refine hR.same ?_
           unfold zp_apart
           rw [if_pos (by omega)])
        | (refine hR.same ?_
           unfold zp_apart
           have e9 : ∀ S : BT, ofRZ S i = -1 := fun S => by
             unfold ofRZ
             rw [if_neg (show ¬ i = -1 by omega), if_neg (show ¬ (0 ≤ i ∧ i ≤ (pnZ S.1.2.1 36 S.2.2.1 : Int)) by omega)]
             split <;> rfl
           rw [if_neg (by omega), e9])
        | (refine (hR.sc (FrA hf37)).same ?_
           unfold zp_apart
           rw [if_neg (by omega), (bf_apart (show b ≠ -1 by omega)).1, (bf_apart (show b ≠ -1 by omega)).2])
      · refine TGo.icm1 dX0_apart_21 ?_
        refine TGo.iret dX0_apart_22 rfl ?_
        first
        | (exfalso; omega)
        | (refine hR.same ?_
           unfold zp_apart
           rw [if_pos (by omega)])
        | (refine hR.same ?_
           unfold zp_apart
           have e9 : ∀ S : BT, ofRZ S i = -1 := fun S => by
             unfold ofRZ
             rw [if_neg (show ¬ i = -1 by omega), if_neg (show ¬ (0 ≤ i ∧ i ≤ (pnZ S.1.2.1 36 S.2.2.1 : Int)) by omega)]
             split <;> rfl
           rw [if_neg (by omega), e9])
        | (refine (hR.sc (FrA hf37)).same ?_
           unfold zp_apart
           rw [if_neg (by omega), (bf_apart (show b ≠ -1 by omega)).1, (bf_apart (show b ≠ -1 by omega)).2])
theorem ScV.cg {V : VT} {S : Nat} {g g' : Int → Int} (h : ScV V S g) (e : ∀ r, 0 ≤ r → r < 36 → g' r = g r) : ScV V S g' := fun r r0 r1 => by rw [e r r0 r1]; exact h r r0 r1
set_option maxHeartbeats 4000000 in
theorem kX2_takes {E : ET} {sh : SHT} {nn : Nat × Nat} {V : VT} {S S2 : Nat} (hS : ScS sh S) (hS2 : ScS sh S2) (hn : S + 1 ≠ S2 + 1 ∧ S + 1 ≠ S2 + 2 ∧ S2 + 2 ≠ S + 1) : TN E mX2_takes 1 [.ref S, .ref S2] sh nn V (fun V1 => (∀ b, b ≠ S + 1 → b ≠ S + 2 → V1.1 b = V.1 b ∧ V1.2.1 b = V.2.1 b ∧ V1.2.2 b = V.2.2 b) ∧ ∀ g, ScV V S2 g → ScV V1 S g) := by
  refine TC.intro [some (.ref S), some (.ref S2)] rfl ?_
  refine TGo.al1 dX2_takes_0 rfl ?_
  refine TGo.getS (t := 10) 0 0 (S2 + 1) hS2.1 rfl fgX2_9_2 dX2_takes_1 rfl rfl rfl ?_
  refine TGo.ic0 dX2_takes_4 ?_
  refine TGo.al0 dX2_takes_5 rfl ?_
  refine TGo.getS (t := 10) 0 0 (S + 1) hS.1 rfl fgX2_9_2 dX2_takes_6 rfl rfl rfl ?_
  refine TGo.ic0 dX2_takes_9 ?_
  refine TGo.bip 36 dX2_takes_10 (by decide) ?_
  refine TGo.copyI dX2_takes_12 q613 hS2.2.1 hS.2.1 (by omega) rfl rfl rfl (by omega) ?_
  refine TGo.al1 dX2_takes_15 rfl ?_
  refine TGo.getS (t := 10) 1 1 (S2 + 2) hS2.1 rfl fgX2_15_2 dX2_takes_16 rfl rfl rfl ?_
  refine TGo.ic0 dX2_takes_19 ?_
  refine TGo.al0 dX2_takes_20 rfl ?_
  refine TGo.getS (t := 10) 1 1 (S + 2) hS.1 rfl fgX2_15_2 dX2_takes_21 rfl rfl rfl ?_
  refine TGo.ic0 dX2_takes_24 ?_
  refine TGo.bip 36 dX2_takes_25 (by decide) ?_
  refine TGo.copyI dX2_takes_27 q613 hS2.2.2 hS.2.2 (by omega) rfl rfl rfl (by omega) ?_
  refine TGo.vret dX2_takes_30 rfl ?_
  refine ⟨rfl, rfl, rfl, fun b h1 h2 => ⟨?_, rfl, rfl⟩, fun g hg r r0 r1 => ⟨?_, fun q => ?_⟩⟩
  · show u1 (u1 V.1 _ _) _ _ b = _
    rw [u1_n h2, u1_n h1]
  · show u1 (u1 V.1 _ _) _ _ (S + 1) r = _
    rw [u1_n (by omega), u1_s, if_pos (by omega), show (0 : Int) + (r - 0) = r by omega]
    exact (hg r r0 r1).1
  · show u1 (u1 V.1 _ _) _ _ (S + 2) r = _
    rw [u1_s, if_pos (by omega), show (0 : Int) + (r - 0) = r by omega]
    show u1 V.1 _ _ (S2 + 2) r = _
    rw [u1_n (by omega)]
    exact (hg r r0 r1).2 q
set_option maxHeartbeats 4000000 in
theorem lX0_trap {E : ET} {sh : SHT} {nn : Nat × Nat} {B : Nat} {ow : Nat → Nat} {z : ZT} {a i : Int} {S : Nat} (W : RWZ (z.2 3)) (ha : 0 ≤ a ∧ a < z.2 3 2) (ri : -1 ≤ i ∧ R32 i) (hS : ScS sh S) (oS : ow S = 4 ∧ ow (S + 1) = 4 ∧ ow (S + 2) = 4) : ∀ (n j : Nat) (V : VT), 36 - j < n → j ≤ 36 → XR ow sh nn V B z → (ScV V S (fun r => z.2 3 (298 + 36 * a + r)) ∧ ScV V (B + 42) (fun r => if r < (((j) : Nat) : Int) ∧ z.2 3 (298 + 36 * a + r) = -1 then 0 else z.2 3 (298 + 36 * a + r))) → TGo E mX0_trap 5 32 [some (.ref B), some (.int (iI a)), some (.int (iI i)), some (.ref S), some (.int (iI (((j) : Nat) : Int)))] [] sh nn V (XP B nn (zp_trap z a i)) := by
  intro n
  induction n with
  | zero => intro j V h; omega
  | succ n ih =>
    intro j V hn hj hz hx
    obtain ⟨hB, how, hc, -⟩ := id hz
    have hF : ScS sh (B + 42) := ⟨hB 42 (by decide), hB 43 (by decide), hB 44 (by decide)⟩
    have hcO := fun (q : (j : Int) < 36) => W.2.2.2.2.2.1 a (j : Int) ha.1 ha.2 (by omega) q
    refine TGo.il dX0_trap_32 rfl ?_
    refine TGo.bip 36 dX0_trap_34 (by decide) ?_
    refine TGo.icmp_ge 65 dX0_trap_36 (by decide) (by omega) (fun h36 => ?_) (fun h36 => ?_)
    · refine TGo.al0 dX0_trap_65 rfl ?_
      refine TGo.getS (t := 8) 9 9 (B + 37) (hB 0 (by decide)) rfl fgX0_44_0 dX0_trap_66 rfl rfl rfl ?_
      refine TGo.al3 dX0_trap_69 rfl ?_
      refine TGo.al0 dX0_trap_70 rfl ?_
      refine TGo.getS (t := 8) 10 10 (B + 42) (hB 0 (by decide)) rfl fgX0_51_0 dX0_trap_71 rfl rfl rfl ?_
      refine TGo.cS (csV2 (y2 := mX5_finds) (t := 13) 2 rfl (hB 37 (by decide)) rfl rfl dX0_trap_74 q1572 q1573 q1574 okX5_finds npX5_finds rfl rfl) (kX5_finds (ga := (fun r => z.2 3 (298 + 36 * a + r))) (gb := (fun r => if z.2 3 (298 + 36 * a + r) = -1 then 0 else z.2 3 (298 + 36 * a + r))) hB.ap hS hF (fun r r0 r1 => W.2.2.2.2.2.1 a r (by omega) (by omega) r0 r1) (fun r r0 r1 => by have q := W.2.2.2.2.2.1 a r (by omega) (by omega) r0 r1; show cOK (if z.2 3 (298 + 36 * a + r) = -1 then 0 else z.2 3 (298 + 36 * a + r)); split <;> first | exact q | (unfold cOK; omega)) (fun V1 q => ⟨hx.1.o (FrA q) how (by omega) (by omega), fun r r0 r1 => by
        rw [q.1 (B + 42 + 1) (by simp), q.1 (B + 42 + 2) (by simp)]
        exact (@ScV.cg _ _ _ (fun r => if z.2 3 (298 + 36 * a + r) = -1 then 0 else z.2 3 (298 + 36 * a + r)) hx.2 (fun r r0 r1 => by
          by_cases e : z.2 3 (298 + 36 * a + r) = -1
          · rw [if_pos e, if_pos ⟨by omega, e⟩]
          · rw [if_neg e, if_neg (fun q => e q.2)])) r r0 r1⟩)) (fun v74 V74 h74 => ?_)
      obtain ⟨⟨w74, rfl⟩, hf74, hg74, hn74⟩ := h74
      refine TGo.pop dX0_trap_77 rfl ?_
      refine TGo.al0 dX0_trap_78 rfl ?_
      refine TGo.getS (t := 8) 9 9 (B + 37) (hB 0 (by decide)) rfl fgX0_44_0 dX0_trap_79 rfl rfl rfl ?_
      refine TGo.il2 dX0_trap_82 rfl ?_
      refine TGo.cF (csV1 (y2 := mX5_tells) (t := 13) 2 rfl (hB 37 (by decide)) rfl rfl dX0_trap_83 q1585 q1586 q1587 okX5_tells npX5_tells rfl rfl) (kX5_tells (S := bfS (xdZ (fun r => z.2 3 (298 + 36 * a + r)) (fun r => if z.2 3 (298 + 36 * a + r) = -1 then 0 else z.2 3 (298 + 36 * a + r))) (xnZ (fun r => z.2 3 (298 + 36 * a + r)) (fun r => if z.2 3 (298 + 36 * a + r) = -1 then 0 else z.2 3 (298 + 36 * a + r))) 36) hB.ap hg74 hn74 (by omega)) ?_
      refine TGo.iret dX0_trap_86 rfl ?_
      obtain rfl : j = 36 := by omega
      refine (hz.sc (FrA hf74)).same ?_
      unfold zp_trap
      rw [if_neg (by omega), bf_trap W ha]
    · refine TGo.al3 dX0_trap_39 rfl ?_
      refine TGo.il dX0_trap_40 rfl ?_
      refine TGo.cF (csV1 (y2 := mX2_isHole) (t := 10) 1 rfl hS.1 rfl rfl dX0_trap_42 q1518 q745 q746 okX2_isHole npX2_isHole rfl rfl) (kX2_isHole (g := (fun r => z.2 3 (298 + 36 * a + r))) hS hx.1 (by omega) (hcO (by omega))) ?_
      refine TGo.ifb_eq 59 dX0_trap_45 (by decide) (fun h45 => ?_) (fun h45 => ?_)
      · refine TGo.iinc dX0_trap_59 rfl rfl rfl ?_
        refine TGo.goto 32 dX0_trap_62 (by decide) ?_
        exact TGo.seq [some (.ref B), some (.int (iI a)), some (.int (iI i)), some (.ref S), some (.int (iI ((((j + 1)) : Nat) : Int)))] [] _ (rfl) rfl rfl (ih (j + 1) _ (by omega) (by omega) hz (by
          first
          | (refine ⟨hx.1, hx.2.cg (fun r r0 r1 => ?_)⟩
             show (if r < ((j + 1 : Nat) : Int) ∧ z.2 3 (298 + 36 * a + r) = -1 then (0 : Int) else z.2 3 (298 + 36 * a + r)) = (if r < ((j : Nat) : Int) ∧ z.2 3 (298 + 36 * a + r) = -1 then 0 else z.2 3 (298 + 36 * a + r))
             by_cases e : z.2 3 (298 + 36 * a + r) = -1
             · have e2 : r ≠ (j : Int) := fun e2 => by rw [e2] at e; exact absurd e (by assumption)
               by_cases e3 : r < (j : Int)
               · rw [if_pos ⟨by omega, e⟩, if_pos ⟨e3, e⟩]
               · rw [if_neg (fun q => by omega), if_neg (fun q => e3 q.1)]
             · rw [if_neg (fun q => e q.2), if_neg (fun q => e q.2)])
          | (refine ⟨hx.1.o ((FrS.rf.i 43 (by omega)).i 44 (by omega)) how (by omega) (by omega), fun r r0 r1 => ?_⟩
             show u2 (u2 V.1 (B + 42 + 1) (j : Int) 0) (B + 42 + 2) (j : Int) 0 (B + 42 + 1) r = _ ∧ (_ → u2 (u2 V.1 (B + 42 + 1) (j : Int) 0) (B + 42 + 2) (j : Int) 0 (B + 42 + 2) r = _)
             rw [(u2_n (Or.inl (by omega)) : u2 (u2 V.1 (B + 42 + 1) (j : Int) 0) (B + 42 + 2) (j : Int) 0 (B + 42 + 1) r = _)]
             simp only
             by_cases e2 : r = (j : Int)
             · rw [e2, u2_s, u2_s, if_pos ⟨by omega, by assumption⟩]
               exact ⟨rfl, fun _ => rfl⟩
             · rw [u2_n (Or.inr e2), u2_n (Or.inr e2), u2_n (Or.inl (by omega))]
               have q := hx.2 r r0 r1
               simp only at q
               have e4 : (if r < ((j + 1 : Nat) : Int) ∧ z.2 3 (298 + 36 * a + r) = -1 then (0 : Int) else z.2 3 (298 + 36 * a + r)) = (if r < ((j : Nat) : Int) ∧ z.2 3 (298 + 36 * a + r) = -1 then 0 else z.2 3 (298 + 36 * a + r)) := by
                 by_cases e : z.2 3 (298 + 36 * a + r) = -1
                 · by_cases e3 : r < (j : Int)
                   · rw [if_pos ⟨by omega, e⟩, if_pos ⟨e3, e⟩]
                   · rw [if_neg (fun q => by omega), if_neg (fun q => e3 q.1)]
                 · rw [if_neg (fun q => e q.2), if_neg (fun q => e q.2)]
               rw [e4]; exact q)))
      · refine TGo.al0 dX0_trap_48 rfl ?_
        refine TGo.getS (t := 8) 10 10 (B + 42) (hB 0 (by decide)) rfl fgX0_51_0 dX0_trap_49 rfl rfl rfl ?_
        refine TGo.il dX0_trap_52 rfl ?_
        refine TGo.ic0 dX0_trap_54 ?_
        refine TGo.ic0 dX0_trap_55 ?_
        refine TGo.cWn (csV3 (y2 := mX2_says) (t := 10) 1 rfl (hB 42 (by decide)) rfl rfl dX0_trap_56 q725 q726 q727 okX2_says npX2_says rfl rfl) (kX2_says (r := (j : Int)) (w := 0) (n := 0) hF (by omega)) ?_
        
        refine TGo.iinc dX0_trap_59 rfl rfl rfl ?_
        refine TGo.goto 32 dX0_trap_62 (by decide) ?_
        exact TGo.seq [some (.ref B), some (.int (iI a)), some (.int (iI i)), some (.ref S), some (.int (iI ((((j + 1)) : Nat) : Int)))] [] _ (rfl) rfl rfl (ih (j + 1) _ (by omega) (by omega) (hz.sc ((FrS.rf.i 43 (by omega)).i 44 (by omega))) (by
          first
          | (refine ⟨hx.1, hx.2.cg (fun r r0 r1 => ?_)⟩
             show (if r < ((j + 1 : Nat) : Int) ∧ z.2 3 (298 + 36 * a + r) = -1 then (0 : Int) else z.2 3 (298 + 36 * a + r)) = (if r < ((j : Nat) : Int) ∧ z.2 3 (298 + 36 * a + r) = -1 then 0 else z.2 3 (298 + 36 * a + r))
             by_cases e : z.2 3 (298 + 36 * a + r) = -1
             · have e2 : r ≠ (j : Int) := fun e2 => by rw [e2] at e; exact absurd e (by assumption)
               by_cases e3 : r < (j : Int)
               · rw [if_pos ⟨by omega, e⟩, if_pos ⟨e3, e⟩]
               · rw [if_neg (fun q => by omega), if_neg (fun q => e3 q.1)]
             · rw [if_neg (fun q => e q.2), if_neg (fun q => e q.2)])
          | (refine ⟨hx.1.o ((FrS.rf.i 43 (by omega)).i 44 (by omega)) how (by omega) (by omega), fun r r0 r1 => ?_⟩
             show u2 (u2 V.1 (B + 42 + 1) (j : Int) 0) (B + 42 + 2) (j : Int) 0 (B + 42 + 1) r = _ ∧ (_ → u2 (u2 V.1 (B + 42 + 1) (j : Int) 0) (B + 42 + 2) (j : Int) 0 (B + 42 + 2) r = _)
             rw [(u2_n (Or.inl (by omega)) : u2 (u2 V.1 (B + 42 + 1) (j : Int) 0) (B + 42 + 2) (j : Int) 0 (B + 42 + 1) r = _)]
             simp only
             by_cases e2 : r = (j : Int)
             · rw [e2, u2_s, u2_s, if_pos ⟨by omega, by assumption⟩]
               exact ⟨rfl, fun _ => rfl⟩
             · rw [u2_n (Or.inr e2), u2_n (Or.inr e2), u2_n (Or.inl (by omega))]
               have q := hx.2 r r0 r1
               simp only at q
               have e4 : (if r < ((j + 1 : Nat) : Int) ∧ z.2 3 (298 + 36 * a + r) = -1 then (0 : Int) else z.2 3 (298 + 36 * a + r)) = (if r < ((j : Nat) : Int) ∧ z.2 3 (298 + 36 * a + r) = -1 then 0 else z.2 3 (298 + 36 * a + r)) := by
                 by_cases e : z.2 3 (298 + 36 * a + r) = -1
                 · by_cases e3 : r < (j : Int)
                   · rw [if_pos ⟨by omega, e⟩, if_pos ⟨e3, e⟩]
                   · rw [if_neg (fun q => by omega), if_neg (fun q => e3 q.1)]
                 · rw [if_neg (fun q => e q.2), if_neg (fun q => e q.2)]
               rw [e4]; exact q)))
set_option maxHeartbeats 4000000 in
theorem kX0_trap {E : ET} {sh : SHT} {nn : Nat × Nat} {V : VT} {B : Nat} {ow : Nat → Nat} {z : ZT} {a i : Int} (hR : XR ow sh nn V B z) (W : RWZ (z.2 3)) (ra : R32 a) (ri : R32 i) : TC E mX0_trap 5 [.ref B, .int (iI a), .int (iI i)] sh nn V (XP B nn (zp_trap z a i)) := by
  obtain ⟨hB, -, hc, -⟩ := id hR
  have w2 := W.1.2.2.1
  obtain ⟨ap, av, al, cp, cv, cl, gp, gv, gl, hne, ⟨hp1, hp2⟩, ⟨hv1, hv2⟩, hl1, hl2⟩ := id hR.2.2.2.1
  have hF : ScS sh (B + 42) := ⟨hB 42 (by decide), hB 43 (by decide), hB 44 (by decide)⟩
  refine TC.intro [some (.ref B), some (.int (iI a)), some (.int (iI i)), none, none] rfl ?_
  refine TGo.al0 dX0_trap_0 rfl ?_
  refine TGo.il1 dX0_trap_1 rfl ?_
  refine TGo.cF (csV1 (y2 := mX0_isVersion) (t := 8) 2 rfl (hB 0 (by decide)) rfl rfl dX0_trap_2 q1496 q1498 qs19 okX0_isVersion npX0_isVersion rfl rfl) (kX0_isVersion hR W (by omega)) ?_
  refine TGo.ifb_eq 13 dX0_trap_5 (by decide) (fun h5 => ?_) (fun h5 => ?_)
  · refine TGo.icm1 dX0_trap_13 ?_
    refine TGo.iret dX0_trap_14 rfl ?_
    first
    | (exfalso; omega)
    | (refine hR.same ?_
       unfold zp_trap
       rw [if_pos (by omega)])
    | (refine hR.same ?_
       unfold zp_trap
       have e9 : ∀ S : BT, ofRZ S i = -1 := fun S => by
         unfold ofRZ
         rw [if_neg (show ¬ i = -1 by omega), if_neg (show ¬ (0 ≤ i ∧ i ≤ (pnZ S.1.2.1 36 S.2.2.1 : Int)) by omega)]
         split <;> rfl
       rw [if_neg (by omega), e9])
  · refine TGo.il2 dX0_trap_8 rfl ?_
    refine TGo.icm1 dX0_trap_9 ?_
    refine TGo.icmp_ge 15 dX0_trap_10 (by decide) (by omega) (fun h10 => ?_) (fun h10 => ?_)
    · refine TGo.al0 dX0_trap_15 rfl ?_
      refine TGo.il1 dX0_trap_16 rfl ?_
      refine TGo.callG (csV1 (y2 := mX0_scriptOf) (t := 8) 4 rfl (hB 0 (by decide)) rfl rfl dX0_trap_17 q1548 q1550 qs23 okX0_scriptOf npX0_scriptOf rfl rfl) (kX0_scriptOf hR W (v := a) (by omega)) (fun o17 sh17 nn17 V17 e17 h17 => ?_)
      obtain ⟨⟨S, rfl, ⟨vSS, vVS⟩, oSS⟩, rfl, rfl, rfl⟩ := h17
      show TGo _ _ _ _ _ _ _ _ _ _
      refine TGo.as3 dX0_trap_20 rfl rfl ?_
      refine TGo.al0 dX0_trap_21 rfl ?_
      refine TGo.getS (t := 8) 10 10 (B + 42) (hB 0 (by decide)) rfl fgX0_51_0 dX0_trap_22 rfl rfl rfl ?_
      refine TGo.al3 dX0_trap_25 rfl ?_
      refine TGo.cN (csV1 (y2 := mX2_takes) (t := 10) 1 rfl (hB 42 (by decide)) rfl rfl dX0_trap_26 q1594 q610 q611 okX2_takes npX2_takes rfl rfl) (kX2_takes hF vSS (by have q := hR.2.1 43 (by decide); have q2 := hR.2.1 44 (by decide); refine ⟨fun e => ?_, fun e => ?_, fun e => ?_⟩ <;> (first | (rw [show B + 43 = S + 1 from e] at q; omega) | (rw [show B + 43 = S + 2 from e] at q; omega) | (rw [show B + 43 = S + 2 from e.symm] at q; omega)))) (fun V26 h26 => ?_)
      have hFS : FrS B _ V26 := fun b hb => h26.1 b (hb 43 (by omega)) (hb 44 (by omega))
      refine TGo.ic0 dX0_trap_29 ?_
      refine TGo.is dX0_trap_30 rfl rfl ?_
      exact lX0_trap W (by omega) (by omega) vSS oSS 37 0 _ (by omega) (by omega) (hR.sc hFS) ⟨vVS.o hFS hR.2.1 (by omega) (by omega), (h26.2 _ vVS).cg (fun r r0 r1 => if_neg (fun q => by have := q.1; omega))⟩
    · refine TGo.icm1 dX0_trap_13 ?_
      refine TGo.iret dX0_trap_14 rfl ?_
      first
      | (exfalso; omega)
      | (refine hR.same ?_
         unfold zp_trap
         rw [if_pos (by omega)])
      | (refine hR.same ?_
         unfold zp_trap
         have e9 : ∀ S : BT, ofRZ S i = -1 := fun S => by
           unfold ofRZ
           rw [if_neg (show ¬ i = -1 by omega), if_neg (show ¬ (0 ≤ i ∧ i ≤ (pnZ S.1.2.1 36 S.2.2.1 : Int)) by omega)]
           split <;> rfl
         rw [if_neg (by omega), e9])
