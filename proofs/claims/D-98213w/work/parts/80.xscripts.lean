/-! X: scripts -/
set_option maxRecDepth 100000
theorem stZ_stay {f c : Int → Int} {j m : Nat} (h : stZ f c j = -1) (hm : j ≤ m) : stZ f c m = -1 := by
  induction m with
  | zero => obtain rfl : j = 0 := by omega
            exact h
  | succ m ih =>
    by_cases e : j = m + 1
    · subst e; exact h
    · rw [stZ, if_pos (ih (by omega))]
theorem wdZ_next {f c : Int → Int} {n k : Nat} (P : PlZ f c n) (hk : k < n) (h : wdZ f c k = -1) : stZ f c (k + 1) = -1 := by
  have q := stZ_r P (k := k) (by omega)
  rw [stZ]
  by_cases e : stZ f c k = -1
  · rw [if_pos e]
  · rw [if_neg e]
    have cb := P.2 (k : Int) (by omega) (by omega)
    have fb : -1 ≤ f (6 * stZ f c k + c (k : Int)) ∧ f (6 * stZ f c k + c (k : Int)) < 60 := P.1 _ (by omega) (by omega)
    unfold wdZ at h
    rw [if_neg e] at h
    unfold wZ at h
    unfold nZ
    split at h
    · rename_i e2; rw [if_pos e2]
    · omega
theorem stopZ_wd {f c : Int → Int} {n : Nat} (P : PlZ f c n) : ∀ {k : Nat}, k < n → (stopZ f c (k + 1) = -1 ↔ wdZ f c k ≠ -1) := by
  intro k
  induction k with
  | zero =>
    intro hk
    show (if (-1 : Int) = -1 then (if wdZ f c 0 = -1 then ((0 : Nat) : Int) else -1) else -1) = -1 ↔ _
    rw [if_pos rfl]
    split
    · rename_i e; exact ⟨fun h => absurd h (by decide), fun h => absurd e h⟩
    · rename_i e; exact ⟨fun _ => e, fun _ => rfl⟩
  | succ k ih =>
    intro hk
    have q := ih (by omega)
    rw [stopZ]
    by_cases e : stopZ f c (k + 1) = -1
    · rw [if_pos e]
      split
      · rename_i e2; exact ⟨fun h => by omega, fun h => absurd e2 h⟩
      · rename_i e2; exact ⟨fun _ => e2, fun _ => rfl⟩
    · rw [if_neg e]
      have w : wdZ f c k = -1 := Classical.byContradiction (fun h => e (q.mpr h))
      have w2 : wdZ f c (k + 1) = -1 := by
        show (if stZ f c (k + 1) = -1 then -1 else _) = -1
        rw [if_pos (wdZ_next P (by omega) w)]
      exact ⟨fun h => absurd h e, fun h => absurd w2 h⟩
theorem cOK_in {c d : Int} (hc : cOK c) (hd : cOK d) : (wZ c = wZ d ∧ nZ c = nZ d) ↔ c = d := by
  have hc : -1 ≤ c ∧ c < 60 := hc
  have hd : -1 ≤ d ∧ d < 60 := hd
  refine ⟨fun h => ?_, fun h => by rw [h]; exact ⟨rfl, rfl⟩⟩
  obtain ⟨h1, h2⟩ := h
  unfold wZ at h1
  unfold nZ at h2
  (repeat' split at h1) <;> (repeat' split at h2) <;> omega
set_option maxHeartbeats 4000000 in
theorem lX2_known {E : ET} {sh : SHT} {nn : Nat × Nat} {V : VT}  {S : Nat} {f : Int → Int} {a : Int} (hz : ScV V S (fun r => f (a + r))) (hS : ScS sh S) (hco : ∀ r, 0 ≤ r → r < 36 → cOK (f (a + r))) : ∀ (n j : Nat), 36 - j < n → j ≤ 36 → TGo E mX2_known 2 4 [some (.ref S), some (.int (iI (toldZ f a (j)))), some (.int (iI (((j) : Nat) : Int)))] [] sh nn V (fun o sh' nn' V' => o = .inl (some (.int (iI (toldZ f a 36)))) ∧ sh' = sh ∧ nn' = nn ∧ V' = V) := by
  intro n
  induction n with
  | zero => intro j h; omega
  | succ n ih =>
    intro j hn hj
    refine TGo.il2 dX2_known_4 rfl ?_
    refine TGo.bip 36 dX2_known_5 (by decide) ?_
    refine TGo.icmp_ge 32 dX2_known_7 (by decide) (by omega) (fun h7 => ?_) (fun h7 => ?_)
    · refine TGo.il1 dX2_known_32 rfl ?_
      refine TGo.iret dX2_known_33 rfl ?_
      obtain rfl : j = 36 := by omega
      exact ⟨rfl, rfl, rfl, rfl⟩
    · refine TGo.il1 dX2_known_10 rfl ?_
      refine TGo.al0 dX2_known_11 rfl ?_
      refine TGo.il2 dX2_known_12 rfl ?_
      refine TGo.cF (csV1 (y2 := mX2_isHole) (t := 10) 1 rfl hS.1 rfl rfl dX2_known_13 q744 q745 q746 okX2_isHole npX2_isHole rfl rfl) (kX2_isHole hS hz (by omega) (hco _ (by omega) (by omega))) ?_
      refine TGo.ifb_eq 23 dX2_known_16 (by decide) (fun h16 => ?_) (fun h16 => ?_)
      · refine TGo.ic1 dX2_known_23 ?_
        refine TGo.iadd dX2_known_24 ?_
        refine TGo.is1 dX2_known_25 rfl rfl ?_
        refine TGo.iinc dX2_known_26 rfl rfl rfl ?_
        refine TGo.goto 4 dX2_known_29 (by decide) ?_
        exact TGo.seq [some (.ref S), some (.int (iI (toldZ f a ((j + 1))))), some (.int (iI ((((j + 1)) : Nat) : Int)))] [] _ (by rw [toldZ]; first | (rw [if_pos (by first | assumption | omega)]; rfl) | (rw [if_neg (by first | assumption | omega)]; rfl)) rfl rfl (ih (j + 1) (by omega) (by omega))
      · refine TGo.ic0 dX2_known_19 ?_
        refine TGo.goto 24 dX2_known_20 (by decide) ?_
        refine TGo.iadd dX2_known_24 ?_
        refine TGo.is1 dX2_known_25 rfl rfl ?_
        refine TGo.iinc dX2_known_26 rfl rfl rfl ?_
        refine TGo.goto 4 dX2_known_29 (by decide) ?_
        exact TGo.seq [some (.ref S), some (.int (iI (toldZ f a ((j + 1))))), some (.int (iI ((((j + 1)) : Nat) : Int)))] [] _ (by rw [toldZ]; first | (rw [if_pos (by first | assumption | omega)]; rfl) | (rw [if_neg (by first | assumption | omega)]; rfl)) rfl rfl (ih (j + 1) (by omega) (by omega))
set_option maxHeartbeats 4000000 in
theorem kX2_known {E : ET} {sh : SHT} {nn : Nat × Nat} {V : VT} {S : Nat} {f : Int → Int} {a : Int} (hS : ScS sh S) (hv : ScV V S (fun r => f (a + r))) (hco : ∀ r, 0 ≤ r → r < 36 → cOK (f (a + r))) : TF E mX2_known 2 [.ref S] sh nn V (.int (iI (toldZ f a 36))) := by
  refine TC.intro [some (.ref S), none, none] rfl ?_
  refine TGo.ic0 dX2_known_0 ?_
  refine TGo.is1 dX2_known_1 rfl rfl ?_
  refine TGo.ic0 dX2_known_2 ?_
  refine TGo.is2 dX2_known_3 rfl rfl ?_
  exact lX2_known hv hS hco 37 0 (by omega) (by omega)
set_option maxHeartbeats 4000000 in
theorem lX2_unlike {E : ET} {sh : SHT} {nn : Nat × Nat} {V : VT}  {S : Nat} {f : Int → Int} {a : Int} {S2 : Nat} {b : Int} (hz : ScV V S (fun r => f (a + r))) (hS : ScS sh S) (hco : ∀ r, 0 ≤ r → r < 36 → cOK (f (a + r))) (hS2 : ScS sh S2) (hv2 : ScV V S2 (fun r => f (b + r))) (hco2 : ∀ r, 0 ≤ r → r < 36 → cOK (f (b + r))) : ∀ (n j : Nat), 36 - j < n → j ≤ 36 → TGo E mX2_unlike 3 4 [some (.ref S), some (.ref S2), some (.int (iI (unlZ f a b (j)))), some (.int (iI (((j) : Nat) : Int)))] [] sh nn V (fun o sh' nn' V' => o = .inl (some (.int (iI (unlZ f a b 36)))) ∧ sh' = sh ∧ nn' = nn ∧ V' = V) := by
  intro n
  induction n with
  | zero => intro j h; omega
  | succ n ih =>
    intro j hn hj
    have c1 := fun (q : (j : Int) < 36) => hco (j : Int) (by omega) q
    have c2 := fun (q : (j : Int) < 36) => hco2 (j : Int) (by omega) q
    refine TGo.il3 dX2_unlike_4 rfl ?_
    refine TGo.bip 36 dX2_unlike_5 (by decide) ?_
    refine TGo.icmp_ge 52 dX2_unlike_7 (by decide) (by omega) (fun h7 => ?_) (fun h7 => ?_)
    · refine TGo.il2 dX2_unlike_52 rfl ?_
      refine TGo.iret dX2_unlike_53 rfl ?_
      obtain rfl : j = 36 := by omega
      exact ⟨rfl, rfl, rfl, rfl⟩
    · have hin := cOK_in (c1 (by omega)) (c2 (by omega))
      have b1 : -1 ≤ f (a + (j : Int)) ∧ f (a + (j : Int)) < 60 := c1 (by omega)
      have b2 : -1 ≤ f (b + (j : Int)) ∧ f (b + (j : Int)) < 60 := c2 (by omega)
      have w1 : -1 ≤ wZ (f (a + (j : Int))) ∧ wZ (f (a + (j : Int))) ≤ 9 := by unfold wZ; split <;> omega
      have w2 : -1 ≤ wZ (f (b + (j : Int))) ∧ wZ (f (b + (j : Int))) ≤ 9 := by unfold wZ; split <;> omega
      have n1 : -1 ≤ nZ (f (a + (j : Int))) ∧ nZ (f (a + (j : Int))) ≤ 5 := by unfold nZ; split <;> omega
      have n2 : -1 ≤ nZ (f (b + (j : Int))) ∧ nZ (f (b + (j : Int))) ≤ 5 := by unfold nZ; split <;> omega
      refine TGo.il2 dX2_unlike_10 rfl ?_
      refine TGo.al0 dX2_unlike_11 rfl ?_
      refine TGo.getS (t := 10) 0 0 (S + 1) hS.1 rfl fgX2_9_2 dX2_unlike_12 rfl rfl rfl ?_
      refine TGo.il3 dX2_unlike_15 rfl ?_
      refine TGo.iald dX2_unlike_16 hS.2.1 (by omega) rfl ?_
      refine TGo.toz _ ((show _ = wZ (f (a + (j : Int))) from (hz _ (by omega) (by omega)).1)) ?_
      refine TGo.al1 dX2_unlike_17 rfl ?_
      refine TGo.getS (t := 10) 0 0 (S2 + 1) hS2.1 rfl fgX2_9_2 dX2_unlike_18 rfl rfl rfl ?_
      refine TGo.il3 dX2_unlike_21 rfl ?_
      refine TGo.iald dX2_unlike_22 hS2.2.1 (by omega) rfl ?_
      refine TGo.toz _ ((show _ = wZ (f (b + (j : Int))) from (hv2 _ (by omega) (by omega)).1)) ?_
      refine TGo.icmp_ne 43 dX2_unlike_23 (by decide) (by omega) (fun h23 => ?_) (fun h23 => ?_)
      · refine TGo.ic1 dX2_unlike_43 ?_
        refine TGo.iadd dX2_unlike_44 ?_
        refine TGo.is2 dX2_unlike_45 rfl rfl ?_
        refine TGo.iinc dX2_unlike_46 rfl rfl rfl ?_
        refine TGo.goto 4 dX2_unlike_49 (by decide) ?_
        exact TGo.seq [some (.ref S), some (.ref S2), some (.int (iI (unlZ f a b ((j + 1))))), some (.int (iI ((((j + 1)) : Nat) : Int)))] [] _ (by rw [unlZ]; first | (rw [if_pos (hin.mp ⟨by assumption, by assumption⟩)]; rfl) | (rw [if_neg (fun q => by have q := hin.mpr q; first | exact absurd q.1 (by assumption) | exact absurd q.2 (by assumption))]; rfl)) rfl rfl (ih (j + 1) (by omega) (by omega))
      · refine TGo.al0 dX2_unlike_26 rfl ?_
        refine TGo.il3 dX2_unlike_27 rfl ?_
        refine TGo.cF (csV1 (y2 := mX2_next) (t := 10) 2 rfl hS.1 rfl rfl dX2_unlike_28 q1543 q741 q742 okX2_next npX2_next rfl rfl) (kX2_next hS hz (by omega) (hco _ (by omega) (by omega))) ?_
        refine TGo.al1 dX2_unlike_31 rfl ?_
        refine TGo.il3 dX2_unlike_32 rfl ?_
        refine TGo.cF (csV1 (y2 := mX2_next) (t := 10) 2 rfl hS2.1 rfl rfl dX2_unlike_33 q1543 q741 q742 okX2_next npX2_next rfl rfl) (kX2_next hS2 hv2 (by omega) (hco2 _ (by omega) (by omega))) ?_
        refine TGo.icmp_ne 43 dX2_unlike_36 (by decide) (by omega) (fun h36 => ?_) (fun h36 => ?_)
        · refine TGo.ic1 dX2_unlike_43 ?_
          refine TGo.iadd dX2_unlike_44 ?_
          refine TGo.is2 dX2_unlike_45 rfl rfl ?_
          refine TGo.iinc dX2_unlike_46 rfl rfl rfl ?_
          refine TGo.goto 4 dX2_unlike_49 (by decide) ?_
          exact TGo.seq [some (.ref S), some (.ref S2), some (.int (iI (unlZ f a b ((j + 1))))), some (.int (iI ((((j + 1)) : Nat) : Int)))] [] _ (by rw [unlZ]; first | (rw [if_pos (hin.mp ⟨by assumption, by assumption⟩)]; rfl) | (rw [if_neg (fun q => by have q := hin.mpr q; first | exact absurd q.1 (by assumption) | exact absurd q.2 (by assumption))]; rfl)) rfl rfl (ih (j + 1) (by omega) (by omega))
        · refine TGo.ic0 dX2_unlike_39 ?_
          refine TGo.goto 44 dX2_unlike_40 (by decide) ?_
          refine TGo.iadd dX2_unlike_44 ?_
          refine TGo.is2 dX2_unlike_45 rfl rfl ?_
          refine TGo.iinc dX2_unlike_46 rfl rfl rfl ?_
          refine TGo.goto 4 dX2_unlike_49 (by decide) ?_
          exact TGo.seq [some (.ref S), some (.ref S2), some (.int (iI (unlZ f a b ((j + 1))))), some (.int (iI ((((j + 1)) : Nat) : Int)))] [] _ (by rw [unlZ]; first | (rw [if_pos (hin.mp ⟨by assumption, by assumption⟩)]; rfl) | (rw [if_neg (fun q => by have q := hin.mpr q; first | exact absurd q.1 (by assumption) | exact absurd q.2 (by assumption))]; rfl)) rfl rfl (ih (j + 1) (by omega) (by omega))
set_option maxHeartbeats 4000000 in
theorem kX2_unlike {E : ET} {sh : SHT} {nn : Nat × Nat} {V : VT} {S : Nat} {f : Int → Int} {a : Int} {S2 : Nat} {b : Int} (hS : ScS sh S) (hv : ScV V S (fun r => f (a + r))) (hco : ∀ r, 0 ≤ r → r < 36 → cOK (f (a + r))) (hS2 : ScS sh S2) (hv2 : ScV V S2 (fun r => f (b + r))) (hco2 : ∀ r, 0 ≤ r → r < 36 → cOK (f (b + r))) : TF E mX2_unlike 3 [.ref S, .ref S2] sh nn V (.int (iI (unlZ f a b 36))) := by
  refine TC.intro [some (.ref S), some (.ref S2), none, none] rfl ?_
  refine TGo.ic0 dX2_unlike_0 ?_
  refine TGo.is2 dX2_unlike_1 rfl rfl ?_
  refine TGo.ic0 dX2_unlike_2 ?_
  refine TGo.is3 dX2_unlike_3 rfl rfl ?_
  exact lX2_unlike hv hS hco hS2 hv2 hco2 37 0 (by omega) (by omega)
set_option maxHeartbeats 4000000 in
theorem lX2_stateBehind {E : ET} {sh : SHT} {nn : Nat × Nat} {V : VT} {S : Nat} {g : Int → Int} {C n1 m : Nat} {c : Int → Int} (hz : ScV V S g) (hS : ScS sh S) (hC : sh C = (1, 12)) (hcv : ∀ i, 0 ≤ i → i < 12 → V.1 C i = c i) (P : PlZ g c n1) (hn1 : n1 ≤ 12) (hm : m ≤ n1) : ∀ (n j : Nat), m - j < n → j ≤ m → TGo E mX2_stateBehind 3 6 [some (.ref S), some (.ref C), some (.int (iI 0)), some (.int (iI (m : Int))), some (.int (iI (stZ g c (j)))), some (.int (iI (((j) : Nat) : Int)))] [] sh nn V (fun o sh' nn' V' => o = .inl (some (.int (iI (stZ g c m)))) ∧ sh' = sh ∧ nn' = nn ∧ V' = V) := by
  intro n
  induction n with
  | zero => intro j h; omega
  | succ n ih =>
    intro j hn hj
    have hst := stZ_r P (k := j) (by omega)
    have hcb := fun (q : (j : Int) < n1) => P.2 (j : Int) (by omega) q
    refine TGo.il dX2_stateBehind_6 rfl ?_
    refine TGo.il3 dX2_stateBehind_8 rfl ?_
    refine TGo.icmp_ge 42 dX2_stateBehind_9 (by decide) (by omega) (fun h9 => ?_) (fun h9 => ?_)
    · refine TGo.il dX2_stateBehind_42 rfl ?_
      refine TGo.iret dX2_stateBehind_44 rfl ?_
      by_cases e : j = m
      · subst e; exact ⟨rfl, rfl, rfl, rfl⟩
      · refine leafF ?_
        have h15 : stZ g c j = -1 := by omega
        rw [h15, stZ_stay h15 hj]
    · refine TGo.il dX2_stateBehind_12 rfl ?_
      refine TGo.icm1 dX2_stateBehind_14 ?_
      refine TGo.icmp_eq 42 dX2_stateBehind_15 (by decide) (by omega) (fun h15 => ?_) (fun h15 => ?_)
      · refine TGo.il dX2_stateBehind_42 rfl ?_
        refine TGo.iret dX2_stateBehind_44 rfl ?_
        by_cases e : j = m
        · subst e; exact ⟨rfl, rfl, rfl, rfl⟩
        · refine leafF ?_
          have h15 : stZ g c j = -1 := by omega
          rw [h15, stZ_stay h15 hj]
      · have hcj := hcb (by omega)
        refine TGo.al0 dX2_stateBehind_18 rfl ?_
        refine TGo.bip 6 dX2_stateBehind_19 (by decide) ?_
        refine TGo.il dX2_stateBehind_21 rfl ?_
        refine TGo.imul dX2_stateBehind_23 ?_
        refine TGo.al1 dX2_stateBehind_24 rfl ?_
        refine TGo.il2 dX2_stateBehind_25 rfl ?_
        refine TGo.il dX2_stateBehind_26 rfl ?_
        refine TGo.iadd dX2_stateBehind_28 ?_
        refine TGo.iald dX2_stateBehind_29 hC (by omega) rfl ?_
        refine TGo.toz _ (hcv _ (by omega) (by omega)) ?_
        refine TGo.toz (c (j : Int)) (by rw [Int.zero_add]) ?_
        refine TGo.iadd dX2_stateBehind_30 ?_
        refine TGo.cF (csV1 (y2 := mX2_next) (t := 10) 2 rfl hS.1 rfl rfl dX2_stateBehind_31 q1543 q741 q742 okX2_next npX2_next rfl rfl) (kX2_next hS hz (by omega) (P.1 _ (by omega) (by omega))) ?_
        refine TGo.is dX2_stateBehind_34 rfl rfl ?_
        refine TGo.iinc dX2_stateBehind_36 rfl rfl rfl ?_
        refine TGo.goto 6 dX2_stateBehind_39 (by decide) ?_
        exact TGo.seq [some (.ref S), some (.ref C), some (.int (iI 0)), some (.int (iI (m : Int))), some (.int (iI (stZ g c ((j + 1))))), some (.int (iI ((((j + 1)) : Nat) : Int)))] [] _ (by rw [stZ, if_neg (by assumption)]; rfl) rfl rfl (ih (j + 1) (by omega) (by omega))
set_option maxHeartbeats 4000000 in
theorem kX2_stateBehind {E : ET} {sh : SHT} {nn : Nat × Nat} {V : VT} {S C n1 m : Nat} {g c : Int → Int} {x : Int} (hx : x = 0) (hS : ScS sh S) (hC : sh C = (1, 12)) (hcv : ∀ i, 0 ≤ i → i < 12 → V.1 C i = c i) (P : PlZ g c n1) (hn1 : n1 ≤ 12) (hm : m ≤ n1) (hv : ScV V S g) : TF E mX2_stateBehind 3 [.ref S, .ref C, .int (iI x), .int (iI (m : Int))] sh nn V (.int (iI (stZ g c m))) := by
  refine TC.intro [some (.ref S), some (.ref C), some (.int (iI x)), some (.int (iI (m : Int))), none, none] rfl ?_
  refine TGo.ic0 dX2_stateBehind_0 ?_
  refine TGo.is dX2_stateBehind_1 rfl rfl ?_
  refine TGo.ic0 dX2_stateBehind_3 ?_
  refine TGo.is dX2_stateBehind_4 rfl rfl ?_
  subst hx
  exact lX2_stateBehind hv hS hC hcv P hn1 hm (m + 1) 0 (by omega) (by omega)
set_option maxHeartbeats 4000000 in
theorem kX2_wordAt {E : ET} {sh : SHT} {nn : Nat × Nat} {V : VT} {S C n1 m : Nat} {g c : Int → Int} (hS : ScS sh S) (hC : sh C = (1, 12)) (hcv : ∀ i, 0 ≤ i → i < 12 → V.1 C i = c i) (P : PlZ g c n1) (hn1 : n1 ≤ 12) (hm : m < n1) (hv : ScV V S g) : TF E mX2_wordAt 4 [.ref S, .ref C, .int (iI (m : Int))] sh nn V (.int (iI (wdZ g c m))) := by
  have hst := stZ_r P (k := m) (by omega)
  have hcb := P.2 (m : Int) (by omega) (by omega)
  refine TC.intro [some (.ref S), some (.ref C), some (.int (iI (m : Int))), none] rfl ?_
  refine TGo.al0 dX2_wordAt_0 rfl ?_
  refine TGo.al1 dX2_wordAt_1 rfl ?_
  refine TGo.ic0 dX2_wordAt_2 ?_
  refine TGo.il2 dX2_wordAt_3 rfl ?_
  refine TGo.cF (csV3 (y2 := mX2_stateBehind) (t := 10) 3 rfl hS.1 rfl rfl dX2_wordAt_4 q1560 q1561 q1562 okX2_stateBehind npX2_stateBehind rfl rfl) (kX2_stateBehind rfl hS hC hcv P hn1 (by omega) hv) ?_
  refine TGo.is3 dX2_wordAt_7 rfl rfl ?_
  refine TGo.il3 dX2_wordAt_8 rfl ?_
  refine TGo.icm1 dX2_wordAt_9 ?_
  refine TGo.icmp_ne 17 dX2_wordAt_10 (by decide) (by omega) (fun h10 => ?_) (fun h10 => ?_)
  · refine TGo.al0 dX2_wordAt_17 rfl ?_
    refine TGo.getS (t := 10) 0 0 (S + 1) hS.1 rfl fgX2_9_2 dX2_wordAt_18 rfl rfl rfl ?_
    refine TGo.bip 6 dX2_wordAt_21 (by decide) ?_
    refine TGo.il3 dX2_wordAt_23 rfl ?_
    refine TGo.imul dX2_wordAt_24 ?_
    refine TGo.al1 dX2_wordAt_25 rfl ?_
    refine TGo.il2 dX2_wordAt_26 rfl ?_
    refine TGo.iald dX2_wordAt_27 hC (by omega) rfl ?_
    refine TGo.toz _ (hcv _ (by omega) (by omega)) ?_
    refine TGo.iadd dX2_wordAt_28 ?_
    refine TGo.iald dX2_wordAt_29 hS.2.1 (by omega) rfl ?_
    refine TGo.toz _ ((hv _ (by omega) (by omega)).1) ?_
    refine TGo.iret dX2_wordAt_30 rfl ?_
    refine leafF ?_
    unfold wdZ
    first | rw [if_pos (by assumption)] | rw [if_neg (by assumption)]
  · refine TGo.icm1 dX2_wordAt_13 ?_
    refine TGo.goto 30 dX2_wordAt_14 (by decide) ?_
    refine TGo.iret dX2_wordAt_30 rfl ?_
    refine leafF ?_
    unfold wdZ
    first | rw [if_pos (by assumption)] | rw [if_neg (by assumption)]
theorem wdR {f c : Int → Int} {n k : Nat} (P : PlZ f c n) (hk : k < n) : -1 ≤ wdZ f c k ∧ wdZ f c k ≤ 9 := by
  have q := stZ_r P k (by omega)
  unfold wdZ
  split
  · omega
  · have cb := P.2 (k : Int) (by omega) (by omega)
    have fb : -1 ≤ f (6 * stZ f c k + c (k : Int)) ∧ f (6 * stZ f c k + c (k : Int)) < 60 := P.1 _ (by omega) (by omega)
    unfold wZ
    split <;> omega
set_option maxHeartbeats 4000000 in
theorem lX0_stops {E : ET} {sh : SHT} {nn : Nat × Nat} {V : VT} {B : Nat} {ow : Nat → Nat} {z : ZT} {v : Int} (hz : XR ow sh nn V B z) (W : RWZ (z.2 3)) (hv : 0 ≤ v ∧ v < z.2 3 2) : ∀ (n j : Nat), (z.2 3 5).toNat - j < n → j ≤ (z.2 3 5).toNat → stopZ (fun r => z.2 3 (298 + 36 * v + r)) (fun i => z.2 3 (730 + i)) j = -1 → TGo E mX0_stops 5 12 [some (.ref B), some (.int (iI v)), some (.int (iI (((j) : Nat) : Int)))] [] sh nn V (fun o sh' nn' V' => o = .inl (some (.int (iI (stopZ (fun r => z.2 3 (298 + 36 * v + r)) (fun i => z.2 3 (730 + i)) (z.2 3 5).toNat)))) ∧ sh' = sh ∧ nn' = nn ∧ V' = V) := by
  intro n
  induction n with
  | zero => intro j h; omega
  | succ n ih =>
    intro j hn hj hx
    obtain ⟨hB, -, hc, -⟩ := id hz
    have w2 := W.1.2.2.1
    have w5 := W.1.2.2.2.2.2.1
    have hPl (hq : 0 ≤ v ∧ v < z.2 3 2) : PlZ (fun r => z.2 3 (298 + 36 * v + r)) (fun i => z.2 3 (730 + i)) (z.2 3 5).toNat := ⟨fun r r0 r1 => W.2.2.2.2.2.1 v r hq.1 hq.2 r0 r1, fun k k0 k1 => W.2.2.2.2.2.2.1 k k0 (by omega)⟩
    refine TGo.il2 dX0_stops_12 rfl ?_
    refine TGo.al0 dX0_stops_13 rfl ?_
    refine TGo.getS (t := 8) 2 2 (B + 2) (hB 0 (by decide)) rfl fgX0_16_0 dX0_stops_14 rfl rfl rfl ?_
    refine TGo.getI (t := 9) 9 9 (hB 2 (by decide)) rfl fgX0_321_1 dX0_stops_17 rfl rfl rfl ?_
    refine TGo.toz _ (hc.1.2.1.2.1) ?_
    refine TGo.icmp_ge 51 dX0_stops_20 (by decide) (by omega) (fun h20 => ?_) (fun h20 => ?_)
    · refine TGo.icm1 dX0_stops_51 ?_
      refine TGo.iret dX0_stops_52 rfl ?_
      obtain rfl : j = (z.2 3 5).toNat := by omega
      exact ⟨by rw [hx], rfl, rfl, rfl⟩
    · refine TGo.al0 dX0_stops_23 rfl ?_
      refine TGo.il1 dX0_stops_24 rfl ?_
      refine TGo.callG (csV1 (y2 := mX0_scriptOf) (t := 8) 4 rfl (hB 0 (by decide)) rfl rfl dX0_stops_25 q1548 q1550 qs23 okX0_scriptOf npX0_scriptOf rfl rfl) (kX0_scriptOf hz W (v := v) (by assumption)) (fun o25 sh25 nn25 V25 e25 h25 => ?_)
      obtain ⟨⟨S, rfl, ⟨vS, vV⟩, -⟩, rfl, rfl, rfl⟩ := h25
      show TGo _ _ _ _ _ _ _ _ _ _
      refine TGo.al0 dX0_stops_28 rfl ?_
      refine TGo.getS (t := 8) 2 2 (B + 2) (hB 0 (by decide)) rfl fgX0_16_0 dX0_stops_29 rfl rfl rfl ?_
      refine TGo.getS (t := 9) 2 2 (B + 23) (hB 2 (by decide)) rfl fgX0_324_1 dX0_stops_32 rfl rfl rfl ?_
      refine TGo.il2 dX0_stops_35 rfl ?_
      refine TGo.cF (csV2 (y2 := mX2_wordAt) (t := 10) 4 rfl vS.1 rfl rfl dX0_stops_36 q1556 q1557 q1558 okX2_wordAt npX2_wordAt rfl rfl) (kX2_wordAt vS (hB 23 (by decide)) (fun i i0 i1 => hc.1.2.2.2.1 i i0 i1) (hPl (by assumption)) (by omega) (m := j) (by omega) vV) ?_
      have hwr := wdR (hPl (by assumption)) (k := j) (by omega)
      refine TGo.icm1 dX0_stops_39 ?_
      refine TGo.icmp_ne 45 dX0_stops_40 (by decide) (by omega) (fun h40 => ?_) (fun h40 => ?_)
      · refine TGo.iinc dX0_stops_45 rfl rfl rfl ?_
        refine TGo.goto 12 dX0_stops_48 (by decide) ?_
        exact TGo.seq [some (.ref B), some (.int (iI v)), some (.int (iI ((((j + 1)) : Nat) : Int)))] [] _ (rfl) rfl rfl (ih (j + 1) (by omega) (by omega) (by rw [stopZ, if_pos hx, if_neg (by assumption)]))
      · refine TGo.il2 dX0_stops_43 rfl ?_
        refine TGo.iret dX0_stops_44 rfl ?_
        refine leafF ?_
        have e : stopZ (fun r => z.2 3 (298 + 36 * v + r)) (fun i => z.2 3 (730 + i)) (j + 1) = (j : Int) := by rw [stopZ, if_pos hx, if_pos (by assumption)]
        rw [stopZ_stay (by rw [e]; omega) (z.2 3 5).toNat (by omega), e]
set_option maxHeartbeats 4000000 in
theorem kX0_stops {E : ET} {sh : SHT} {nn : Nat × Nat} {V : VT} {B : Nat} {ow : Nat → Nat} {z : ZT} {v : Int} (hR : XR ow sh nn V B z) (W : RWZ (z.2 3)) (rv : R32 v) : TC E mX0_stops 5 [.ref B, .int (iI v)] sh nn V (XP B nn (zp_stops z v)) := by
  obtain ⟨hB, -, hc, -⟩ := id hR
  have w2 := W.1.2.2.1
  have w5 := W.1.2.2.2.2.2.1
  obtain ⟨ap, av, al, cp, cv, cl, gp, gv, gl, hne, ⟨hp1, hp2⟩, ⟨hv1, hv2⟩, hl1, hl2⟩ := id hR.2.2.2.1
  have hPl (hq : 0 ≤ v ∧ v < z.2 3 2) : PlZ (fun r => z.2 3 (298 + 36 * v + r)) (fun i => z.2 3 (730 + i)) (z.2 3 5).toNat := ⟨fun r r0 r1 => W.2.2.2.2.2.1 v r hq.1 hq.2 r0 r1, fun k k0 k1 => W.2.2.2.2.2.2.1 k k0 (by omega)⟩
  refine TC.intro [some (.ref B), some (.int (iI v)), none] rfl ?_
  refine TGo.al0 dX0_stops_0 rfl ?_
  refine TGo.il1 dX0_stops_1 rfl ?_
  refine TGo.cF (csV1 (y2 := mX0_isVersion) (t := 8) 2 rfl (hB 0 (by decide)) rfl rfl dX0_stops_2 q1496 q1498 qs19 okX0_isVersion npX0_isVersion rfl rfl) (kX0_isVersion hR W (by omega)) ?_
  refine TGo.ifb_ne 10 dX0_stops_5 (by decide) (fun h5 => ?_) (fun h5 => ?_)
  · refine TGo.ic0 dX0_stops_10 ?_
    refine TGo.is2 dX0_stops_11 rfl rfl ?_
    refine (lX0_stops hR W (by assumption) ((z.2 3 5).toNat + 1) 0 (by omega) (by omega) rfl).mono ?_
    rintro o sh' nn' V' ⟨rfl, rfl, rfl, rfl⟩
    refine hR.same ?_
    unfold zp_stops
    rw [if_neg (fun q => q (by assumption))]
  · refine TGo.icm1 dX0_stops_8 ?_
    refine TGo.iret dX0_stops_9 rfl ?_
    refine hR.same ?_
    unfold zp_stops
    rw [if_pos (by assumption)]
set_option maxHeartbeats 4000000 in
theorem kX0_says_2 {E : ET} {sh : SHT} {nn : Nat × Nat} {V : VT} {B : Nat} {ow : Nat → Nat} {z : ZT} {v i : Int} (hR : XR ow sh nn V B z) (W : RWZ (z.2 3)) (rv : R32 v) (ri : R32 i) : TC E mX0_says_2 5 [.ref B, .int (iI v), .int (iI i)] sh nn V (XP B nn (zp_says z v i)) := by
  obtain ⟨hB, -, hc, -⟩ := id hR
  have w2 := W.1.2.2.1
  have w5 := W.1.2.2.2.2.2.1
  obtain ⟨ap, av, al, cp, cv, cl, gp, gv, gl, hne, ⟨hp1, hp2⟩, ⟨hv1, hv2⟩, hl1, hl2⟩ := id hR.2.2.2.1
  have hPl (hq : 0 ≤ v ∧ v < z.2 3 2) : PlZ (fun r => z.2 3 (298 + 36 * v + r)) (fun i => z.2 3 (730 + i)) (z.2 3 5).toNat := ⟨fun r r0 r1 => W.2.2.2.2.2.1 v r hq.1 hq.2 r0 r1, fun k k0 k1 => W.2.2.2.2.2.2.1 k k0 (by omega)⟩
  refine TC.intro [some (.ref B), some (.int (iI v)), some (.int (iI i)), none] rfl ?_
  refine TGo.al0 dX0_says_2_0 rfl ?_
  refine TGo.il1 dX0_says_2_1 rfl ?_
  refine TGo.cF (csV1 (y2 := mX0_isVersion) (t := 8) 2 rfl (hB 0 (by decide)) rfl rfl dX0_says_2_2 q1496 q1498 qs19 okX0_isVersion npX0_isVersion rfl rfl) (kX0_isVersion hR W (by omega)) ?_
  refine TGo.ifb_eq 25 dX0_says_2_5 (by decide) (fun h5 => ?_) (fun h5 => ?_)
  · refine TGo.icm1 dX0_says_2_25 ?_
    refine TGo.iret dX0_says_2_26 rfl ?_
    refine hR.same ?_
    unfold zp_says
    first
    | (rw [if_neg (fun q => q ⟨by assumption, by omega⟩)]
       have q := stopZ_wd (hPl (by assumption)) (k := i.toNat) (by omega)
       first
       | (rw [if_neg (fun h => (q.mp h) (by assumption))])
       | (rw [if_pos (q.mpr (by assumption))]))
    | (rw [if_pos (fun q => by first | exact absurd q.1 (by assumption) | (have q2 := q.2; omega))])
  · refine TGo.il2 dX0_says_2_8 rfl ?_
    refine TGo.ic0 dX0_says_2_9 ?_
    refine TGo.al0 dX0_says_2_10 rfl ?_
    refine TGo.getS (t := 8) 2 2 (B + 2) (hB 0 (by decide)) rfl fgX0_16_0 dX0_says_2_11 rfl rfl rfl ?_
    refine TGo.getI (t := 9) 9 9 (hB 2 (by decide)) rfl fgX0_321_1 dX0_says_2_14 rfl rfl rfl ?_
    refine TGo.toz _ (hc.1.2.1.2.1) ?_
    refine TGo.ic1 dX0_says_2_17 ?_
    refine TGo.isub dX0_says_2_18 ?_
    refine TGo.cF (csS3 (y2 := mX0_in) 1 rfl dX0_says_2_19 q598 q599 okX0_in npX0_in rfl rfl) (kX0_in (by omega) (by omega) (by omega)) ?_
    refine TGo.ifb_ne 27 dX0_says_2_22 (by decide) (fun h22 => ?_) (fun h22 => ?_)
    · refine TGo.al0 dX0_says_2_27 rfl ?_
      refine TGo.il1 dX0_says_2_28 rfl ?_
      refine TGo.callG (csV1 (y2 := mX0_scriptOf) (t := 8) 4 rfl (hB 0 (by decide)) rfl rfl dX0_says_2_29 q1548 q1550 qs23 okX0_scriptOf npX0_scriptOf rfl rfl) (kX0_scriptOf hR W (v := v) (by assumption)) (fun o29 sh29 nn29 V29 e29 h29 => ?_)
      obtain ⟨⟨S, rfl, ⟨vS, vV⟩, -⟩, rfl, rfl, rfl⟩ := h29
      show TGo _ _ _ _ _ _ _ _ _ _
      refine TGo.al0 dX0_says_2_32 rfl ?_
      refine TGo.getS (t := 8) 2 2 (B + 2) (hB 0 (by decide)) rfl fgX0_16_0 dX0_says_2_33 rfl rfl rfl ?_
      refine TGo.getS (t := 9) 2 2 (B + 23) (hB 2 (by decide)) rfl fgX0_324_1 dX0_says_2_36 rfl rfl rfl ?_
      refine TGo.il2 dX0_says_2_39 rfl ?_
      refine TGo.toz ((i.toNat : Nat) : Int) (Int.toNat_of_nonneg (by omega)).symm ?_
      refine TGo.cF (csV2 (y2 := mX2_wordAt) (t := 10) 4 rfl vS.1 rfl rfl dX0_says_2_40 q1556 q1557 q1558 okX2_wordAt npX2_wordAt rfl rfl) (kX2_wordAt vS (hB 23 (by decide)) (fun i i0 i1 => hc.1.2.2.2.1 i i0 i1) (hPl (by assumption)) (by omega) (m := i.toNat) (by omega) vV) ?_
      have hwr := wdR (hPl (by assumption)) (k := i.toNat) (by omega)
      refine TGo.is3 dX0_says_2_43 rfl rfl ?_
      refine TGo.il3 dX0_says_2_44 rfl ?_
      refine TGo.icm1 dX0_says_2_45 ?_
      refine TGo.icmp_ne 54 dX0_says_2_46 (by decide) (by omega) (fun h46 => ?_) (fun h46 => ?_)
      · refine TGo.il3 dX0_says_2_54 rfl ?_
        refine TGo.iret dX0_says_2_55 rfl ?_
        refine hR.same ?_
        unfold zp_says
        first
        | (rw [if_neg (fun q => q ⟨by assumption, by omega⟩)]
           have q := stopZ_wd (hPl (by assumption)) (k := i.toNat) (by omega)
           first
           | (rw [if_neg (fun h => (q.mp h) (by assumption))])
           | (rw [if_pos (q.mpr (by assumption))]))
        | (rw [if_pos (fun q => by first | exact absurd q.1 (by assumption) | (have q2 := q.2; omega))])
      · refine TGo.bip 100 dX0_says_2_49 (by decide) ?_
        refine TGo.goto 55 dX0_says_2_51 (by decide) ?_
        refine TGo.iret dX0_says_2_55 rfl ?_
        refine hR.same ?_
        unfold zp_says
        first
        | (rw [if_neg (fun q => q ⟨by assumption, by omega⟩)]
           have q := stopZ_wd (hPl (by assumption)) (k := i.toNat) (by omega)
           first
           | (rw [if_neg (fun h => (q.mp h) (by assumption))])
           | (rw [if_pos (q.mpr (by assumption))]))
        | (rw [if_pos (fun q => by first | exact absurd q.1 (by assumption) | (have q2 := q.2; omega))])
    · refine TGo.icm1 dX0_says_2_25 ?_
      refine TGo.iret dX0_says_2_26 rfl ?_
      refine hR.same ?_
      unfold zp_says
      first
      | (rw [if_neg (fun q => q ⟨by assumption, by omega⟩)]
         have q := stopZ_wd (hPl (by assumption)) (k := i.toNat) (by omega)
         first
         | (rw [if_neg (fun h => (q.mp h) (by assumption))])
         | (rw [if_pos (q.mpr (by assumption))]))
      | (rw [if_pos (fun q => by first | exact absurd q.1 (by assumption) | (have q2 := q.2; omega))])
set_option maxHeartbeats 4000000 in
theorem kX0_version {E : ET} {sh : SHT} {nn : Nat × Nat} {V : VT} {B : Nat} {ow : Nat → Nat} {z : ZT} {v w : Int} (hR : XR ow sh nn V B z) (W : RWZ (z.2 3)) (rv : R32 v) (rw : R32 w) : TC E mX0_version 4 [.ref B, .int (iI v), .int (iI w)] sh nn V (XP B nn (zp_version z v w)) := by
  obtain ⟨hB, -, hc, -⟩ := id hR
  have w0 := W.1.1
  have w2 := W.1.2.2.1
  obtain ⟨ap, av, al, cp, cv, cl, gp, gv, gl, hne, ⟨hp1, hp2⟩, ⟨hv1, hv2⟩, hl1, hl2⟩ := id hR.2.2.2.1
  have hVe (hq : 0 ≤ v ∧ v < z.2 3 2) : VeR ow sh V (gv v.toNat) (z.2 3) v := by have q := hv2 v.toNat (by omega); rw [Int.toNat_of_nonneg hq.1] at q; exact q
  refine TC.intro [some (.ref B), some (.int (iI v)), some (.int (iI w)), none] rfl ?_
  refine TGo.al0 dX0_version_0 rfl ?_
  refine TGo.il1 dX0_version_1 rfl ?_
  refine TGo.cF (csV1 (y2 := mX0_isVersion) (t := 8) 2 rfl (hB 0 (by decide)) rfl rfl dX0_version_2 q1496 q1498 qs19 okX0_isVersion npX0_isVersion rfl rfl) (kX0_isVersion hR W (by omega)) ?_
  refine TGo.ifb_ne 10 dX0_version_5 (by decide) (fun h5 => ?_) (fun h5 => ?_)
  · obtain ⟨v0, v1, v2, S, v3, v4, v5, v6⟩ := hVe (by assumption)
    have hpa := W.2.2.2.2.1 v (by omega) (by omega)
    have hSv : ScS sh (B + (4 + 3 * (z.2 3 (262 + 3 * v)).toNat)) := hB.sc (by omega)
    have hSw : ScV V (B + (4 + 3 * (z.2 3 (262 + 3 * v)).toNat)) (fun r => z.2 3 (22 + 36 * (z.2 3 (262 + 3 * v)) + r)) := by
      have q := hc.scr (p := (z.2 3 (262 + 3 * v)).toNat) (by omega) (by omega)
      rw [Int.toNat_of_nonneg (by omega)] at q
      exact q
    refine TGo.al0 dX0_version_10 rfl ?_
    refine TGo.getS (t := 8) 2 2 (B + 2) (hB 0 (by decide)) rfl fgX0_16_0 dX0_version_11 rfl rfl rfl ?_
    refine TGo.getS (t := 9) 6 6 (B + 28) (hB 2 (by decide)) rfl fgX0_136_1 dX0_version_14 rfl rfl rfl ?_
    refine TGo.il1 dX0_version_17 rfl ?_
    refine TGo.toz ((v.toNat : Nat) : Int) (Int.toNat_of_nonneg (by omega)).symm ?_
    refine TGo.cF (csV1 (y2 := mJ2_get) (t := 20) 3 rfl (hB 28 (by decide)) rfl rfl dX0_version_18 q760 q761 q762 okJ2_get npJ2_get rfl rfl) (kJ2_get hv1.1 (k := v.toNat) (by omega)) ?_
    refine TGo.castO (t := 35) dX0_version_21 q774 (hVe (by assumption)).2.1 rfl rfl (Or.inl rfl) ?_
    refine TGo.as3 dX0_version_24 rfl rfl ?_
    refine TGo.il2 dX0_version_25 rfl ?_
    by_cases h26 : w < 0 ∨ 4 < w
    · refine TGo.tabOut 103 dX0_version_26 (by omega) h26 (by decide) ?_
      refine TGo.icm1 dX0_version_103 ?_
      refine TGo.iret dX0_version_104 rfl ?_
      first
      | (exfalso; omega)
      | (refine hR.same ?_
         unfold zp_version
         first
         | (rw [if_pos (fun q => by first | exact absurd q.1 (by assumption) | omega)])
         | (rw [if_neg (by omega), if_pos (by omega), show w = 0 by assumption, Int.add_zero])
         | (rw [if_neg (by omega), if_pos (by omega), show w = 1 by assumption])
         | (rw [if_neg (by omega), if_pos (by omega), show w = 2 by assumption])
         | (rw [if_neg (by omega), if_neg (by omega), if_pos (by assumption)])
         | (rw [if_neg (by omega), if_neg (by omega), if_neg (by omega)])
         | (rw [if_pos (by omega)]))
    · rcases (show w = 0 ∨ w = 1 ∨ w = 2 ∨ w = 3 ∨ w = 4 by omega) with h26 | h26 | h26 | h26 | h26
      · refine TGo.tabIn (off := 34) 60 dX0_version_26 (by omega) (by omega) (by rw [h26]; decide) (by decide) ?_
        refine TGo.al3 dX0_version_60 rfl ?_
        refine TGo.getI (t := 35) 0 0 (hVe (by assumption)).2.1 rfl fgX0_204_27 dX0_version_61 rfl rfl rfl ?_
        refine TGo.toz _ ((hVe (by assumption)).2.2.1.1) ?_
        refine TGo.iret dX0_version_64 rfl ?_
        first
        | (exfalso; omega)
        | (refine hR.same ?_
           unfold zp_version
           first
           | (rw [if_pos (fun q => by first | exact absurd q.1 (by assumption) | omega)])
           | (rw [if_neg (by omega), if_pos (by omega), show w = 0 by assumption, Int.add_zero])
           | (rw [if_neg (by omega), if_pos (by omega), show w = 1 by assumption])
           | (rw [if_neg (by omega), if_pos (by omega), show w = 2 by assumption])
           | (rw [if_neg (by omega), if_neg (by omega), if_pos (by assumption)])
           | (rw [if_neg (by omega), if_neg (by omega), if_neg (by omega)])
           | (rw [if_pos (by omega)]))
      · refine TGo.tabIn (off := 39) 65 dX0_version_26 (by omega) (by omega) (by rw [h26]; decide) (by decide) ?_
        refine TGo.al3 dX0_version_65 rfl ?_
        refine TGo.getI (t := 35) 1 1 (hVe (by assumption)).2.1 rfl fgX0_340_27 dX0_version_66 rfl rfl rfl ?_
        refine TGo.toz _ ((hVe (by assumption)).2.2.1.2.1) ?_
        refine TGo.iret dX0_version_69 rfl ?_
        first
        | (exfalso; omega)
        | (refine hR.same ?_
           unfold zp_version
           first
           | (rw [if_pos (fun q => by first | exact absurd q.1 (by assumption) | omega)])
           | (rw [if_neg (by omega), if_pos (by omega), show w = 0 by assumption, Int.add_zero])
           | (rw [if_neg (by omega), if_pos (by omega), show w = 1 by assumption])
           | (rw [if_neg (by omega), if_pos (by omega), show w = 2 by assumption])
           | (rw [if_neg (by omega), if_neg (by omega), if_pos (by assumption)])
           | (rw [if_neg (by omega), if_neg (by omega), if_neg (by omega)])
           | (rw [if_pos (by omega)]))
      · refine TGo.tabIn (off := 44) 70 dX0_version_26 (by omega) (by omega) (by rw [h26]; decide) (by decide) ?_
        refine TGo.al3 dX0_version_70 rfl ?_
        refine TGo.getI (t := 35) 2 2 (hVe (by assumption)).2.1 rfl fgX0_371_27 dX0_version_71 rfl rfl rfl ?_
        refine TGo.toz _ ((hVe (by assumption)).2.2.1.2.2) ?_
        refine TGo.iret dX0_version_74 rfl ?_
        first
        | (exfalso; omega)
        | (refine hR.same ?_
           unfold zp_version
           first
           | (rw [if_pos (fun q => by first | exact absurd q.1 (by assumption) | omega)])
           | (rw [if_neg (by omega), if_pos (by omega), show w = 0 by assumption, Int.add_zero])
           | (rw [if_neg (by omega), if_pos (by omega), show w = 1 by assumption])
           | (rw [if_neg (by omega), if_pos (by omega), show w = 2 by assumption])
           | (rw [if_neg (by omega), if_neg (by omega), if_pos (by assumption)])
           | (rw [if_neg (by omega), if_neg (by omega), if_neg (by omega)])
           | (rw [if_pos (by omega)]))
      · refine TGo.tabIn (off := 49) 75 dX0_version_26 (by omega) (by omega) (by rw [h26]; decide) (by decide) ?_
        refine TGo.al3 dX0_version_75 rfl ?_
        refine TGo.getQ (t := 35) 3 3 S (hVe (by assumption)).2.1 rfl fgX0_145_27 dX0_version_76 rfl ⟨rfl, v3⟩ rfl ?_
        refine TGo.cF (csV0 (y2 := mX2_known) (t := 10) 2 rfl v5.1 rfl rfl dX0_version_79 q752 q753 q754 okX2_known npX2_known rfl rfl) (kX2_known v5 v6 (fun r r0 r1 => W.2.2.2.2.2.1 v r (by omega) (by omega) r0 r1)) ?_
        refine TGo.iret dX0_version_82 rfl ?_
        first
        | (exfalso; omega)
        | (refine hR.same ?_
           unfold zp_version
           first
           | (rw [if_pos (fun q => by first | exact absurd q.1 (by assumption) | omega)])
           | (rw [if_neg (by omega), if_pos (by omega), show w = 0 by assumption, Int.add_zero])
           | (rw [if_neg (by omega), if_pos (by omega), show w = 1 by assumption])
           | (rw [if_neg (by omega), if_pos (by omega), show w = 2 by assumption])
           | (rw [if_neg (by omega), if_neg (by omega), if_pos (by assumption)])
           | (rw [if_neg (by omega), if_neg (by omega), if_neg (by omega)])
           | (rw [if_pos (by omega)]))
      · refine TGo.tabIn (off := 57) 83 dX0_version_26 (by omega) (by omega) (by rw [h26]; decide) (by decide) ?_
        refine TGo.al3 dX0_version_83 rfl ?_
        refine TGo.getQ (t := 35) 3 3 S (hVe (by assumption)).2.1 rfl fgX0_145_27 dX0_version_84 rfl ⟨rfl, v3⟩ rfl ?_
        refine TGo.al0 dX0_version_87 rfl ?_
        refine TGo.getS (t := 8) 2 2 (B + 2) (hB 0 (by decide)) rfl fgX0_16_0 dX0_version_88 rfl rfl rfl ?_
        refine TGo.getS (t := 9) 0 0 (B + 3) (hB 2 (by decide)) rfl fgX0_170_1 dX0_version_91 rfl rfl rfl ?_
        refine TGo.al3 dX0_version_94 rfl ?_
        refine TGo.getI (t := 35) 0 0 (hVe (by assumption)).2.1 rfl fgX0_204_27 dX0_version_95 rfl rfl rfl ?_
        refine TGo.toz _ ((hVe (by assumption)).2.2.1.1) ?_
        refine TGo.aaldSq (B + (4 + 3 * (z.2 3 (262 + 3 * v)).toNat)) dX0_version_98 (hB 3 (by decide)) (by omega) rfl (hc.srf (by omega)) ?_
        refine TGo.cF (csV1 (y2 := mX2_unlike) (t := 10) 3 rfl v5.1 rfl rfl dX0_version_99 q1539 q1540 q1541 okX2_unlike npX2_unlike rfl rfl) (kX2_unlike v5 v6 (fun r r0 r1 => W.2.2.2.2.2.1 v r (by omega) (by omega) r0 r1) hSv hSw (fun r r0 r1 => W.2.2.1 (z.2 3 (262 + 3 * v)) r (by omega) (by omega) r0 r1)) ?_
        refine TGo.iret dX0_version_102 rfl ?_
        first
        | (exfalso; omega)
        | (refine hR.same ?_
           unfold zp_version
           first
           | (rw [if_pos (fun q => by first | exact absurd q.1 (by assumption) | omega)])
           | (rw [if_neg (by omega), if_pos (by omega), show w = 0 by assumption, Int.add_zero])
           | (rw [if_neg (by omega), if_pos (by omega), show w = 1 by assumption])
           | (rw [if_neg (by omega), if_pos (by omega), show w = 2 by assumption])
           | (rw [if_neg (by omega), if_neg (by omega), if_pos (by assumption)])
           | (rw [if_neg (by omega), if_neg (by omega), if_neg (by omega)])
           | (rw [if_pos (by omega)]))
  · refine TGo.icm1 dX0_version_8 ?_
    refine TGo.iret dX0_version_9 rfl ?_
    first
    | (exfalso; omega)
    | (refine hR.same ?_
       unfold zp_version
       first
       | (rw [if_pos (fun q => by first | exact absurd q.1 (by assumption) | omega)])
       | (rw [if_neg (by omega), if_pos (by omega), show w = 0 by assumption, Int.add_zero])
       | (rw [if_neg (by omega), if_pos (by omega), show w = 1 by assumption])
       | (rw [if_neg (by omega), if_pos (by omega), show w = 2 by assumption])
       | (rw [if_neg (by omega), if_neg (by omega), if_pos (by assumption)])
       | (rw [if_neg (by omega), if_neg (by omega), if_neg (by omega)])
       | (rw [if_pos (by omega)]))
set_option maxHeartbeats 4000000 in
theorem lX0_stage {E : ET} {sh : SHT} {nn : Nat × Nat} {V : VT} {B : Nat} {ow : Nat → Nat} {z : ZT} {p w : Int} (hz : XR ow sh nn V B z) (W : RWZ (z.2 3)) (hp : R32 p) : ∀ (n j : Nat), (z.2 3 2).toNat - j < n → j ≤ (z.2 3 2).toNat → TGo E mX0_stage 4 61 [some (.ref B), some (.int (iI p)), some (.int (iI w)), some (.int (iI (cntZ (z.2 3) p (j)))), some (.int (iI (((j) : Nat) : Int)))] [] sh nn V (fun o sh' nn' V' => o = .inl (some (.int (iI (cntZ (z.2 3) p (z.2 3 2).toNat)))) ∧ sh' = sh ∧ nn' = nn ∧ V' = V) := by
  intro n
  induction n with
  | zero => intro j h; omega
  | succ n ih =>
    intro j hn hj
    obtain ⟨hB, -, hc, -⟩ := id hz
    have w0 := W.1.1
    have w2 := W.1.2.2.1
    obtain ⟨ap, av, al, cp, cv, cl, gp, gv, gl, hne, ⟨hp1, hp2⟩, ⟨hv1, hv2⟩, hl1, hl2⟩ := id hz.2.2.2.1
    have hVj := fun (q : (j : Int) < z.2 3 2) => hv2 j q
    have hpa := fun (q : (j : Int) < z.2 3 2) => (W.2.2.2.2.1 (j : Int) (by omega) q).1
    refine TGo.il dX0_stage_61 rfl ?_
    refine TGo.al0 dX0_stage_63 rfl ?_
    refine TGo.getS (t := 8) 2 2 (B + 2) (hB 0 (by decide)) rfl fgX0_16_0 dX0_stage_64 rfl rfl rfl ?_
    refine TGo.getS (t := 9) 6 6 (B + 28) (hB 2 (by decide)) rfl fgX0_136_1 dX0_stage_67 rfl rfl rfl ?_
    refine TGo.cF (csV0 (y2 := mJ2_size) (t := 20) 1 rfl (hB 28 (by decide)) rfl rfl dX0_stage_70 q756 q757 q758 okJ2_size npJ2_size rfl rfl) (kJ2_size hv1.1) ?_
    refine TGo.toz (z.2 3 2) (Int.toNat_of_nonneg (by omega)) ?_
    refine TGo.icmp_ge 112 dX0_stage_73 (by decide) (by omega) (fun h73 => ?_) (fun h73 => ?_)
    · refine TGo.il3 dX0_stage_112 rfl ?_
      refine TGo.iret dX0_stage_113 rfl ?_
      obtain rfl : j = (z.2 3 2).toNat := by omega
      exact ⟨rfl, rfl, rfl, rfl⟩
    · have hpj := hpa (by omega)
      refine TGo.il3 dX0_stage_76 rfl ?_
      refine TGo.al0 dX0_stage_77 rfl ?_
      refine TGo.getS (t := 8) 2 2 (B + 2) (hB 0 (by decide)) rfl fgX0_16_0 dX0_stage_78 rfl rfl rfl ?_
      refine TGo.getS (t := 9) 6 6 (B + 28) (hB 2 (by decide)) rfl fgX0_136_1 dX0_stage_81 rfl rfl rfl ?_
      refine TGo.il dX0_stage_84 rfl ?_
      refine TGo.cF (csV1 (y2 := mJ2_get) (t := 20) 3 rfl (hB 28 (by decide)) rfl rfl dX0_stage_86 q760 q761 q762 okJ2_get npJ2_get rfl rfl) (kJ2_get hv1.1 (k := j) (by omega)) ?_
      refine TGo.castO (t := 35) dX0_stage_89 q774 (hVj (by omega)).2.1 rfl rfl (Or.inl rfl) ?_
      refine TGo.getI (t := 35) 0 0 (hVj (by omega)).2.1 rfl fgX0_204_27 dX0_stage_92 rfl rfl rfl ?_
      refine TGo.toz _ ((hVj (by omega)).2.2.1.1) ?_
      refine TGo.il1 dX0_stage_95 rfl ?_
      refine TGo.icmp_ne 103 dX0_stage_96 (by decide) (by omega) (fun h96 => ?_) (fun h96 => ?_)
      · refine TGo.ic0 dX0_stage_103 ?_
        refine TGo.iadd dX0_stage_104 ?_
        refine TGo.is3 dX0_stage_105 rfl rfl ?_
        refine TGo.iinc dX0_stage_106 rfl rfl rfl ?_
        refine TGo.goto 61 dX0_stage_109 (by decide) ?_
        exact TGo.seq [some (.ref B), some (.int (iI p)), some (.int (iI w)), some (.int (iI (cntZ (z.2 3) p ((j + 1))))), some (.int (iI ((((j + 1)) : Nat) : Int)))] [] _ (by rw [cntZ]; first | (rw [if_pos (by first | assumption | omega)]; rfl) | (rw [if_neg (by first | assumption | omega)]; rfl)) rfl rfl (ih (j + 1) (by omega) (by omega))
      · refine TGo.ic1 dX0_stage_99 ?_
        refine TGo.goto 104 dX0_stage_100 (by decide) ?_
        refine TGo.iadd dX0_stage_104 ?_
        refine TGo.is3 dX0_stage_105 rfl rfl ?_
        refine TGo.iinc dX0_stage_106 rfl rfl rfl ?_
        refine TGo.goto 61 dX0_stage_109 (by decide) ?_
        exact TGo.seq [some (.ref B), some (.int (iI p)), some (.int (iI w)), some (.int (iI (cntZ (z.2 3) p ((j + 1))))), some (.int (iI ((((j + 1)) : Nat) : Int)))] [] _ (by rw [cntZ]; first | (rw [if_pos (by first | assumption | omega)]; rfl) | (rw [if_neg (by first | assumption | omega)]; rfl)) rfl rfl (ih (j + 1) (by omega) (by omega))
set_option maxHeartbeats 4000000 in
theorem kX0_stage {E : ET} {sh : SHT} {nn : Nat × Nat} {V : VT} {B : Nat} {ow : Nat → Nat} {z : ZT} {p w : Int} (hR : XR ow sh nn V B z) (W : RWZ (z.2 3)) (rp : R32 p) (rw : R32 w) : TC E mX0_stage 4 [.ref B, .int (iI p), .int (iI w)] sh nn V (XP B nn (zp_stage z p w)) := by
  obtain ⟨hB, -, hc, -⟩ := id hR
  have w0 := W.1.1
  have w2 := W.1.2.2.1
  obtain ⟨ap, av, al, cp, cv, cl, gp, gv, gl, hne, ⟨hp1, hp2⟩, ⟨hv1, hv2⟩, hl1, hl2⟩ := id hR.2.2.2.1
  have hSp (hp : 0 ≤ p ∧ p < z.2 3 0) : ScS sh (B + (4 + 3 * p.toNat)) := hB.sc (by omega)
  have hsw (hp : 0 ≤ p ∧ p < z.2 3 0) : ScV V (B + (4 + 3 * p.toNat)) (fun r => z.2 3 (22 + 36 * p + r)) := by have q := hc.scr (p := p.toNat) (by omega) (by omega); rw [Int.toNat_of_nonneg hp.1] at q; exact q
  refine TC.intro [some (.ref B), some (.int (iI p)), some (.int (iI w)), none, none] rfl ?_
  refine TGo.al0 dX0_stage_0 rfl ?_
  refine TGo.il1 dX0_stage_1 rfl ?_
  refine TGo.cF (csV1 (y2 := mX0_isPart) (t := 8) 2 rfl (hB 0 (by decide)) rfl rfl dX0_stage_2 q721 q723 qs4 okX0_isPart npX0_isPart rfl rfl) (kX0_isPart hB hc w0 (by omega)) ?_
  refine TGo.ifb_eq 17 dX0_stage_5 (by decide) (fun h5 => ?_) (fun h5 => ?_)
  · refine TGo.icm1 dX0_stage_17 ?_
    refine TGo.iret dX0_stage_18 rfl ?_
    first
    | (exfalso; omega)
    | (refine hR.same ?_
       unfold zp_stage
       first
       | (rw [if_pos (fun q => by first | exact absurd q.1 (by assumption) | omega)])
       | (rw [if_neg (fun q => q ⟨by assumption, by omega⟩), if_pos (by omega), show 10 + 2 * p + w = 10 + (2 * p + w) by omega])
       | (rw [if_neg (fun q => q ⟨by assumption, by omega⟩), if_neg (by omega), if_pos (by assumption)]))
  · refine TGo.il2 dX0_stage_8 rfl ?_
    refine TGo.ic0 dX0_stage_9 ?_
    refine TGo.ic3 dX0_stage_10 ?_
    refine TGo.cF (csS3 (y2 := mX0_in) 1 rfl dX0_stage_11 q598 q599 okX0_in npX0_in rfl rfl) (kX0_in (by omega) (by omega) (by omega)) ?_
    refine TGo.ifb_ne 19 dX0_stage_14 (by decide) (fun h14 => ?_) (fun h14 => ?_)
    · refine TGo.il2 dX0_stage_19 rfl ?_
      refine TGo.ic2 dX0_stage_20 ?_
      refine TGo.icmp_ge 38 dX0_stage_21 (by decide) (by omega) (fun h21 => ?_) (fun h21 => ?_)
      · refine TGo.il2 dX0_stage_38 rfl ?_
        refine TGo.ic2 dX0_stage_39 ?_
        refine TGo.icmp_ne 56 dX0_stage_40 (by decide) (by omega) (fun h40 => ?_) (fun h40 => ?_)
        · refine TGo.ic0 dX0_stage_56 ?_
          refine TGo.is3 dX0_stage_57 rfl rfl ?_
          refine TGo.ic0 dX0_stage_58 ?_
          refine TGo.is dX0_stage_59 rfl rfl ?_
          refine (lX0_stage hR W (by omega) ((z.2 3 2).toNat + 1) 0 (by omega) (by omega)).mono ?_
          rintro o sh' nn' V' ⟨rfl, rfl, rfl, rfl⟩
          refine hR.same ?_
          unfold zp_stage
          rw [if_neg (fun q => q ⟨by assumption, by omega⟩), if_neg (by omega), if_neg (by omega)]
        · refine TGo.al0 dX0_stage_43 rfl ?_
          refine TGo.getS (t := 8) 2 2 (B + 2) (hB 0 (by decide)) rfl fgX0_16_0 dX0_stage_44 rfl rfl rfl ?_
          refine TGo.getS (t := 9) 0 0 (B + 3) (hB 2 (by decide)) rfl fgX0_170_1 dX0_stage_47 rfl rfl rfl ?_
          refine TGo.il1 dX0_stage_50 rfl ?_
          refine TGo.aaldSq (B + (4 + 3 * p.toNat)) dX0_stage_51 (hB 3 (by decide)) (by omega) rfl (hc.srf (by omega)) ?_
          refine TGo.cF (csV0 (y2 := mX2_known) (t := 10) 2 rfl (hSp (by assumption)).1 rfl rfl dX0_stage_52 q752 q753 q754 okX2_known npX2_known rfl rfl) (kX2_known (hSp (by assumption)) (hsw (by assumption)) (fun r r0 r1 => W.2.2.1 p r (by omega) (by omega) r0 r1)) ?_
          refine TGo.iret dX0_stage_55 rfl ?_
          first
          | (exfalso; omega)
          | (refine hR.same ?_
             unfold zp_stage
             first
             | (rw [if_pos (fun q => by first | exact absurd q.1 (by assumption) | omega)])
             | (rw [if_neg (fun q => q ⟨by assumption, by omega⟩), if_pos (by omega), show 10 + 2 * p + w = 10 + (2 * p + w) by omega])
             | (rw [if_neg (fun q => q ⟨by assumption, by omega⟩), if_neg (by omega), if_pos (by assumption)]))
      · refine TGo.al0 dX0_stage_24 rfl ?_
        refine TGo.getS (t := 8) 2 2 (B + 2) (hB 0 (by decide)) rfl fgX0_16_0 dX0_stage_25 rfl rfl rfl ?_
        refine TGo.getS (t := 9) 1 1 (B + 22) (hB 2 (by decide)) rfl fgX0_167_1 dX0_stage_28 rfl rfl rfl ?_
        refine TGo.ic2 dX0_stage_31 ?_
        refine TGo.il1 dX0_stage_32 rfl ?_
        refine TGo.imul dX0_stage_33 ?_
        refine TGo.il2 dX0_stage_34 rfl ?_
        refine TGo.iadd dX0_stage_35 ?_
        refine TGo.iald dX0_stage_36 (hB 22 (by decide)) (by omega) rfl ?_
        refine TGo.toz _ (hc.1.2.2.1 _ (by omega) (by omega)) ?_
        refine TGo.iret dX0_stage_37 rfl ?_
        first
        | (exfalso; omega)
        | (refine hR.same ?_
           unfold zp_stage
           first
           | (rw [if_pos (fun q => by first | exact absurd q.1 (by assumption) | omega)])
           | (rw [if_neg (fun q => q ⟨by assumption, by omega⟩), if_pos (by omega), show 10 + 2 * p + w = 10 + (2 * p + w) by omega])
           | (rw [if_neg (fun q => q ⟨by assumption, by omega⟩), if_neg (by omega), if_pos (by assumption)]))
    · refine TGo.icm1 dX0_stage_17 ?_
      refine TGo.iret dX0_stage_18 rfl ?_
      first
      | (exfalso; omega)
      | (refine hR.same ?_
         unfold zp_stage
         first
         | (rw [if_pos (fun q => by first | exact absurd q.1 (by assumption) | omega)])
         | (rw [if_neg (fun q => q ⟨by assumption, by omega⟩), if_pos (by omega), show 10 + 2 * p + w = 10 + (2 * p + w) by omega])
         | (rw [if_neg (fun q => q ⟨by assumption, by omega⟩), if_neg (by omega), if_pos (by assumption)]))
set_option maxHeartbeats 4000000 in
theorem kX0_force {E : ET} {sh : SHT} {nn : Nat × Nat} {V : VT} {B : Nat} {ow : Nat → Nat} {z : ZT} {l : Int} (hR : XR ow sh nn V B z) (W : RWZ (z.2 3))  (rl : R32 l) : TC E mX0_force 2 [.ref B, .int (iI l)] sh nn V (XP B nn (zp_force z l)) := by
  obtain ⟨hB, -, hc, -⟩ := id hR
  have w3 := W.1.2.2.2.1
  have w4 := W.1.2.2.2.2.1
  obtain ⟨ap, av, al, cp, cv, cl, gp, gv, gl, hne, ⟨hp1, hp2⟩, ⟨hv1, hv2⟩, hl1, hl2⟩ := id hR.2.2.2.1
  refine TC.intro [some (.ref B), some (.int (iI l)), none] rfl ?_
  refine TGo.il1 dX0_force_0 rfl ?_
  refine TGo.icm1 dX0_force_1 ?_
  refine TGo.icmp_eq 32 dX0_force_2 (by decide) (by omega) (fun h2 => ?_) (fun h2 => ?_)
  · refine TGo.al0 dX0_force_32 rfl ?_
    refine TGo.getS (t := 8) 2 2 (B + 2) (hB 0 (by decide)) rfl fgX0_16_0 dX0_force_33 rfl rfl rfl ?_
    refine TGo.getI (t := 9) 11 11 (hB 2 (by decide)) rfl fgX0_295_1 dX0_force_36 rfl rfl rfl ?_
    refine TGo.toz _ (hc.1.2.1.2.2.2) ?_
    refine TGo.is2 dX0_force_39 rfl rfl ?_
    refine TGo.al0 dX0_force_40 rfl ?_
    refine TGo.getS (t := 8) 2 2 (B + 2) (hB 0 (by decide)) rfl fgX0_16_0 dX0_force_41 rfl rfl rfl ?_
    refine TGo.il1 dX0_force_44 rfl ?_
    refine TGo.putI (t := 9) 11 11 (hB 2 (by decide)) rfl fpX0_295_1 dX0_force_45 rfl rfl rfl ?_
    refine TGo.al0 dX0_force_48 rfl ?_
    refine TGo.il2 dX0_force_49 rfl ?_
    refine TGo.cS (csV1 (y2 := mX0_done) (t := 8) 1 rfl (hB 0 (by decide)) rfl rfl dX0_force_50 q695 q697 qs3 okX0_done npX0_done rfl rfl) (kX0_done hB (hc.fo)) (fun v50 V50 h50 => ?_)
    obtain ⟨rfl, hc50, hf50⟩ := h50
    refine TGo.iret dX0_force_53 rfl ?_
    first
    | (exfalso; omega)
    | (refine hR.leaf W ((FrX.rf.i 2 rfl).tr hf50) hc50 (zi_2.trans ((za_2 rfl).trans rfl)) (zi_2.trans ((za_2 rfl).trans rfl)) ((StA.rf.a3 (by omega)).i) ?_
       unfold zp_force
       (repeat (first | rw [if_pos (by first | rfl | assumption | omega)] | rw [if_neg (by first | decide | assumption | omega)]))
       (try first | rfl))
  · refine TGo.il1 dX0_force_5 rfl ?_
    refine TGo.ic0 dX0_force_6 ?_
    refine TGo.al0 dX0_force_7 rfl ?_
    refine TGo.getS (t := 8) 2 2 (B + 2) (hB 0 (by decide)) rfl fgX0_16_0 dX0_force_8 rfl rfl rfl ?_
    refine TGo.getS (t := 9) 7 7 (B + 30) (hB 2 (by decide)) rfl fgX0_281_1 dX0_force_11 rfl rfl rfl ?_
    refine TGo.cF (csV0 (y2 := mJ2_size) (t := 20) 1 rfl (hB 30 (by decide)) rfl rfl dX0_force_14 q756 q757 q758 okJ2_size npJ2_size rfl rfl) (kJ2_size hl1.1) ?_
    refine TGo.toz (z.2 3 3) (Int.toNat_of_nonneg (by omega)) ?_
    refine TGo.ic1 dX0_force_17 ?_
    refine TGo.isub dX0_force_18 ?_
    refine TGo.cF (csS3 (y2 := mX0_in) 1 rfl dX0_force_19 q598 q599 okX0_in npX0_in rfl rfl) (kX0_in (by omega) (by omega) (by omega)) ?_
    refine TGo.ifb_ne 32 dX0_force_22 (by decide) (fun h22 => ?_) (fun h22 => ?_)
    · refine TGo.al0 dX0_force_32 rfl ?_
      refine TGo.getS (t := 8) 2 2 (B + 2) (hB 0 (by decide)) rfl fgX0_16_0 dX0_force_33 rfl rfl rfl ?_
      refine TGo.getI (t := 9) 11 11 (hB 2 (by decide)) rfl fgX0_295_1 dX0_force_36 rfl rfl rfl ?_
      refine TGo.toz _ (hc.1.2.1.2.2.2) ?_
      refine TGo.is2 dX0_force_39 rfl rfl ?_
      refine TGo.al0 dX0_force_40 rfl ?_
      refine TGo.getS (t := 8) 2 2 (B + 2) (hB 0 (by decide)) rfl fgX0_16_0 dX0_force_41 rfl rfl rfl ?_
      refine TGo.il1 dX0_force_44 rfl ?_
      refine TGo.putI (t := 9) 11 11 (hB 2 (by decide)) rfl fpX0_295_1 dX0_force_45 rfl rfl rfl ?_
      refine TGo.al0 dX0_force_48 rfl ?_
      refine TGo.il2 dX0_force_49 rfl ?_
      refine TGo.cS (csV1 (y2 := mX0_done) (t := 8) 1 rfl (hB 0 (by decide)) rfl rfl dX0_force_50 q695 q697 qs3 okX0_done npX0_done rfl rfl) (kX0_done hB (hc.fo)) (fun v50 V50 h50 => ?_)
      obtain ⟨rfl, hc50, hf50⟩ := h50
      refine TGo.iret dX0_force_53 rfl ?_
      first
      | (exfalso; omega)
      | (refine hR.leaf W ((FrX.rf.i 2 rfl).tr hf50) hc50 (zi_2.trans ((za_2 rfl).trans rfl)) (zi_2.trans ((za_2 rfl).trans rfl)) ((StA.rf.a3 (by omega)).i) ?_
         unfold zp_force
         (repeat (first | rw [if_pos (by first | rfl | assumption | omega)] | rw [if_neg (by first | decide | assumption | omega)]))
         (try first | rfl))
    · refine TGo.al0 dX0_force_25 rfl ?_
      refine TGo.bip (-2) dX0_force_26 (by decide) ?_
      refine TGo.cS (csV1 (y2 := mX0_refuse) (t := 8) 1 rfl (hB 0 (by decide)) rfl rfl dX0_force_28 q601 q603 qs1 okX0_refuse npX0_refuse rfl rfl) (kX0_refuse hB hc (by omega)) (fun v28 V28 h28 => ?_)
      obtain ⟨rfl, hc28, hf28⟩ := h28
      refine TGo.iret dX0_force_31 rfl ?_
      first
      | (exfalso; omega)
      | (refine hR.leaf W (FrX.rf.tr hf28) hc28 ((zTell_2 rfl).trans rfl) ((zTell_2 rfl).trans rfl) (StA.rf.tell) ?_
         unfold zp_force
         (repeat (first | rw [if_pos (by first | rfl | assumption | omega)] | rw [if_neg (by first | decide | assumption | omega)]))
         (try first | rfl))
theorem sbZ_r (v : Int) (k : Nat) : -128 ≤ sbZ (byZ v k) ∧ sbZ (byZ v k) ≤ 127 := by
  unfold sbZ byZ
  split <;> omega
theorem sb_eq {v : Int} (h : -2147483648 ≤ v ∧ v ≤ 2147483647) (k : Nat) (hk : k < 32) : (iI v >>> (iI (k : Int) &&& 31)).toInt8.toInt32 = iI (sbZ (byZ v k)) := by
  have r := sbZ_r v k
  rw [iI_shr _ k hk, iI_to h, ← Int32.toInt_inj, Int8.toInt_toInt32, Int32.toInt_toInt8]
  have e : (iI (v / ((2 ^ k : Nat) : Int))).toInt = (v / ((2 ^ k : Nat) : Int)).bmod (2 ^ 32) := Int32.toInt_ofInt
  rw [e, Int.bmod_bmod_of_dvd (by decide), iI_to (z := sbZ (byZ v k)) (by omega)]
  unfold sbZ byZ Int.bmod
  rfl
theorem XC.eqz {V : VT} {B : Nat} {z z' : ZT} (h : XC V B z) (e : z = z') : XC V B z' := e ▸ h
theorem zFour_2 {z : ZT} {v : Int} {j : Nat} (h : (j == 7) = false) : (zFour z v).2 j = z.2 j := (za_2 h).trans ((za_2 h).trans ((za_2 h).trans (za_2 h)))
theorem XC.ta {V : VT} {B : Nat} {z : ZT} {k b : Int} (h : XC V B z) (_ : 0 ≤ k ∧ k < 400) : XC (vI V (B + 33) k (sbZ b)) B (za z 7 k b) := by
  obtain ⟨⟨n1, n2, n3, n4, n5, n6, n7⟩, s1, s2, s3, s4⟩ := h
  have q : ∀ a, a ≠ B + 33 → (vI V (B + 33) k (sbZ b)).1 a = V.1 a := fun a ha => u2_a ha
  have e3 : (za z 7 k b).2 3 = z.2 3 := za_2 rfl
  have e2 : (za z 7 k b).2 2 = z.2 2 := za_2 rfl
  have e72 : (za z 7 k b).2 72 = z.2 72 := za_2 rfl
  have e73 : (za z 7 k b).2 73 = z.2 73 := za_2 rfl
  refine ⟨⟨n1, ?_, fun i i0 i1 => ?_, fun i i0 i1 => ?_, fun i i0 i1 => ?_, fun i i0 i1 => ?_, fun p hp6 hp r r0 r1 => ?_⟩, ?_, fun j j0 j1 => ?_, fun i i0 i1 => ?_, fun h => ?_⟩
  · rw [q _ (by omega), e3]; exact n2
  · rw [q _ (by omega), e3]; exact n3 i i0 i1
  · rw [q _ (by omega), e3]; exact n4 i i0 i1
  · rw [q _ (by omega), e3]; exact n5 i i0 i1
  · rw [q _ (by omega), e3]; exact n6 i i0 i1
  · rw [e3] at hp
    have w := n7 p hp6 hp r r0 r1
    rw [q _ (by omega), q _ (by omega), e3]; exact w
  · rw [q _ (by omega)]; exact s1
  · rw [q _ (by omega), e2]; exact s2 j j0 j1
  · by_cases e : i = k
    · subst e
      exact u2_s.trans (congrArg sbZ (u2_s : u2 z.2 7 i b 7 i = b).symm)
    · exact ((u2_n (Or.inr e)).trans (s3 i i0 i1)).trans (congrArg sbZ (u2_n (Or.inr e) : u2 z.2 7 k b 7 i = z.2 7 i).symm)
  · rw [q _ (by omega), q _ (by omega), e72, e73]; exact s4 h
set_option maxHeartbeats 4000000 in
theorem kX0_four {E : ET} {sh : SHT} {nn : Nat × Nat} {V : VT} {B : Nat} {z : ZT} {v : Int} (hB : XSh B sh) (hc : XC V B z) (ht : 0 ≤ z.1 8 ∧ z.1 8 ≤ 396) (rv : R32 v) : TN E mX0_four 1 [.ref B, .int (iI v)] sh nn V (fun V1 => XC V1 B (zFour z v) ∧ FrX B V V1) := by
  have b24 := sbZ_r v 24
  have b16 := sbZ_r v 16
  have b8 := sbZ_r v 8
  have b0 := sbZ_r v 0
  refine TC.intro [some (.ref B), some (.int (iI v)), none] rfl ?_
  refine TGo.bip 24 dX0_four_0 (by decide) ?_
  refine TGo.is2 dX0_four_2 rfl rfl ?_
  refine TGo.il2 dX0_four_3 rfl ?_
  refine TGo.if_lt 36 dX0_four_4 (by decide) (by decide) (fun h => absurd h (by decide)) (fun _ => ?_)
  refine TGo.al0 dX0_four_7 rfl ?_
  refine TGo.getS (t := 8) 4 4 (B + 33) (hB 0 (by decide)) rfl fgX0_24_0 dX0_four_8 rfl rfl rfl ?_
  refine TGo.al0 dX0_four_11 rfl ?_
  refine TGo.getI (t := 8) 5 5 (hB 0 (by decide)) rfl fgX0_232_0 dX0_four_12 rfl rfl rfl ?_
  refine TGo.toz _ (hc.2.1.2.1) ?_
  refine TGo.il1 dX0_four_15 rfl ?_
  refine TGo.il2 dX0_four_16 rfl ?_
  refine TGo.ishr dX0_four_17 ?_
  refine TGo.i2b dX0_four_18 ?_
  refine TGo.tos (iI (sbZ (byZ v 24))) (sb_eq rv 24 (by decide)) ?_
  refine TGo.bast dX0_four_19 (hB 33 (by decide)) (by omega) rfl (by omega) ?_
  refine TGo.al0 dX0_four_20 rfl ?_
  refine TGo.dup dX0_four_21 rfl ?_
  refine TGo.getI (t := 8) 5 5 (hB 0 (by decide)) rfl fgX0_232_0 dX0_four_22 rfl rfl rfl ?_
  refine TGo.toz _ ((u2_n (Or.inl (by omega))).trans (hc.2.1.2.1)) ?_
  refine TGo.ic1 dX0_four_25 ?_
  refine TGo.iadd dX0_four_26 ?_
  refine TGo.putI (t := 8) 5 5 (hB 0 (by decide)) rfl fpX0_232_0 dX0_four_27 rfl rfl rfl ?_
  refine TGo.iinc dX0_four_30 rfl rfl rfl ?_
  refine TGo.goto 3 dX0_four_33 (by decide) ?_
  refine TGo.il2 dX0_four_3 rfl ?_
  refine TGo.if_lt 36 dX0_four_4 (by decide) (by decide) (fun h => absurd h (by decide)) (fun _ => ?_)
  refine TGo.al0 dX0_four_7 rfl ?_
  refine TGo.getS (t := 8) 4 4 (B + 33) (hB 0 (by decide)) rfl fgX0_24_0 dX0_four_8 rfl rfl rfl ?_
  refine TGo.al0 dX0_four_11 rfl ?_
  refine TGo.getI (t := 8) 5 5 (hB 0 (by decide)) rfl fgX0_232_0 dX0_four_12 rfl rfl rfl ?_
  refine TGo.toz _ (u2_s) ?_
  refine TGo.il1 dX0_four_15 rfl ?_
  refine TGo.il2 dX0_four_16 rfl ?_
  refine TGo.ishr dX0_four_17 ?_
  refine TGo.i2b dX0_four_18 ?_
  refine TGo.tos (iI (sbZ (byZ v 16))) (sb_eq rv 16 (by decide)) ?_
  refine TGo.bast dX0_four_19 (hB 33 (by decide)) (by omega) rfl (by omega) ?_
  refine TGo.al0 dX0_four_20 rfl ?_
  refine TGo.dup dX0_four_21 rfl ?_
  refine TGo.getI (t := 8) 5 5 (hB 0 (by decide)) rfl fgX0_232_0 dX0_four_22 rfl rfl rfl ?_
  refine TGo.toz _ ((u2_n (Or.inl (by omega))).trans (u2_s)) ?_
  refine TGo.ic1 dX0_four_25 ?_
  refine TGo.iadd dX0_four_26 ?_
  refine TGo.putI (t := 8) 5 5 (hB 0 (by decide)) rfl fpX0_232_0 dX0_four_27 rfl rfl rfl ?_
  refine TGo.iinc dX0_four_30 rfl rfl rfl ?_
  refine TGo.goto 3 dX0_four_33 (by decide) ?_
  refine TGo.il2 dX0_four_3 rfl ?_
  refine TGo.if_lt 36 dX0_four_4 (by decide) (by decide) (fun h => absurd h (by decide)) (fun _ => ?_)
  refine TGo.al0 dX0_four_7 rfl ?_
  refine TGo.getS (t := 8) 4 4 (B + 33) (hB 0 (by decide)) rfl fgX0_24_0 dX0_four_8 rfl rfl rfl ?_
  refine TGo.al0 dX0_four_11 rfl ?_
  refine TGo.getI (t := 8) 5 5 (hB 0 (by decide)) rfl fgX0_232_0 dX0_four_12 rfl rfl rfl ?_
  refine TGo.toz _ (u2_s) ?_
  refine TGo.il1 dX0_four_15 rfl ?_
  refine TGo.il2 dX0_four_16 rfl ?_
  refine TGo.ishr dX0_four_17 ?_
  refine TGo.i2b dX0_four_18 ?_
  refine TGo.tos (iI (sbZ (byZ v 8))) (sb_eq rv 8 (by decide)) ?_
  refine TGo.bast dX0_four_19 (hB 33 (by decide)) (by omega) rfl (by omega) ?_
  refine TGo.al0 dX0_four_20 rfl ?_
  refine TGo.dup dX0_four_21 rfl ?_
  refine TGo.getI (t := 8) 5 5 (hB 0 (by decide)) rfl fgX0_232_0 dX0_four_22 rfl rfl rfl ?_
  refine TGo.toz _ ((u2_n (Or.inl (by omega))).trans (u2_s)) ?_
  refine TGo.ic1 dX0_four_25 ?_
  refine TGo.iadd dX0_four_26 ?_
  refine TGo.putI (t := 8) 5 5 (hB 0 (by decide)) rfl fpX0_232_0 dX0_four_27 rfl rfl rfl ?_
  refine TGo.iinc dX0_four_30 rfl rfl rfl ?_
  refine TGo.goto 3 dX0_four_33 (by decide) ?_
  refine TGo.il2 dX0_four_3 rfl ?_
  refine TGo.if_lt 36 dX0_four_4 (by decide) (by decide) (fun h => absurd h (by decide)) (fun _ => ?_)
  refine TGo.al0 dX0_four_7 rfl ?_
  refine TGo.getS (t := 8) 4 4 (B + 33) (hB 0 (by decide)) rfl fgX0_24_0 dX0_four_8 rfl rfl rfl ?_
  refine TGo.al0 dX0_four_11 rfl ?_
  refine TGo.getI (t := 8) 5 5 (hB 0 (by decide)) rfl fgX0_232_0 dX0_four_12 rfl rfl rfl ?_
  refine TGo.toz _ (u2_s) ?_
  refine TGo.il1 dX0_four_15 rfl ?_
  refine TGo.il2 dX0_four_16 rfl ?_
  refine TGo.ishr dX0_four_17 ?_
  refine TGo.i2b dX0_four_18 ?_
  refine TGo.tos (iI (sbZ (byZ v 0))) (sb_eq rv 0 (by decide)) ?_
  refine TGo.bast dX0_four_19 (hB 33 (by decide)) (by omega) rfl (by omega) ?_
  refine TGo.al0 dX0_four_20 rfl ?_
  refine TGo.dup dX0_four_21 rfl ?_
  refine TGo.getI (t := 8) 5 5 (hB 0 (by decide)) rfl fgX0_232_0 dX0_four_22 rfl rfl rfl ?_
  refine TGo.toz _ ((u2_n (Or.inl (by omega))).trans (u2_s)) ?_
  refine TGo.ic1 dX0_four_25 ?_
  refine TGo.iadd dX0_four_26 ?_
  refine TGo.putI (t := 8) 5 5 (hB 0 (by decide)) rfl fpX0_232_0 dX0_four_27 rfl rfl rfl ?_
  refine TGo.iinc dX0_four_30 rfl rfl rfl ?_
  refine TGo.goto 3 dX0_four_33 (by decide) ?_
  refine TGo.il2 dX0_four_3 rfl ?_
  refine TGo.if_lt 36 dX0_four_4 (by decide) (by decide) (fun _ => ?_) (fun h => absurd h (by decide))
  refine TGo.vret dX0_four_36 rfl ?_
  exact ⟨rfl, rfl, rfl, XC.eqz ((((((((hc.ta (by omega)).tp).ta (by omega)).tp).ta (by omega)).tp).ta (by omega)).tp) (zi_ext (fun k => by
    by_cases e : k = 8
    · subst e; rfl
    · show (if k = 8 then _ else if k = 8 then _ else if k = 8 then _ else if k = 8 then _ else z.1 k) = (if k = 8 then _ else z.1 k)
      (repeat rw [if_neg e])) rfl), ((((((((FrX.rf.i 33 rfl).b).i 33 rfl).b).i 33 rfl).b).i 33 rfl).b)⟩
theorem StA.four {z : ZT} {f : Int → Int} {v : Int} (h : StA f (z.2 3)) : StA f ((zFour z v).2 3) := by rw [zFour_2 rfl]; exact h
set_option maxHeartbeats 4000000 in
theorem kX0_feed {E : ET} {sh : SHT} {nn : Nat × Nat} {V : VT} {B : Nat} {ow : Nat → Nat} {z : ZT} {a b c d e : Int} (hR : XR ow sh nn V B z) (W : RWZ (z.2 3)) (wt : 0 ≤ z.1 8 ∧ z.1 8 ≤ 400) (ra : R32 a) (rb : R32 b) (rc : R32 c) (rd : R32 d) (re : R32 e) : TC E mX0_feed 2 [.ref B, .int (iI a), .int (iI b), .int (iI c), .int (iI d), .int (iI e)] sh nn V (XP B nn (zp_feed z a b c d e)) := by
  obtain ⟨hB, -, hc, -⟩ := id hR
  refine TC.intro [some (.ref B), some (.int (iI a)), some (.int (iI b)), some (.int (iI c)), some (.int (iI d)), some (.int (iI e))] rfl ?_
  refine TGo.al0 dX0_feed_0 rfl ?_
  refine TGo.getI (t := 8) 5 5 (hB 0 (by decide)) rfl fgX0_232_0 dX0_feed_1 rfl rfl rfl ?_
  refine TGo.toz _ (hc.2.1.2.1) ?_
  refine TGo.bip 20 dX0_feed_4 (by decide) ?_
  refine TGo.iadd dX0_feed_6 ?_
  refine TGo.sip 400 dX0_feed_7 (by decide) ?_
  refine TGo.icmp_le 15 dX0_feed_10 (by decide) (by omega) (fun h10 => ?_) (fun h10 => ?_)
  · refine TGo.al0 dX0_feed_15 rfl ?_
    refine TGo.il1 dX0_feed_16 rfl ?_
    refine TGo.cN (csV1 (y2 := mX0_four) (t := 8) 1 rfl (hB 0 (by decide)) rfl rfl dX0_feed_17 q843 q845 qs9 okX0_four npX0_four rfl rfl) (kX0_four hB hc (by (repeat rw [zFour_8]); omega) (by omega)) (fun V17 h17 => ?_)
    obtain ⟨hc17, hf17⟩ := h17
    have t17 := hc17.2.1.2.1
    have ht17 : 0 ≤ z.1 8 := by omega
    refine TGo.al0 dX0_feed_20 rfl ?_
    refine TGo.il2 dX0_feed_21 rfl ?_
    refine TGo.cN (csV1 (y2 := mX0_four) (t := 8) 1 rfl (hB 0 (by decide)) rfl rfl dX0_feed_22 q843 q845 qs9 okX0_four npX0_four rfl rfl) (kX0_four hB hc17 (by (repeat rw [zFour_8]); omega) (by omega)) (fun V22 h22 => ?_)
    obtain ⟨hc22, hf22⟩ := h22
    have t22 := hc22.2.1.2.1
    have ht22 : 0 ≤ z.1 8 := by omega
    refine TGo.al0 dX0_feed_25 rfl ?_
    refine TGo.il3 dX0_feed_26 rfl ?_
    refine TGo.cN (csV1 (y2 := mX0_four) (t := 8) 1 rfl (hB 0 (by decide)) rfl rfl dX0_feed_27 q843 q845 qs9 okX0_four npX0_four rfl rfl) (kX0_four hB hc22 (by (repeat rw [zFour_8]); omega) (by omega)) (fun V27 h27 => ?_)
    obtain ⟨hc27, hf27⟩ := h27
    have t27 := hc27.2.1.2.1
    have ht27 : 0 ≤ z.1 8 := by omega
    refine TGo.al0 dX0_feed_30 rfl ?_
    refine TGo.il dX0_feed_31 rfl ?_
    refine TGo.cN (csV1 (y2 := mX0_four) (t := 8) 1 rfl (hB 0 (by decide)) rfl rfl dX0_feed_33 q843 q845 qs9 okX0_four npX0_four rfl rfl) (kX0_four hB hc27 (by (repeat rw [zFour_8]); omega) (by omega)) (fun V33 h33 => ?_)
    obtain ⟨hc33, hf33⟩ := h33
    have t33 := hc33.2.1.2.1
    have ht33 : 0 ≤ z.1 8 := by omega
    refine TGo.al0 dX0_feed_36 rfl ?_
    refine TGo.il dX0_feed_37 rfl ?_
    refine TGo.cN (csV1 (y2 := mX0_four) (t := 8) 1 rfl (hB 0 (by decide)) rfl rfl dX0_feed_39 q843 q845 qs9 okX0_four npX0_four rfl rfl) (kX0_four hB hc33 (by (repeat rw [zFour_8]); omega) (by omega)) (fun V39 h39 => ?_)
    obtain ⟨hc39, hf39⟩ := h39
    have t39 := hc39.2.1.2.1
    have ht39 : 0 ≤ z.1 8 := by omega
    refine TGo.al0 dX0_feed_42 rfl ?_
    refine TGo.getI (t := 8) 5 5 (hB 0 (by decide)) rfl fgX0_232_0 dX0_feed_43 rfl rfl rfl ?_
    refine TGo.toz _ (hc39.2.1.2.1) ?_
    refine TGo.toz (z.1 8 + 20) (by (repeat rw [zFour_8]); omega) ?_
    refine TGo.iret dX0_feed_46 rfl ?_
    refine hR.leaf W (((((FrX.rf.tr hf17).tr hf22).tr hf27).tr hf33).tr hf39) hc39 ((zFour_2 rfl).trans ((zFour_2 rfl).trans ((zFour_2 rfl).trans ((zFour_2 rfl).trans (zFour_2 rfl))))) ((zFour_2 rfl).trans ((zFour_2 rfl).trans ((zFour_2 rfl).trans ((zFour_2 rfl).trans (zFour_2 rfl))))) StA.rf.four.four.four.four.four ?_
    unfold zp_feed
    rw [if_neg (by omega)]
  · refine TGo.icm1 dX0_feed_13 ?_
    refine TGo.iret dX0_feed_14 rfl ?_
    first
    | (exfalso; omega)
    | (refine hR.same ?_
       unfold zp_feed
       rw [if_pos (by omega)])
