/-! THE MODEL: what laws tell -/
set_option maxRecDepth 100000
/-- what two numbers make; none: it can't be told, or goes too far -/
def rkZ (op a b : Int) : Option Int :=
  if op = 20 then some (a + b) else if op = 21 then some (a - b) else if op = 22 then some (a * b)
  else if op = 23 then (if b = 0 then none else some (a.tdiv b)) else if op = 24 then (if b = 0 then none else some (a.tmod b))
  else if op = 25 then some (if a < b then 1 else 0) else if op = 26 then some (if b < a then 1 else 0) else some (if a = b then 1 else 0)
def farZ (v : Int) : Prop := v < -1000000000 ∨ 1000000000 < v
/-- one step of a text of signs behind what they join. none: such a text isn't written; some none: broken -/
def spZ (op ag val : Int → Int) (l k : Int) (st : List Int) : Option (Option (Int × List Int)) :=
  if op k = 0 then (if (0 ≤ ag k ∧ ag k ≤ 1000) ∧ st.length < 400 then some (some (k + 1, ag k :: st)) else none)
  else if 0 < op k ∧ op k < 20 then (if op k ≤ 8 ∧ st.length < 400 then some (some (k + 1, val (op k) :: st)) else none)
  else if 20 ≤ op k ∧ op k < 28 then (match st with
    | b :: a :: st => (match rkZ (op k) a b with
      | none => some none
      | some v => if v < -1000000000 ∨ 1000000000 < v then some none else some (some (k + 1, v :: st)))
    | _ => none)
  else if op k = 28 then (match st with
    | a :: st => if a = 0 ∨ a = 1 then some (some (k + 1, (1 - a) :: st)) else none
    | _ => none)
  else if op k = 29 ∨ op k = 30 then (match st with
    | a :: st => if a = (if op k = 29 then 0 else 1) then (if k < ag k ∧ ag k ≤ l then some (some (ag k, a :: st)) else none) else some (some (k + 1, st))
    | _ => none)
  else none
/-- a text from k to l, st lies ready -/
def evZ (op ag val : Int → Int) (l : Int) : Nat → Int → List Int → Option (Option (List Int))
  | 0, _, st => some (some st)
  | n + 1, k, st => if l ≤ k then some (some st) else match spZ op ag val l k st with
    | none => none
    | some none => some none
    | some (some q) => evZ op ag val l n q.1 q.2
/-- the lowest of the pile -/
def lstZ : List Int → Int
  | [] => 0
  | [x] => x
  | _ :: y :: st => lstZ (y :: st)
/-- its value -/
def vaZ (op ag val : Int → Int) (i l : Int) : Option Int := match evZ op ag val l (l - i).toNat i [] with
  | some (some st) => some (lstZ st)
  | _ => none
def StkZ (T : Nat) (V : VT) : List Int → Prop
  | [] => True
  | x :: st => V.2.1 (T + 15) (st.length : Int) = x ∧ (-1000000000 ≤ x ∧ x ≤ 1000000000) ∧ StkZ T V st
/-- longs unchanged but in the cells L -/
def FrL (L : List Nat) (V V' : VT) : Prop := (∀ a, a ∉ L → V'.2.1 a = V.2.1 a) ∧ V'.2.2 = V.2.2
theorem mul9 {a b : Int} (ha : -1000000000 ≤ a ∧ a ≤ 1000000000) (hb : -1000000000 ≤ b ∧ b ≤ 1000000000) : -1000000000000000000 ≤ a * b ∧ a * b ≤ 1000000000000000000 := by
  have h1 : 0 ≤ (1000000000 - a) * (1000000000 + b) := Int.mul_nonneg (by omega) (by omega)
  have h2 : 0 ≤ (1000000000 + a) * (1000000000 - b) := Int.mul_nonneg (by omega) (by omega)
  have h3 : 0 ≤ (1000000000 - a) * (1000000000 - b) := Int.mul_nonneg (by omega) (by omega)
  have h4 : 0 ≤ (1000000000 + a) * (1000000000 + b) := Int.mul_nonneg (by omega) (by omega)
  rw [Int.sub_mul, Int.mul_add, Int.mul_add] at h1
  rw [Int.add_mul, Int.mul_sub, Int.mul_sub] at h2
  rw [Int.sub_mul, Int.mul_sub, Int.mul_sub] at h3
  rw [Int.add_mul, Int.mul_add, Int.mul_add] at h4
  generalize a * b = c at *
  omega
theorem rkZ_r {op a b v : Int} (ha : -1000000000 ≤ a ∧ a ≤ 1000000000) (hb : -1000000000 ≤ b ∧ b ≤ 1000000000) (h : rkZ op a b = some v) : -1000000000000000000 ≤ v ∧ v ≤ 1000000000000000000 := by
  have hm := mul9 ha hb
  have hd : b ≠ 0 → -1000000000 ≤ a.tdiv b ∧ a.tdiv b ≤ 1000000000 := fun hb0 => by
    have h1 := Int.natAbs_tdiv_le_natAbs a b
    omega
  have hr : b ≠ 0 → -1000000000 ≤ a.tmod b ∧ a.tmod b ≤ 1000000000 := fun hb0 => by
    have h1 : (a.tmod b).natAbs < b.natAbs := by
      rw [Int.natAbs_tmod]; exact Nat.mod_lt _ (by omega)
    omega
  unfold rkZ at h
  repeat' split at h
  all_goals first | (cases h; omega) | (cases h; have := hd (by assumption); omega) | (cases h; have := hr (by assumption); omega) | (cases h; split <;> omega) | (exact absurd h (by simp))
set_option maxHeartbeats 4000000 in
theorem kX10_reckon {E : ET} {sh : SHT} {nn : Nat × Nat} {V : VT} {T : Nat} {z : ZT} {op a b : Int} (hT : MSh T sh) (hz : PE T V z) (ho : 20 ≤ op ∧ op < 28) (ha : (-1000000000 ≤ a ∧ a ≤ 1000000000)) (hb : (-1000000000 ≤ b ∧ b ≤ 1000000000)) (h32 : V.1 T 32 = 0) : TS E mX10_reckon 1 [.ref T, .int (iI op), .long (lI a), .long (lI b)] sh nn V (fun v V1 => PE T V1 z ∧ V1.2 = V.2 ∧ (∀ c i, (c ≠ T ∨ i ≠ 32) → V1.1 c i = V.1 c i) ∧ V1.1 T 32 = (if rkZ op a b = none then 1 else 0) ∧ v = .long (lI ((rkZ op a b).getD 0))) := by
  refine TC.intro [some (.ref T), some (.int (iI op)), some (.long (lI a)), none, some (.long (lI b)), none] rfl ?_
  refine TGo.il1 dX10_reckon_0 rfl ?_
  by_cases h1 : op < 20 ∨ 26 < op
  · refine TGo.tabOut 149 dX10_reckon_1 (by omega) h1 (by decide) ?_
    have h1 : op = 27 := by omega
    refine TGo.ll2 dX10_reckon_149 rfl ?_
    refine TGo.ll dX10_reckon_150 rfl ?_
    refine TGo.lc_ne 160 dX10_reckon_152 dX10_reckon_153 (by decide) (by omega) (fun h152 => ?_) (fun h152 => ?_)
    · refine TGo.lc0 dX10_reckon_160 ?_
      refine TGo.lret dX10_reckon_161 rfl ?_
      first
      | (exfalso; omega)
      | (refine ⟨_, rfl, rfl, rfl, hz, rfl, fun c i hc => ?_, ?_, ?_⟩
         · first | rfl | exact u2_n (by omega)
         · rw [h1]
           first
           | exact h32
           | exact u2_s.trans (by
               first
               | (obtain rfl : b = 0 := by omega
                  rfl)
               | (rw [show rkZ 23 a b = some (a.tdiv b) from (if_neg (by omega) : (if b = 0 then none else some (a.tdiv b)) = some (a.tdiv b))]; rfl)
               | (rw [show rkZ 24 a b = some (a.tmod b) from (if_neg (by omega) : (if b = 0 then none else some (a.tmod b)) = some (a.tmod b))]; rfl))
         · rw [h1]
           first
           | rfl
           | (show _ = Value.long (lI ((if b = 0 then none else some _ : Option Int).getD 0)); first | (rw [if_pos (by omega)]; rfl) | (rw [if_neg (by omega)]; rfl))
           | (show _ = Value.long (lI (if _ then (1 : Int) else 0)); first | rw [if_pos (by omega)] | rw [if_neg (by omega)]))
    · refine TGo.lc1 dX10_reckon_156 ?_
      refine TGo.goto 161 dX10_reckon_157 (by decide) ?_
      refine TGo.lret dX10_reckon_161 rfl ?_
      first
      | (exfalso; omega)
      | (refine ⟨_, rfl, rfl, rfl, hz, rfl, fun c i hc => ?_, ?_, ?_⟩
         · first | rfl | exact u2_n (by omega)
         · rw [h1]
           first
           | exact h32
           | exact u2_s.trans (by
               first
               | (obtain rfl : b = 0 := by omega
                  rfl)
               | (rw [show rkZ 23 a b = some (a.tdiv b) from (if_neg (by omega) : (if b = 0 then none else some (a.tdiv b)) = some (a.tdiv b))]; rfl)
               | (rw [show rkZ 24 a b = some (a.tmod b) from (if_neg (by omega) : (if b = 0 then none else some (a.tmod b)) = some (a.tmod b))]; rfl))
         · rw [h1]
           first
           | rfl
           | (show _ = Value.long (lI ((if b = 0 then none else some _ : Option Int).getD 0)); first | (rw [if_pos (by omega)]; rfl) | (rw [if_neg (by omega)]; rfl))
           | (show _ = Value.long (lI (if _ then (1 : Int) else 0)); first | rw [if_pos (by omega)] | rw [if_neg (by omega)]))
  · rcases (show op = 20 ∨ op = 21 ∨ op = 22 ∨ op = 23 ∨ op = 24 ∨ op = 25 ∨ op = 26 by omega) with h1 | h1 | h1 | h1 | h1 | h1 | h1
    · refine TGo.tabIn (off := 43) 44 dX10_reckon_1 (by omega) (by omega) (by rw [h1]; decide) (by decide) ?_
      refine TGo.ll2 dX10_reckon_44 rfl ?_
      refine TGo.ll dX10_reckon_45 rfl ?_
      refine TGo.ladd dX10_reckon_47 ?_
      refine TGo.lret dX10_reckon_48 rfl ?_
      first
      | (exfalso; omega)
      | (refine ⟨_, rfl, rfl, rfl, hz, rfl, fun c i hc => ?_, ?_, ?_⟩
         · first | rfl | exact u2_n (by omega)
         · rw [h1]
           first
           | exact h32
           | exact u2_s.trans (by
               first
               | (obtain rfl : b = 0 := by omega
                  rfl)
               | (rw [show rkZ 23 a b = some (a.tdiv b) from (if_neg (by omega) : (if b = 0 then none else some (a.tdiv b)) = some (a.tdiv b))]; rfl)
               | (rw [show rkZ 24 a b = some (a.tmod b) from (if_neg (by omega) : (if b = 0 then none else some (a.tmod b)) = some (a.tmod b))]; rfl))
         · rw [h1]
           first
           | rfl
           | (show _ = Value.long (lI ((if b = 0 then none else some _ : Option Int).getD 0)); first | (rw [if_pos (by omega)]; rfl) | (rw [if_neg (by omega)]; rfl))
           | (show _ = Value.long (lI (if _ then (1 : Int) else 0)); first | rw [if_pos (by omega)] | rw [if_neg (by omega)]))
    · refine TGo.tabIn (off := 48) 49 dX10_reckon_1 (by omega) (by omega) (by rw [h1]; decide) (by decide) ?_
      refine TGo.ll2 dX10_reckon_49 rfl ?_
      refine TGo.ll dX10_reckon_50 rfl ?_
      refine TGo.lsub dX10_reckon_52 ?_
      refine TGo.lret dX10_reckon_53 rfl ?_
      first
      | (exfalso; omega)
      | (refine ⟨_, rfl, rfl, rfl, hz, rfl, fun c i hc => ?_, ?_, ?_⟩
         · first | rfl | exact u2_n (by omega)
         · rw [h1]
           first
           | exact h32
           | exact u2_s.trans (by
               first
               | (obtain rfl : b = 0 := by omega
                  rfl)
               | (rw [show rkZ 23 a b = some (a.tdiv b) from (if_neg (by omega) : (if b = 0 then none else some (a.tdiv b)) = some (a.tdiv b))]; rfl)
               | (rw [show rkZ 24 a b = some (a.tmod b) from (if_neg (by omega) : (if b = 0 then none else some (a.tmod b)) = some (a.tmod b))]; rfl))
         · rw [h1]
           first
           | rfl
           | (show _ = Value.long (lI ((if b = 0 then none else some _ : Option Int).getD 0)); first | (rw [if_pos (by omega)]; rfl) | (rw [if_neg (by omega)]; rfl))
           | (show _ = Value.long (lI (if _ then (1 : Int) else 0)); first | rw [if_pos (by omega)] | rw [if_neg (by omega)]))
    · refine TGo.tabIn (off := 53) 54 dX10_reckon_1 (by omega) (by omega) (by rw [h1]; decide) (by decide) ?_
      refine TGo.ll2 dX10_reckon_54 rfl ?_
      refine TGo.ll dX10_reckon_55 rfl ?_
      refine TGo.lmul dX10_reckon_57 ?_
      refine TGo.lret dX10_reckon_58 rfl ?_
      first
      | (exfalso; omega)
      | (refine ⟨_, rfl, rfl, rfl, hz, rfl, fun c i hc => ?_, ?_, ?_⟩
         · first | rfl | exact u2_n (by omega)
         · rw [h1]
           first
           | exact h32
           | exact u2_s.trans (by
               first
               | (obtain rfl : b = 0 := by omega
                  rfl)
               | (rw [show rkZ 23 a b = some (a.tdiv b) from (if_neg (by omega) : (if b = 0 then none else some (a.tdiv b)) = some (a.tdiv b))]; rfl)
               | (rw [show rkZ 24 a b = some (a.tmod b) from (if_neg (by omega) : (if b = 0 then none else some (a.tmod b)) = some (a.tmod b))]; rfl))
         · rw [h1]
           first
           | rfl
           | (show _ = Value.long (lI ((if b = 0 then none else some _ : Option Int).getD 0)); first | (rw [if_pos (by omega)]; rfl) | (rw [if_neg (by omega)]; rfl))
           | (show _ = Value.long (lI (if _ then (1 : Int) else 0)); first | rw [if_pos (by omega)] | rw [if_neg (by omega)]))
    · refine TGo.tabIn (off := 58) 59 dX10_reckon_1 (by omega) (by omega) (by rw [h1]; decide) (by decide) ?_
      refine TGo.al0 dX10_reckon_59 rfl ?_
      refine TGo.ll dX10_reckon_60 rfl ?_
      refine TGo.lc0 dX10_reckon_62 ?_
      refine TGo.lc_ne 71 dX10_reckon_63 dX10_reckon_64 (by decide) (by omega) (fun h63 => ?_) (fun h63 => ?_)
      · refine TGo.ic0 dX10_reckon_71 ?_
        refine TGo.putZ (t := 18) 32 32 (hT 0 (by decide)) rfl fpX10_397_10 dX10_reckon_72 rfl ⟨rfl, (by first | exact Or.inl rfl | exact Or.inr rfl | exact bZ_or _ | assumption)⟩ rfl ?_
        refine TGo.al0 dX10_reckon_75 rfl ?_
        refine TGo.getI (t := 18) 32 32 (hT 0 (by decide)) rfl fgX10_397_10 dX10_reckon_76 rfl rfl rfl ?_
        refine TGo.toz _ (u2_s) ?_
        refine TGo.if_eq 86 dX10_reckon_79 (by decide) (by omega) (fun h79 => ?_) (fun h79 => ?_)
        · refine TGo.ll2 dX10_reckon_86 rfl ?_
          refine TGo.ll dX10_reckon_87 rfl ?_
          refine TGo.ldiv dX10_reckon_89 (by omega) (by omega) ?_
          refine TGo.lret dX10_reckon_90 rfl ?_
          first
          | (exfalso; omega)
          | (refine ⟨_, rfl, rfl, rfl, (hz.s rfl), rfl, fun c i hc => ?_, ?_, ?_⟩
             · first | rfl | exact u2_n (by omega)
             · rw [h1]
               first
               | exact h32
               | exact u2_s.trans (by
                   first
                   | (obtain rfl : b = 0 := by omega
                      rfl)
                   | (rw [show rkZ 23 a b = some (a.tdiv b) from (if_neg (by omega) : (if b = 0 then none else some (a.tdiv b)) = some (a.tdiv b))]; rfl)
                   | (rw [show rkZ 24 a b = some (a.tmod b) from (if_neg (by omega) : (if b = 0 then none else some (a.tmod b)) = some (a.tmod b))]; rfl))
             · rw [h1]
               first
               | rfl
               | (show _ = Value.long (lI ((if b = 0 then none else some _ : Option Int).getD 0)); first | (rw [if_pos (by omega)]; rfl) | (rw [if_neg (by omega)]; rfl))
               | (show _ = Value.long (lI (if _ then (1 : Int) else 0)); first | rw [if_pos (by omega)] | rw [if_neg (by omega)]))
        · refine TGo.lc0 dX10_reckon_82 ?_
          refine TGo.goto 90 dX10_reckon_83 (by decide) ?_
          refine TGo.lret dX10_reckon_90 rfl ?_
          first
          | (exfalso; omega)
          | (refine ⟨_, rfl, rfl, rfl, (hz.s rfl), rfl, fun c i hc => ?_, ?_, ?_⟩
             · first | rfl | exact u2_n (by omega)
             · rw [h1]
               first
               | exact h32
               | exact u2_s.trans (by
                   first
                   | (obtain rfl : b = 0 := by omega
                      rfl)
                   | (rw [show rkZ 23 a b = some (a.tdiv b) from (if_neg (by omega) : (if b = 0 then none else some (a.tdiv b)) = some (a.tdiv b))]; rfl)
                   | (rw [show rkZ 24 a b = some (a.tmod b) from (if_neg (by omega) : (if b = 0 then none else some (a.tmod b)) = some (a.tmod b))]; rfl))
             · rw [h1]
               first
               | rfl
               | (show _ = Value.long (lI ((if b = 0 then none else some _ : Option Int).getD 0)); first | (rw [if_pos (by omega)]; rfl) | (rw [if_neg (by omega)]; rfl))
               | (show _ = Value.long (lI (if _ then (1 : Int) else 0)); first | rw [if_pos (by omega)] | rw [if_neg (by omega)]))
      · refine TGo.ic1 dX10_reckon_67 ?_
        refine TGo.goto 72 dX10_reckon_68 (by decide) ?_
        refine TGo.putZ (t := 18) 32 32 (hT 0 (by decide)) rfl fpX10_397_10 dX10_reckon_72 rfl ⟨rfl, (by first | exact Or.inl rfl | exact Or.inr rfl | exact bZ_or _ | assumption)⟩ rfl ?_
        refine TGo.al0 dX10_reckon_75 rfl ?_
        refine TGo.getI (t := 18) 32 32 (hT 0 (by decide)) rfl fgX10_397_10 dX10_reckon_76 rfl rfl rfl ?_
        refine TGo.toz _ (u2_s) ?_
        refine TGo.if_eq 86 dX10_reckon_79 (by decide) (by omega) (fun h79 => ?_) (fun h79 => ?_)
        · refine TGo.ll2 dX10_reckon_86 rfl ?_
          refine TGo.ll dX10_reckon_87 rfl ?_
          refine TGo.ldiv dX10_reckon_89 (by omega) (by omega) ?_
          refine TGo.lret dX10_reckon_90 rfl ?_
          first
          | (exfalso; omega)
          | (refine ⟨_, rfl, rfl, rfl, (hz.s rfl), rfl, fun c i hc => ?_, ?_, ?_⟩
             · first | rfl | exact u2_n (by omega)
             · rw [h1]
               first
               | exact h32
               | exact u2_s.trans (by
                   first
                   | (obtain rfl : b = 0 := by omega
                      rfl)
                   | (rw [show rkZ 23 a b = some (a.tdiv b) from (if_neg (by omega) : (if b = 0 then none else some (a.tdiv b)) = some (a.tdiv b))]; rfl)
                   | (rw [show rkZ 24 a b = some (a.tmod b) from (if_neg (by omega) : (if b = 0 then none else some (a.tmod b)) = some (a.tmod b))]; rfl))
             · rw [h1]
               first
               | rfl
               | (show _ = Value.long (lI ((if b = 0 then none else some _ : Option Int).getD 0)); first | (rw [if_pos (by omega)]; rfl) | (rw [if_neg (by omega)]; rfl))
               | (show _ = Value.long (lI (if _ then (1 : Int) else 0)); first | rw [if_pos (by omega)] | rw [if_neg (by omega)]))
        · refine TGo.lc0 dX10_reckon_82 ?_
          refine TGo.goto 90 dX10_reckon_83 (by decide) ?_
          refine TGo.lret dX10_reckon_90 rfl ?_
          first
          | (exfalso; omega)
          | (refine ⟨_, rfl, rfl, rfl, (hz.s rfl), rfl, fun c i hc => ?_, ?_, ?_⟩
             · first | rfl | exact u2_n (by omega)
             · rw [h1]
               first
               | exact h32
               | exact u2_s.trans (by
                   first
                   | (obtain rfl : b = 0 := by omega
                      rfl)
                   | (rw [show rkZ 23 a b = some (a.tdiv b) from (if_neg (by omega) : (if b = 0 then none else some (a.tdiv b)) = some (a.tdiv b))]; rfl)
                   | (rw [show rkZ 24 a b = some (a.tmod b) from (if_neg (by omega) : (if b = 0 then none else some (a.tmod b)) = some (a.tmod b))]; rfl))
             · rw [h1]
               first
               | rfl
               | (show _ = Value.long (lI ((if b = 0 then none else some _ : Option Int).getD 0)); first | (rw [if_pos (by omega)]; rfl) | (rw [if_neg (by omega)]; rfl))
               | (show _ = Value.long (lI (if _ then (1 : Int) else 0)); first | rw [if_pos (by omega)] | rw [if_neg (by omega)]))
    · refine TGo.tabIn (off := 90) 91 dX10_reckon_1 (by omega) (by omega) (by rw [h1]; decide) (by decide) ?_
      refine TGo.al0 dX10_reckon_91 rfl ?_
      refine TGo.ll dX10_reckon_92 rfl ?_
      refine TGo.lc0 dX10_reckon_94 ?_
      refine TGo.lc_ne 103 dX10_reckon_95 dX10_reckon_96 (by decide) (by omega) (fun h95 => ?_) (fun h95 => ?_)
      · refine TGo.ic0 dX10_reckon_103 ?_
        refine TGo.putZ (t := 18) 32 32 (hT 0 (by decide)) rfl fpX10_397_10 dX10_reckon_104 rfl ⟨rfl, (by first | exact Or.inl rfl | exact Or.inr rfl | exact bZ_or _ | assumption)⟩ rfl ?_
        refine TGo.al0 dX10_reckon_107 rfl ?_
        refine TGo.getI (t := 18) 32 32 (hT 0 (by decide)) rfl fgX10_397_10 dX10_reckon_108 rfl rfl rfl ?_
        refine TGo.toz _ (u2_s) ?_
        refine TGo.if_eq 118 dX10_reckon_111 (by decide) (by omega) (fun h111 => ?_) (fun h111 => ?_)
        · refine TGo.ll2 dX10_reckon_118 rfl ?_
          refine TGo.ll dX10_reckon_119 rfl ?_
          refine TGo.lrem dX10_reckon_121 (by omega) (by omega) ?_
          refine TGo.lret dX10_reckon_122 rfl ?_
          first
          | (exfalso; omega)
          | (refine ⟨_, rfl, rfl, rfl, (hz.s rfl), rfl, fun c i hc => ?_, ?_, ?_⟩
             · first | rfl | exact u2_n (by omega)
             · rw [h1]
               first
               | exact h32
               | exact u2_s.trans (by
                   first
                   | (obtain rfl : b = 0 := by omega
                      rfl)
                   | (rw [show rkZ 23 a b = some (a.tdiv b) from (if_neg (by omega) : (if b = 0 then none else some (a.tdiv b)) = some (a.tdiv b))]; rfl)
                   | (rw [show rkZ 24 a b = some (a.tmod b) from (if_neg (by omega) : (if b = 0 then none else some (a.tmod b)) = some (a.tmod b))]; rfl))
             · rw [h1]
               first
               | rfl
               | (show _ = Value.long (lI ((if b = 0 then none else some _ : Option Int).getD 0)); first | (rw [if_pos (by omega)]; rfl) | (rw [if_neg (by omega)]; rfl))
               | (show _ = Value.long (lI (if _ then (1 : Int) else 0)); first | rw [if_pos (by omega)] | rw [if_neg (by omega)]))
        · refine TGo.lc0 dX10_reckon_114 ?_
          refine TGo.goto 122 dX10_reckon_115 (by decide) ?_
          refine TGo.lret dX10_reckon_122 rfl ?_
          first
          | (exfalso; omega)
          | (refine ⟨_, rfl, rfl, rfl, (hz.s rfl), rfl, fun c i hc => ?_, ?_, ?_⟩
             · first | rfl | exact u2_n (by omega)
             · rw [h1]
               first
               | exact h32
               | exact u2_s.trans (by
                   first
                   | (obtain rfl : b = 0 := by omega
                      rfl)
                   | (rw [show rkZ 23 a b = some (a.tdiv b) from (if_neg (by omega) : (if b = 0 then none else some (a.tdiv b)) = some (a.tdiv b))]; rfl)
                   | (rw [show rkZ 24 a b = some (a.tmod b) from (if_neg (by omega) : (if b = 0 then none else some (a.tmod b)) = some (a.tmod b))]; rfl))
             · rw [h1]
               first
               | rfl
               | (show _ = Value.long (lI ((if b = 0 then none else some _ : Option Int).getD 0)); first | (rw [if_pos (by omega)]; rfl) | (rw [if_neg (by omega)]; rfl))
               | (show _ = Value.long (lI (if _ then (1 : Int) else 0)); first | rw [if_pos (by omega)] | rw [if_neg (by omega)]))
      · refine TGo.ic1 dX10_reckon_99 ?_
        refine TGo.goto 104 dX10_reckon_100 (by decide) ?_
        refine TGo.putZ (t := 18) 32 32 (hT 0 (by decide)) rfl fpX10_397_10 dX10_reckon_104 rfl ⟨rfl, (by first | exact Or.inl rfl | exact Or.inr rfl | exact bZ_or _ | assumption)⟩ rfl ?_
        refine TGo.al0 dX10_reckon_107 rfl ?_
        refine TGo.getI (t := 18) 32 32 (hT 0 (by decide)) rfl fgX10_397_10 dX10_reckon_108 rfl rfl rfl ?_
        refine TGo.toz _ (u2_s) ?_
        refine TGo.if_eq 118 dX10_reckon_111 (by decide) (by omega) (fun h111 => ?_) (fun h111 => ?_)
        · refine TGo.ll2 dX10_reckon_118 rfl ?_
          refine TGo.ll dX10_reckon_119 rfl ?_
          refine TGo.lrem dX10_reckon_121 (by omega) (by omega) ?_
          refine TGo.lret dX10_reckon_122 rfl ?_
          first
          | (exfalso; omega)
          | (refine ⟨_, rfl, rfl, rfl, (hz.s rfl), rfl, fun c i hc => ?_, ?_, ?_⟩
             · first | rfl | exact u2_n (by omega)
             · rw [h1]
               first
               | exact h32
               | exact u2_s.trans (by
                   first
                   | (obtain rfl : b = 0 := by omega
                      rfl)
                   | (rw [show rkZ 23 a b = some (a.tdiv b) from (if_neg (by omega) : (if b = 0 then none else some (a.tdiv b)) = some (a.tdiv b))]; rfl)
                   | (rw [show rkZ 24 a b = some (a.tmod b) from (if_neg (by omega) : (if b = 0 then none else some (a.tmod b)) = some (a.tmod b))]; rfl))
             · rw [h1]
               first
               | rfl
               | (show _ = Value.long (lI ((if b = 0 then none else some _ : Option Int).getD 0)); first | (rw [if_pos (by omega)]; rfl) | (rw [if_neg (by omega)]; rfl))
               | (show _ = Value.long (lI (if _ then (1 : Int) else 0)); first | rw [if_pos (by omega)] | rw [if_neg (by omega)]))
        · refine TGo.lc0 dX10_reckon_114 ?_
          refine TGo.goto 122 dX10_reckon_115 (by decide) ?_
          refine TGo.lret dX10_reckon_122 rfl ?_
          first
          | (exfalso; omega)
          | (refine ⟨_, rfl, rfl, rfl, (hz.s rfl), rfl, fun c i hc => ?_, ?_, ?_⟩
             · first | rfl | exact u2_n (by omega)
             · rw [h1]
               first
               | exact h32
               | exact u2_s.trans (by
                   first
                   | (obtain rfl : b = 0 := by omega
                      rfl)
                   | (rw [show rkZ 23 a b = some (a.tdiv b) from (if_neg (by omega) : (if b = 0 then none else some (a.tdiv b)) = some (a.tdiv b))]; rfl)
                   | (rw [show rkZ 24 a b = some (a.tmod b) from (if_neg (by omega) : (if b = 0 then none else some (a.tmod b)) = some (a.tmod b))]; rfl))
             · rw [h1]
               first
               | rfl
               | (show _ = Value.long (lI ((if b = 0 then none else some _ : Option Int).getD 0)); first | (rw [if_pos (by omega)]; rfl) | (rw [if_neg (by omega)]; rfl))
               | (show _ = Value.long (lI (if _ then (1 : Int) else 0)); first | rw [if_pos (by omega)] | rw [if_neg (by omega)]))
    · refine TGo.tabIn (off := 122) 123 dX10_reckon_1 (by omega) (by omega) (by rw [h1]; decide) (by decide) ?_
      refine TGo.ll2 dX10_reckon_123 rfl ?_
      refine TGo.ll dX10_reckon_124 rfl ?_
      refine TGo.lc_ge 134 dX10_reckon_126 dX10_reckon_127 (by decide) (by omega) (fun h126 => ?_) (fun h126 => ?_)
      · refine TGo.lc0 dX10_reckon_134 ?_
        refine TGo.lret dX10_reckon_135 rfl ?_
        first
        | (exfalso; omega)
        | (refine ⟨_, rfl, rfl, rfl, hz, rfl, fun c i hc => ?_, ?_, ?_⟩
           · first | rfl | exact u2_n (by omega)
           · rw [h1]
             first
             | exact h32
             | exact u2_s.trans (by
                 first
                 | (obtain rfl : b = 0 := by omega
                    rfl)
                 | (rw [show rkZ 23 a b = some (a.tdiv b) from (if_neg (by omega) : (if b = 0 then none else some (a.tdiv b)) = some (a.tdiv b))]; rfl)
                 | (rw [show rkZ 24 a b = some (a.tmod b) from (if_neg (by omega) : (if b = 0 then none else some (a.tmod b)) = some (a.tmod b))]; rfl))
           · rw [h1]
             first
             | rfl
             | (show _ = Value.long (lI ((if b = 0 then none else some _ : Option Int).getD 0)); first | (rw [if_pos (by omega)]; rfl) | (rw [if_neg (by omega)]; rfl))
             | (show _ = Value.long (lI (if _ then (1 : Int) else 0)); first | rw [if_pos (by omega)] | rw [if_neg (by omega)]))
      · refine TGo.lc1 dX10_reckon_130 ?_
        refine TGo.goto 135 dX10_reckon_131 (by decide) ?_
        refine TGo.lret dX10_reckon_135 rfl ?_
        first
        | (exfalso; omega)
        | (refine ⟨_, rfl, rfl, rfl, hz, rfl, fun c i hc => ?_, ?_, ?_⟩
           · first | rfl | exact u2_n (by omega)
           · rw [h1]
             first
             | exact h32
             | exact u2_s.trans (by
                 first
                 | (obtain rfl : b = 0 := by omega
                    rfl)
                 | (rw [show rkZ 23 a b = some (a.tdiv b) from (if_neg (by omega) : (if b = 0 then none else some (a.tdiv b)) = some (a.tdiv b))]; rfl)
                 | (rw [show rkZ 24 a b = some (a.tmod b) from (if_neg (by omega) : (if b = 0 then none else some (a.tmod b)) = some (a.tmod b))]; rfl))
           · rw [h1]
             first
             | rfl
             | (show _ = Value.long (lI ((if b = 0 then none else some _ : Option Int).getD 0)); first | (rw [if_pos (by omega)]; rfl) | (rw [if_neg (by omega)]; rfl))
             | (show _ = Value.long (lI (if _ then (1 : Int) else 0)); first | rw [if_pos (by omega)] | rw [if_neg (by omega)]))
    · refine TGo.tabIn (off := 135) 136 dX10_reckon_1 (by omega) (by omega) (by rw [h1]; decide) (by decide) ?_
      refine TGo.ll2 dX10_reckon_136 rfl ?_
      refine TGo.ll dX10_reckon_137 rfl ?_
      refine TGo.lc_le 147 dX10_reckon_139 dX10_reckon_140 (by decide) (by omega) (fun h139 => ?_) (fun h139 => ?_)
      · refine TGo.lc0 dX10_reckon_147 ?_
        refine TGo.lret dX10_reckon_148 rfl ?_
        first
        | (exfalso; omega)
        | (refine ⟨_, rfl, rfl, rfl, hz, rfl, fun c i hc => ?_, ?_, ?_⟩
           · first | rfl | exact u2_n (by omega)
           · rw [h1]
             first
             | exact h32
             | exact u2_s.trans (by
                 first
                 | (obtain rfl : b = 0 := by omega
                    rfl)
                 | (rw [show rkZ 23 a b = some (a.tdiv b) from (if_neg (by omega) : (if b = 0 then none else some (a.tdiv b)) = some (a.tdiv b))]; rfl)
                 | (rw [show rkZ 24 a b = some (a.tmod b) from (if_neg (by omega) : (if b = 0 then none else some (a.tmod b)) = some (a.tmod b))]; rfl))
           · rw [h1]
             first
             | rfl
             | (show _ = Value.long (lI ((if b = 0 then none else some _ : Option Int).getD 0)); first | (rw [if_pos (by omega)]; rfl) | (rw [if_neg (by omega)]; rfl))
             | (show _ = Value.long (lI (if _ then (1 : Int) else 0)); first | rw [if_pos (by omega)] | rw [if_neg (by omega)]))
      · refine TGo.lc1 dX10_reckon_143 ?_
        refine TGo.goto 148 dX10_reckon_144 (by decide) ?_
        refine TGo.lret dX10_reckon_148 rfl ?_
        first
        | (exfalso; omega)
        | (refine ⟨_, rfl, rfl, rfl, hz, rfl, fun c i hc => ?_, ?_, ?_⟩
           · first | rfl | exact u2_n (by omega)
           · rw [h1]
             first
             | exact h32
             | exact u2_s.trans (by
                 first
                 | (obtain rfl : b = 0 := by omega
                    rfl)
                 | (rw [show rkZ 23 a b = some (a.tdiv b) from (if_neg (by omega) : (if b = 0 then none else some (a.tdiv b)) = some (a.tdiv b))]; rfl)
                 | (rw [show rkZ 24 a b = some (a.tmod b) from (if_neg (by omega) : (if b = 0 then none else some (a.tmod b)) = some (a.tmod b))]; rfl))
           · rw [h1]
             first
             | rfl
             | (show _ = Value.long (lI ((if b = 0 then none else some _ : Option Int).getD 0)); first | (rw [if_pos (by omega)]; rfl) | (rw [if_neg (by omega)]; rfl))
             | (show _ = Value.long (lI (if _ then (1 : Int) else 0)); first | rw [if_pos (by omega)] | rw [if_neg (by omega)]))
theorem TGo.tol {E : ET} {y : MI} {d pc : Nat} {ls : LV} {st : List Value} {sh : SHT} {nn : Nat × Nat} {V : VT} {Q : AO → SHT → Nat × Nat → VT → Prop} {x : Int} (z : Int) (h : x = z) (k : TGo E y d pc ls (.long (lI z) :: st) sh nn V Q) : TGo E y d pc ls (.long (lI x) :: st) sh nn V Q := h ▸ k
/-- numbers unchanged but 'broken', longs but the pile -/
def FrE (T : Nat) (V V' : VT) : Prop := (∀ c i, (c ≠ T ∨ i ≠ 32) → V'.1 c i = V.1 c i) ∧ (∀ c, c ≠ T + 15 → V'.2.1 c = V.2.1 c) ∧ V'.2.2 = V.2.2
theorem FrE.rf {T : Nat} {V : VT} : FrE T V V := ⟨fun _ _ _ => rfl, fun _ _ => rfl, rfl⟩
theorem FrE.l {T : Nat} {V V' : VT} {i v : Int} (h : FrE T V V') : FrE T V (vL V' (T + 15) i v) := ⟨h.1, fun c hc => (u2_a hc).trans (h.2.1 c hc), h.2.2⟩
theorem FrE.b {T : Nat} {V V' : VT} {v : Int} (h : FrE T V V') : FrE T V (vI V' T 32 v) := ⟨fun c i hc => (u2_n hc).trans (h.1 c i hc), h.2⟩
theorem FrE.k {T : Nat} {V V' V2 : VT} (h : FrE T V V') (h1 : ∀ c i, (c ≠ T ∨ i ≠ 32) → V2.1 c i = V'.1 c i) (h2 : V2.2 = V'.2) : FrE T V V2 := ⟨fun c i hc => (h1 c i hc).trans (h.1 c i hc), by rw [h2]; exact h.2.1, by rw [h2]; exact h.2.2⟩
theorem StkZ.of {T : Nat} {V V' : VT} (h : V'.2.1 = V.2.1) : ∀ {st : List Int}, StkZ T V st → StkZ T V' st := by
  intro st
  induction st with
  | nil => exact fun _ => trivial
  | cons x st ih => exact fun q => ⟨by rw [h]; exact q.1, q.2.1, ih q.2.2⟩
theorem StkZ.up {T : Nat} {V : VT} {i v : Int} : ∀ {st : List Int}, (st.length : Int) ≤ i → StkZ T V st → StkZ T (vL V (T + 15) i v) st := by
  intro st
  induction st with
  | nil => exact fun _ _ => trivial
  | cons x st ih =>
    intro hi q
    simp only [List.length_cons] at hi
    exact ⟨(u2_n (Or.inr (by omega))).trans q.1, q.2.1, ih (by omega) q.2.2⟩
theorem StkZ.push {T : Nat} {V : VT} {i v : Int} {st : List Int} (hi : i = (st.length : Int)) (hv : -1000000000 ≤ v ∧ v ≤ 1000000000) (q : StkZ T V st) : StkZ T (vL V (T + 15) i v) (v :: st) := by
  subst hi
  exact ⟨u2_s, hv, q.up (Int.le_refl _)⟩
/-- where a text lies: a law's in the row, a play's in its own arrays -/
def CodeZ (T : Nat) (V : VT) (z : ZT) (op ag val : Int → Int) (m : Bool) (L : Int) : Prop := match m with
  | false => z.1 15 = 0 ∧ V.1 T 28 = L ∧ (0 ≤ L ∧ L ≤ 5280) ∧ (∀ k, z.2 3 (L + 98 + 2 * k) = op k) ∧ (∀ k, z.2 3 (L + 98 + 2 * k + 1) = ag k) ∧ ∀ i, 1 ≤ i → i ≤ 8 → V.2.1 (T + 13) i = val i
  | true => z.1 15 = 1 ∧ (∀ k, V.1 (T + 7) k = op k) ∧ (∀ k, V.1 (T + 8) k = ag k) ∧ ∀ i, 1 ≤ i → i ≤ 8 → V.2.1 (T + 14) i = val i
theorem evZ_0 {op ag val : Int → Int} {l : Int} {n : Nat} {k : Int} {st : List Int} {R} (h : evZ op ag val l (n + 1) k st = some R) (hk : l ≤ k) : R = some st := by
  rw [evZ, if_pos hk] at h; exact (Option.some.inj h).symm
theorem evZ_c {op ag val : Int → Int} {l : Int} {n : Nat} {k : Int} {st : List Int} {R} (h : evZ op ag val l (n + 1) k st = some R) (hk : ¬ l ≤ k) :
    (op k = 0 ∧ (0 ≤ ag k ∧ ag k ≤ 1000) ∧ st.length < 400 ∧ evZ op ag val l n (k + 1) (ag k :: st) = some R) ∨
    ((0 < op k ∧ op k ≤ 8) ∧ st.length < 400 ∧ evZ op ag val l n (k + 1) (val (op k) :: st) = some R) ∨
    ((20 ≤ op k ∧ op k < 28) ∧ ∃ b a st', st = b :: a :: st' ∧ ((rkZ (op k) a b = none ∧ R = none) ∨ ∃ v, rkZ (op k) a b = some v ∧ ((farZ v ∧ R = none) ∨ (¬ farZ v ∧ evZ op ag val l n (k + 1) (v :: st') = some R)))) ∨
    (op k = 28 ∧ ∃ a st', st = a :: st' ∧ (a = 0 ∨ a = 1) ∧ evZ op ag val l n (k + 1) ((1 - a) :: st') = some R) ∨
    ((op k = 29 ∨ op k = 30) ∧ ∃ a st', st = a :: st' ∧ ((a = (if op k = 29 then 0 else 1) ∧ (k < ag k ∧ ag k ≤ l) ∧ evZ op ag val l n (ag k) (a :: st') = some R) ∨ (a ≠ (if op k = 29 then 0 else 1) ∧ evZ op ag val l n (k + 1) st' = some R))) := by
  rw [evZ, if_neg hk] at h
  have key : spZ op ag val l k st = some none ∧ R = none ∨ ∃ q, spZ op ag val l k st = some (some q) ∧ evZ op ag val l n q.1 q.2 = some R := by
    match hs : spZ op ag val l k st with
    | none => rw [hs] at h; cases h
    | some none => rw [hs] at h; exact Or.inl ⟨rfl, (Option.some.inj h).symm⟩
    | some (some q) => rw [hs] at h; exact Or.inr ⟨q, rfl, h⟩
  clear h
  unfold spZ at key
  by_cases h0 : op k = 0
  · rw [if_pos h0] at key
    split at key
    · rename_i q
      rcases key with ⟨q2, -⟩ | ⟨q2, q3, q4⟩
      · cases q2
      · cases q3; exact Or.inl ⟨h0, q.1, q.2, q4⟩
    · rcases key with ⟨q2, -⟩ | ⟨q2, q3, -⟩ <;> contradiction
  · rw [if_neg h0] at key
    by_cases h1 : 0 < op k ∧ op k < 20
    · rw [if_pos h1] at key
      split at key
      · rename_i q
        rcases key with ⟨q2, -⟩ | ⟨q2, q3, q4⟩
        · cases q2
        · cases q3; exact Or.inr (Or.inl ⟨⟨h1.1, q.1⟩, q.2, q4⟩)
      · rcases key with ⟨q2, -⟩ | ⟨q2, q3, -⟩ <;> contradiction
    · rw [if_neg h1] at key
      by_cases h2 : 20 ≤ op k ∧ op k < 28
      · rw [if_pos h2] at key
        refine Or.inr (Or.inr (Or.inl ⟨h2, ?_⟩))
        match st, key with
        | [], key => rcases key with ⟨q2, -⟩ | ⟨q2, q3, -⟩ <;> contradiction
        | [_], key => rcases key with ⟨q2, -⟩ | ⟨q2, q3, -⟩ <;> contradiction
        | b :: a :: st', key =>
          refine ⟨b, a, st', rfl, ?_⟩
          cases hr : rkZ (op k) a b with
          | none =>
            simp only [hr] at key
            rcases key with ⟨-, q⟩ | ⟨q2, q3, -⟩
            · exact Or.inl ⟨rfl, q⟩
            · cases q3
          | some v =>
            simp only [hr] at key
            refine Or.inr ⟨v, rfl, ?_⟩
            by_cases hv : v < -1000000000 ∨ 1000000000 < v
            · rw [if_pos hv] at key
              rcases key with ⟨-, q⟩ | ⟨q2, q3, -⟩
              · exact Or.inl ⟨hv, q⟩
              · cases q3
            · rw [if_neg hv] at key
              rcases key with ⟨q, -⟩ | ⟨q2, q3, q4⟩
              · cases q
              · cases q3; exact Or.inr ⟨hv, q4⟩
      · rw [if_neg h2] at key
        by_cases h3 : op k = 28
        · rw [if_pos h3] at key
          refine Or.inr (Or.inr (Or.inr (Or.inl ⟨h3, ?_⟩)))
          match st, key with
          | [], key => rcases key with ⟨q2, -⟩ | ⟨q2, q3, -⟩ <;> contradiction
          | a :: st', key =>
            by_cases ha : a = 0 ∨ a = 1
            · simp only [if_pos ha] at key
              rcases key with ⟨q, -⟩ | ⟨q2, q3, q4⟩
              · cases q
              · cases q3; exact ⟨a, st', rfl, ha, q4⟩
            · simp only [if_neg ha] at key
              rcases key with ⟨q2, -⟩ | ⟨q2, q3, -⟩ <;> contradiction
        · rw [if_neg h3] at key
          by_cases h4 : op k = 29 ∨ op k = 30
          · rw [if_pos h4] at key
            refine Or.inr (Or.inr (Or.inr (Or.inr ⟨h4, ?_⟩)))
            match st, key with
            | [], key => rcases key with ⟨q2, -⟩ | ⟨q2, q3, -⟩ <;> contradiction
            | a :: st', key =>
              refine ⟨a, st', rfl, ?_⟩
              by_cases ha : a = (if op k = 29 then 0 else 1)
              · simp only [if_pos ha] at key
                by_cases hj : k < ag k ∧ ag k ≤ l
                · simp only [if_pos hj] at key
                  rcases key with ⟨q, -⟩ | ⟨q2, q3, q4⟩
                  · cases q
                  · cases q3; exact Or.inl ⟨ha, hj, q4⟩
                · simp only [if_neg hj] at key
                  rcases key with ⟨q2, -⟩ | ⟨q2, q3, -⟩ <;> contradiction
              · simp only [if_neg ha] at key
                rcases key with ⟨q, -⟩ | ⟨q2, q3, q4⟩
                · cases q
                · cases q3; exact Or.inr ⟨ha, q4⟩
          · rw [if_neg h4] at key
            rcases key with ⟨q2, -⟩ | ⟨q2, q3, -⟩ <;> contradiction
def RkP (T : Nat) (V' : VT) : Option (List Int) → Prop
  | none => V'.1 T 32 = 1
  | some st => V'.1 T 32 = 0 ∧ V'.2.1 T 33 = lstZ st
theorem StkZ.b {T : Nat} {V : VT} {c : Nat} {i v : Int} {st : List Int} (h : StkZ T V st) : StkZ T (vI V c i v) st := StkZ.of (V := V) (V' := vI V c i v) rfl h
theorem StkZ.bot {T : Nat} {V : VT} : ∀ {st : List Int}, StkZ T V st → st ≠ [] → V.2.1 (T + 15) 0 = lstZ st := by
  intro st
  induction st with
  | nil => exact fun _ h => absurd rfl h
  | cons x st ih =>
    intro q _
    cases st with
    | nil => exact q.1
    | cons y st => exact ih q.2.2 (by simp)
set_option maxHeartbeats 4000000 in
theorem fX10_reckonAll {E : ET} {sh : SHT} {nn : Nat × Nat} {V V0 : VT} {T : Nat} {z : ZT} {i0 l k N : Int} {x5 x6 : Option Value} {st : List Int} {R : Option (List Int)} (hT : MSh T sh) (hz : PE T V z) (hfr : FrE T V0 V) (hN4 : 0 ≤ N ∧ N ≤ 400) (hR : (R = none ∧ V.1 T 32 = 1) ∨ (R = some st ∧ V.1 T 32 = 0 ∧ N = (st.length : Int) ∧ StkZ T V st)) : TGo E mX10_reckonAll 2 296 [some (.ref T), some (.int (iI i0)), some (.int (iI l)), some (.int (iI N)), some (.int (iI k)), x5, x6] [] sh nn V (fun o sh' nn' V' => o = .inl none ∧ sh' = sh ∧ nn' = nn ∧ PE T V' z ∧ (∀ c i, (c ≠ T ∨ i ≠ 32) → V'.1 c i = V0.1 c i) ∧ (∀ c, c ≠ T → c ≠ T + 15 → V'.2.1 c = V0.2.1 c) ∧ (∀ i, i ≠ 33 → V'.2.1 T i = V0.2.1 T i) ∧ V'.2.2 = V0.2.2 ∧ RkP T V' R) := by
  have hres : ∀ v, (N = 0 ∧ v = 0) ∨ (0 < N ∧ v = V.2.1 (T + 15) 0) → (match R with
    | none => V.1 T 32 = 1
    | some st => V.1 T 32 = 0 ∧ v = lstZ st) := by
    intro v hv
    rcases hR with ⟨rfl, h⟩ | ⟨rfl, h, hN, hst⟩
    · exact h
    · refine ⟨h, ?_⟩
      cases st with
      | nil => rcases hv with ⟨_, q⟩ | ⟨q, _⟩
               · exact q
               · rw [hN] at q; exact absurd q (by simp)
      | cons x st => rcases hv with ⟨q, _⟩ | ⟨_, q⟩
                     · rw [hN] at q; simp only [List.length_cons] at q; omega
                     · rw [q]; exact hst.bot (by simp)
  refine TGo.al0 dX10_reckonAll_296 rfl ?_
  refine TGo.il3 dX10_reckonAll_297 rfl ?_
  refine TGo.if_le 310 dX10_reckonAll_298 (by decide) (by omega) (fun h298 => ?_) (fun h298 => ?_)
  · refine TGo.lc0 dX10_reckonAll_310 ?_
    refine TGo.putJ (t := 18) 33 33 (hT 0 (by decide)) rfl fpX10_411_10 dX10_reckonAll_311 rfl rfl rfl ?_
    refine TGo.vret dX10_reckonAll_314 rfl ?_
    exact ⟨rfl, rfl, rfl, (hz.lf trivial), hfr.1, fun c h1 h2 => (u2_a h1).trans (hfr.2.1 c h2), fun i hi => (u2_n (Or.inr hi)).trans (congrFun (hfr.2.1 T (by omega)) i), hfr.2.2, by
      have h := hres _ (by first | exact Or.inl ⟨by omega, rfl⟩ | exact Or.inr ⟨by omega, rfl⟩)
      revert h
      cases R with
      | none => exact fun h => h
      | some st => exact fun h => ⟨h.1, u2_s.trans h.2⟩⟩
  · refine TGo.al0 dX10_reckonAll_301 rfl ?_
    refine TGo.getS (t := 18) 31 31 (T + 15) (hT 0 (by decide)) rfl fgX10_82_10 dX10_reckonAll_302 rfl rfl rfl ?_
    refine TGo.ic0 dX10_reckonAll_305 ?_
    refine TGo.lald dX10_reckonAll_306 (hT 15 (by decide)) (by omega) rfl ?_
    refine TGo.goto 311 dX10_reckonAll_307 (by decide) ?_
    refine TGo.putJ (t := 18) 33 33 (hT 0 (by decide)) rfl fpX10_411_10 dX10_reckonAll_311 rfl rfl rfl ?_
    refine TGo.vret dX10_reckonAll_314 rfl ?_
    exact ⟨rfl, rfl, rfl, (hz.lf trivial), hfr.1, fun c h1 h2 => (u2_a h1).trans (hfr.2.1 c h2), fun i hi => (u2_n (Or.inr hi)).trans (congrFun (hfr.2.1 T (by omega)) i), hfr.2.2, by
      have h := hres _ (by first | exact Or.inl ⟨by omega, rfl⟩ | exact Or.inr ⟨by omega, rfl⟩)
      revert h
      cases R with
      | none => exact fun h => h
      | some st => exact fun h => ⟨h.1, u2_s.trans h.2⟩⟩
set_option maxHeartbeats 4000000 in
theorem eX10_reckonAll {E : ET} {sh : SHT} {nn : Nat × Nat} {V V0 : VT} {T : Nat} {z : ZT} {i0 l k N : Int} {x5 x6 : Option Value} (hT : MSh T sh) (hz : PE T V z) (hfr : FrE T V0 V) (hN4 : 0 ≤ N ∧ N ≤ 400) (hb : V.1 T 32 = 1) (hl : (0 ≤ k ∧ k ≤ 400) ∧ 0 ≤ l ∧ l ≤ 400) : TGo E mX10_reckonAll 2 10 [some (.ref T), some (.int (iI i0)), some (.int (iI l)), some (.int (iI N)), some (.int (iI k)), x5, x6] [] sh nn V (fun o sh' nn' V' => o = .inl none ∧ sh' = sh ∧ nn' = nn ∧ PE T V' z ∧ (∀ c i, (c ≠ T ∨ i ≠ 32) → V'.1 c i = V0.1 c i) ∧ (∀ c, c ≠ T → c ≠ T + 15 → V'.2.1 c = V0.2.1 c) ∧ (∀ i, i ≠ 33 → V'.2.1 T i = V0.2.1 T i) ∧ V'.2.2 = V0.2.2 ∧ RkP T V' (none : Option (List Int))) := by
  refine TGo.il dX10_reckonAll_10 rfl ?_
  refine TGo.il2 dX10_reckonAll_12 rfl ?_
  refine TGo.icmp_ge 296 dX10_reckonAll_13 (by decide) (by omega) (fun h13 => ?_) (fun h13 => ?_)
  · exact fX10_reckonAll (R := none) (st := []) hT hz hfr hN4 (Or.inl ⟨rfl, hb⟩)
  · refine TGo.al0 dX10_reckonAll_16 rfl ?_
    refine TGo.getI (t := 18) 32 32 (hT 0 (by decide)) rfl fgX10_397_10 dX10_reckonAll_17 rfl rfl rfl ?_
    refine TGo.toz 1 hb ?_
    refine TGo.if_ne 296 dX10_reckonAll_20 (by decide) (by decide) (fun _ => ?_) (fun h => absurd h (by decide))
    exact fX10_reckonAll (R := none) (st := []) hT hz hfr hN4 (Or.inl ⟨rfl, hb⟩)
set_option maxHeartbeats 4000000 in
theorem aX10_reckonAll {E : ET} {sh : SHT} {nn : Nat × Nat} {V V0 : VT} {T : Nat} {z : ZT} {i0 l k N : Int} {x5 x6 : Option Value} {st : List Int} (hT : MSh T sh) (hz : PE T V z) (hfr : FrE T V0 V) (hst : StkZ T V st) (hN : N = (st.length : Int)) (hN4 : N ≤ 400) (hb : V.1 T 32 = 0) (hl : (0 ≤ k ∧ k ≤ 400) ∧ 0 ≤ l ∧ l ≤ 400) (hk : l ≤ k) : TGo E mX10_reckonAll 2 10 [some (.ref T), some (.int (iI i0)), some (.int (iI l)), some (.int (iI N)), some (.int (iI k)), x5, x6] [] sh nn V (fun o sh' nn' V' => o = .inl none ∧ sh' = sh ∧ nn' = nn ∧ PE T V' z ∧ (∀ c i, (c ≠ T ∨ i ≠ 32) → V'.1 c i = V0.1 c i) ∧ (∀ c, c ≠ T → c ≠ T + 15 → V'.2.1 c = V0.2.1 c) ∧ (∀ i, i ≠ 33 → V'.2.1 T i = V0.2.1 T i) ∧ V'.2.2 = V0.2.2 ∧ RkP T V' (some st)) := by
  refine TGo.il dX10_reckonAll_10 rfl ?_
  refine TGo.il2 dX10_reckonAll_12 rfl ?_
  refine TGo.icmp_ge 296 dX10_reckonAll_13 (by decide) (by omega) (fun h13 => ?_) (fun h13 => ?_)
  · exact fX10_reckonAll (R := some st) hT hz hfr (by omega) (Or.inr ⟨rfl, hb, hN, hst⟩)
  · exfalso; omega
set_option maxHeartbeats 8000000 in
theorem lX10_reckonAll0 {E : ET} {sh : SHT} {nn : Nat × Nat} {V0 : VT} {T : Nat} {z : ZT} {op ag val : Int → Int} {L i0 l : Int} {R : Option (List Int)} (hT : MSh T sh) (hcode : CodeZ T V0 z op ag val false L) (hl : 0 ≤ l ∧ l ≤ 400) (hv9 : ∀ i, 1 ≤ i → i ≤ 8 → (-1000000000 ≤ val i ∧ val i ≤ 1000000000)) : ∀ (n : Nat) (k : Int) (st : List Int) (N : Int) (V : VT) (x5 x6 : Option Value), l - k ≤ (n : Int) → (0 ≤ k ∧ k ≤ 400) → st.length ≤ 400 → N = (st.length : Int) → PE T V z → StkZ T V st → FrE T V0 V → V.1 T 32 = 0 → evZ op ag val l n k st = some R → TGo E mX10_reckonAll 2 10 [some (.ref T), some (.int (iI i0)), some (.int (iI l)), some (.int (iI N)), some (.int (iI k)), x5, x6] [] sh nn V (fun o sh' nn' V' => o = .inl none ∧ sh' = sh ∧ nn' = nn ∧ PE T V' z ∧ (∀ c i, (c ≠ T ∨ i ≠ 32) → V'.1 c i = V0.1 c i) ∧ (∀ c, c ≠ T → c ≠ T + 15 → V'.2.1 c = V0.2.1 c) ∧ (∀ i, i ≠ 33 → V'.2.1 T i = V0.2.1 T i) ∧ V'.2.2 = V0.2.2 ∧ RkP T V' R) := by
  obtain ⟨hp, hL, hLr, ho, hg, hval⟩ := hcode
  intro n
  induction n with
  | zero =>
    intro k st N V x5 x6 hlk hk hlen hN hz hst hfr hb hev
    rw [evZ] at hev
    obtain rfl := Option.some.inj hev
    exact aX10_reckonAll hT hz hfr hst hN (by omega) hb (by omega) (by omega)
  | succ n ih =>
    intro k st N V x5 x6 hlk hk hlen hN hz hst hfr hb hev
    by_cases hkl : l ≤ k
    · obtain rfl := evZ_0 hev hkl
      exact aX10_reckonAll hT hz hfr hst hN (by omega) hb (by omega) hkl
    rcases evZ_c hev hkl with ⟨h0, har, hle, hev⟩ | ⟨hor, hle, hev⟩ | ⟨hor, b, a, st', rfl, hc⟩ | ⟨hor, a, st', rfl, ha01, hev⟩ | ⟨hor, a, st', rfl, hc⟩
    · refine TGo.il dX10_reckonAll_10 rfl ?_
      refine TGo.il2 dX10_reckonAll_12 rfl ?_
      refine TGo.icmp_ge 296 dX10_reckonAll_13 (by decide) (by omega) (fun h13 => ?_) (fun h13 => ?_)
      · exfalso; omega
      · refine TGo.al0 dX10_reckonAll_16 rfl ?_
        refine TGo.getI (t := 18) 32 32 (hT 0 (by decide)) rfl fgX10_397_10 dX10_reckonAll_17 rfl rfl rfl ?_
        refine TGo.toz 0 hb ?_
        refine TGo.if_ne 296 dX10_reckonAll_20 (by decide) (by decide) (fun h => absurd h (by decide)) (fun _ => ?_)
        refine TGo.al0 dX10_reckonAll_23 rfl ?_
        refine TGo.getI (t := 18) 15 15 (hT 0 (by decide)) rfl fgX10_326_10 dX10_reckonAll_24 rfl rfl rfl ?_
        refine TGo.toz _ (hz.1 15 rfl) ?_
        refine TGo.toz 0 hp ?_
        refine TGo.if_eq 40 dX10_reckonAll_27 (by decide) (by decide) (fun _ => ?_) (fun h => absurd h (by decide))
        refine TGo.al0 dX10_reckonAll_40 rfl ?_
        refine TGo.getS (t := 18) 3 3 (T + 2) (hT 0 (by decide)) rfl fgX10_13_10 dX10_reckonAll_41 rfl rfl rfl ?_
        refine TGo.al0 dX10_reckonAll_44 rfl ?_
        refine TGo.getI (t := 18) 28 28 (hT 0 (by decide)) rfl fgX10_400_10 dX10_reckonAll_45 rfl rfl rfl ?_
        refine TGo.toz L ((hfr.1 _ _ (by omega)).trans hL) ?_
        refine TGo.bip 98 dX10_reckonAll_48 (by decide) ?_
        refine TGo.iadd dX10_reckonAll_50 ?_
        refine TGo.ic2 dX10_reckonAll_51 ?_
        refine TGo.il dX10_reckonAll_52 rfl ?_
        refine TGo.imul dX10_reckonAll_54 ?_
        refine TGo.iadd dX10_reckonAll_55 ?_
        refine TGo.iald dX10_reckonAll_56 (hT 2 (by decide)) (by omega) rfl ?_
        refine TGo.toz _ (hz.2.1 3 (by decide) _) ?_
        refine TGo.toz (op k) (ho k) ?_
        refine TGo.is dX10_reckonAll_57 rfl rfl ?_
        refine TGo.al0 dX10_reckonAll_59 rfl ?_
        refine TGo.getI (t := 18) 15 15 (hT 0 (by decide)) rfl fgX10_326_10 dX10_reckonAll_60 rfl rfl rfl ?_
        refine TGo.toz _ (hz.1 15 rfl) ?_
        refine TGo.toz 0 hp ?_
        refine TGo.if_eq 76 dX10_reckonAll_63 (by decide) (by decide) (fun _ => ?_) (fun h => absurd h (by decide))
        refine TGo.al0 dX10_reckonAll_76 rfl ?_
        refine TGo.getS (t := 18) 3 3 (T + 2) (hT 0 (by decide)) rfl fgX10_13_10 dX10_reckonAll_77 rfl rfl rfl ?_
        refine TGo.al0 dX10_reckonAll_80 rfl ?_
        refine TGo.getI (t := 18) 28 28 (hT 0 (by decide)) rfl fgX10_400_10 dX10_reckonAll_81 rfl rfl rfl ?_
        refine TGo.toz L ((hfr.1 _ _ (by omega)).trans hL) ?_
        refine TGo.bip 98 dX10_reckonAll_84 (by decide) ?_
        refine TGo.iadd dX10_reckonAll_86 ?_
        refine TGo.ic2 dX10_reckonAll_87 ?_
        refine TGo.il dX10_reckonAll_88 rfl ?_
        refine TGo.imul dX10_reckonAll_90 ?_
        refine TGo.iadd dX10_reckonAll_91 ?_
        refine TGo.ic1 dX10_reckonAll_92 ?_
        refine TGo.iadd dX10_reckonAll_93 ?_
        refine TGo.iald dX10_reckonAll_94 (hT 2 (by decide)) (by omega) rfl ?_
        refine TGo.toz _ (hz.2.1 3 (by decide) _) ?_
        refine TGo.toz (ag k) (hg k) ?_
        refine TGo.is dX10_reckonAll_95 rfl rfl ?_
        refine TGo.iinc dX10_reckonAll_97 rfl rfl rfl ?_
        refine TGo.il dX10_reckonAll_100 rfl ?_
        refine TGo.bip 20 dX10_reckonAll_102 (by decide) ?_
        refine TGo.icmp_ge 154 dX10_reckonAll_104 (by decide) (by omega) (fun h104 => ?_) (fun h104 => ?_)
        · exfalso; omega
        · refine TGo.al0 dX10_reckonAll_107 rfl ?_
          refine TGo.getS (t := 18) 31 31 (T + 15) (hT 0 (by decide)) rfl fgX10_82_10 dX10_reckonAll_108 rfl rfl rfl ?_
          refine TGo.il3 dX10_reckonAll_111 rfl ?_
          refine TGo.il dX10_reckonAll_112 rfl ?_
          refine TGo.if_ne 123 dX10_reckonAll_114 (by decide) (by omega) (fun h114 => ?_) (fun h114 => ?_)
          · exfalso; omega
          · refine TGo.il dX10_reckonAll_117 rfl ?_
            refine TGo.i2l dX10_reckonAll_119 (by omega) ?_
            refine TGo.goto 147 dX10_reckonAll_120 (by decide) ?_
            refine TGo.last dX10_reckonAll_147 (hT 15 (by decide)) (by omega) rfl ?_
            refine TGo.iinc dX10_reckonAll_148 rfl rfl rfl ?_
            refine TGo.goto 293 dX10_reckonAll_151 (by decide) ?_
            refine TGo.goto 10 dX10_reckonAll_293 (by decide) ?_
            exact TGo.seq [some (.ref T), some (.int (iI i0)), some (.int (iI l)), some (.int (iI (((ag k :: st).length : Nat) : Int))), some (.int (iI (k + 1))), _, _] [] _ (by first | rfl | (rw [hN]; rfl)) rfl rfl (ih (k + 1) (ag k :: st) _ _ _ _ (by omega) (by omega) (by simp only [List.length_cons] at *; omega) rfl (hz.la 15 rfl) (hst.push hN (by omega)) (hfr.l) (by first | exact hb | exact (u2_s) | assumption) hev)
    · refine TGo.il dX10_reckonAll_10 rfl ?_
      refine TGo.il2 dX10_reckonAll_12 rfl ?_
      refine TGo.icmp_ge 296 dX10_reckonAll_13 (by decide) (by omega) (fun h13 => ?_) (fun h13 => ?_)
      · exfalso; omega
      · refine TGo.al0 dX10_reckonAll_16 rfl ?_
        refine TGo.getI (t := 18) 32 32 (hT 0 (by decide)) rfl fgX10_397_10 dX10_reckonAll_17 rfl rfl rfl ?_
        refine TGo.toz 0 hb ?_
        refine TGo.if_ne 296 dX10_reckonAll_20 (by decide) (by decide) (fun h => absurd h (by decide)) (fun _ => ?_)
        refine TGo.al0 dX10_reckonAll_23 rfl ?_
        refine TGo.getI (t := 18) 15 15 (hT 0 (by decide)) rfl fgX10_326_10 dX10_reckonAll_24 rfl rfl rfl ?_
        refine TGo.toz _ (hz.1 15 rfl) ?_
        refine TGo.toz 0 hp ?_
        refine TGo.if_eq 40 dX10_reckonAll_27 (by decide) (by decide) (fun _ => ?_) (fun h => absurd h (by decide))
        refine TGo.al0 dX10_reckonAll_40 rfl ?_
        refine TGo.getS (t := 18) 3 3 (T + 2) (hT 0 (by decide)) rfl fgX10_13_10 dX10_reckonAll_41 rfl rfl rfl ?_
        refine TGo.al0 dX10_reckonAll_44 rfl ?_
        refine TGo.getI (t := 18) 28 28 (hT 0 (by decide)) rfl fgX10_400_10 dX10_reckonAll_45 rfl rfl rfl ?_
        refine TGo.toz L ((hfr.1 _ _ (by omega)).trans hL) ?_
        refine TGo.bip 98 dX10_reckonAll_48 (by decide) ?_
        refine TGo.iadd dX10_reckonAll_50 ?_
        refine TGo.ic2 dX10_reckonAll_51 ?_
        refine TGo.il dX10_reckonAll_52 rfl ?_
        refine TGo.imul dX10_reckonAll_54 ?_
        refine TGo.iadd dX10_reckonAll_55 ?_
        refine TGo.iald dX10_reckonAll_56 (hT 2 (by decide)) (by omega) rfl ?_
        refine TGo.toz _ (hz.2.1 3 (by decide) _) ?_
        refine TGo.toz (op k) (ho k) ?_
        refine TGo.is dX10_reckonAll_57 rfl rfl ?_
        refine TGo.al0 dX10_reckonAll_59 rfl ?_
        refine TGo.getI (t := 18) 15 15 (hT 0 (by decide)) rfl fgX10_326_10 dX10_reckonAll_60 rfl rfl rfl ?_
        refine TGo.toz _ (hz.1 15 rfl) ?_
        refine TGo.toz 0 hp ?_
        refine TGo.if_eq 76 dX10_reckonAll_63 (by decide) (by decide) (fun _ => ?_) (fun h => absurd h (by decide))
        refine TGo.al0 dX10_reckonAll_76 rfl ?_
        refine TGo.getS (t := 18) 3 3 (T + 2) (hT 0 (by decide)) rfl fgX10_13_10 dX10_reckonAll_77 rfl rfl rfl ?_
        refine TGo.al0 dX10_reckonAll_80 rfl ?_
        refine TGo.getI (t := 18) 28 28 (hT 0 (by decide)) rfl fgX10_400_10 dX10_reckonAll_81 rfl rfl rfl ?_
        refine TGo.toz L ((hfr.1 _ _ (by omega)).trans hL) ?_
        refine TGo.bip 98 dX10_reckonAll_84 (by decide) ?_
        refine TGo.iadd dX10_reckonAll_86 ?_
        refine TGo.ic2 dX10_reckonAll_87 ?_
        refine TGo.il dX10_reckonAll_88 rfl ?_
        refine TGo.imul dX10_reckonAll_90 ?_
        refine TGo.iadd dX10_reckonAll_91 ?_
        refine TGo.ic1 dX10_reckonAll_92 ?_
        refine TGo.iadd dX10_reckonAll_93 ?_
        refine TGo.iald dX10_reckonAll_94 (hT 2 (by decide)) (by omega) rfl ?_
        refine TGo.toz _ (hz.2.1 3 (by decide) _) ?_
        refine TGo.toz (ag k) (hg k) ?_
        refine TGo.is dX10_reckonAll_95 rfl rfl ?_
        refine TGo.iinc dX10_reckonAll_97 rfl rfl rfl ?_
        refine TGo.il dX10_reckonAll_100 rfl ?_
        refine TGo.bip 20 dX10_reckonAll_102 (by decide) ?_
        refine TGo.icmp_ge 154 dX10_reckonAll_104 (by decide) (by omega) (fun h104 => ?_) (fun h104 => ?_)
        · exfalso; omega
        · refine TGo.al0 dX10_reckonAll_107 rfl ?_
          refine TGo.getS (t := 18) 31 31 (T + 15) (hT 0 (by decide)) rfl fgX10_82_10 dX10_reckonAll_108 rfl rfl rfl ?_
          refine TGo.il3 dX10_reckonAll_111 rfl ?_
          refine TGo.il dX10_reckonAll_112 rfl ?_
          refine TGo.if_ne 123 dX10_reckonAll_114 (by decide) (by omega) (fun h114 => ?_) (fun h114 => ?_)
          · refine TGo.al0 dX10_reckonAll_123 rfl ?_
            refine TGo.getI (t := 18) 15 15 (hT 0 (by decide)) rfl fgX10_326_10 dX10_reckonAll_124 rfl rfl rfl ?_
            refine TGo.toz _ (hz.1 15 rfl) ?_
            refine TGo.toz 0 hp ?_
            refine TGo.if_eq 140 dX10_reckonAll_127 (by decide) (by decide) (fun _ => ?_) (fun h => absurd h (by decide))
            refine TGo.al0 dX10_reckonAll_140 rfl ?_
            refine TGo.getS (t := 18) 29 29 (T + 13) (hT 0 (by decide)) rfl fgX10_76_10 dX10_reckonAll_141 rfl rfl rfl ?_
            refine TGo.il dX10_reckonAll_144 rfl ?_
            refine TGo.lald dX10_reckonAll_146 (hT 13 (by decide)) (by omega) rfl ?_
            refine TGo.tol (val (op k)) ((congrFun (hfr.2.1 _ (by simp)) _).trans (hval _ (by omega) (by omega))) ?_
            refine TGo.last dX10_reckonAll_147 (hT 15 (by decide)) (by omega) rfl ?_
            refine TGo.iinc dX10_reckonAll_148 rfl rfl rfl ?_
            refine TGo.goto 293 dX10_reckonAll_151 (by decide) ?_
            refine TGo.goto 10 dX10_reckonAll_293 (by decide) ?_
            exact TGo.seq [some (.ref T), some (.int (iI i0)), some (.int (iI l)), some (.int (iI (((val (op k) :: st).length : Nat) : Int))), some (.int (iI (k + 1))), _, _] [] _ (by first | rfl | (rw [hN]; rfl)) rfl rfl (ih (k + 1) (val (op k) :: st) _ _ _ _ (by omega) (by omega) (by simp only [List.length_cons] at *; omega) rfl (hz.la 15 rfl) (hst.push hN (hv9 _ (by omega) (by omega))) (hfr.l) (by first | exact hb | exact (u2_s) | assumption) hev)
          · exfalso; omega
    · obtain ⟨hbv, hb9, hst2⟩ := hst
      obtain ⟨hav, ha9, hst3⟩ := hst2
      simp only [List.length_cons] at hN hbv hlen
      have hav2 : ∀ w, w = (st'.length : Int) → V.2.1 (T + 15) w = a := fun w e => by rw [e]; exact hav
      have hbv2 : ∀ w, w = (st'.length : Int) + 1 → V.2.1 (T + 15) w = b := fun w e => by rw [e]; exact hbv
      rcases hc with ⟨hr, rfl⟩ | ⟨v, hr, hc⟩
      · refine TGo.il dX10_reckonAll_10 rfl ?_
        refine TGo.il2 dX10_reckonAll_12 rfl ?_
        refine TGo.icmp_ge 296 dX10_reckonAll_13 (by decide) (by omega) (fun h13 => ?_) (fun h13 => ?_)
        · exfalso; omega
        · refine TGo.al0 dX10_reckonAll_16 rfl ?_
          refine TGo.getI (t := 18) 32 32 (hT 0 (by decide)) rfl fgX10_397_10 dX10_reckonAll_17 rfl rfl rfl ?_
          refine TGo.toz 0 hb ?_
          refine TGo.if_ne 296 dX10_reckonAll_20 (by decide) (by decide) (fun h => absurd h (by decide)) (fun _ => ?_)
          refine TGo.al0 dX10_reckonAll_23 rfl ?_
          refine TGo.getI (t := 18) 15 15 (hT 0 (by decide)) rfl fgX10_326_10 dX10_reckonAll_24 rfl rfl rfl ?_
          refine TGo.toz _ (hz.1 15 rfl) ?_
          refine TGo.toz 0 hp ?_
          refine TGo.if_eq 40 dX10_reckonAll_27 (by decide) (by decide) (fun _ => ?_) (fun h => absurd h (by decide))
          refine TGo.al0 dX10_reckonAll_40 rfl ?_
          refine TGo.getS (t := 18) 3 3 (T + 2) (hT 0 (by decide)) rfl fgX10_13_10 dX10_reckonAll_41 rfl rfl rfl ?_
          refine TGo.al0 dX10_reckonAll_44 rfl ?_
          refine TGo.getI (t := 18) 28 28 (hT 0 (by decide)) rfl fgX10_400_10 dX10_reckonAll_45 rfl rfl rfl ?_
          refine TGo.toz L ((hfr.1 _ _ (by omega)).trans hL) ?_
          refine TGo.bip 98 dX10_reckonAll_48 (by decide) ?_
          refine TGo.iadd dX10_reckonAll_50 ?_
          refine TGo.ic2 dX10_reckonAll_51 ?_
          refine TGo.il dX10_reckonAll_52 rfl ?_
          refine TGo.imul dX10_reckonAll_54 ?_
          refine TGo.iadd dX10_reckonAll_55 ?_
          refine TGo.iald dX10_reckonAll_56 (hT 2 (by decide)) (by omega) rfl ?_
          refine TGo.toz _ (hz.2.1 3 (by decide) _) ?_
          refine TGo.toz (op k) (ho k) ?_
          refine TGo.is dX10_reckonAll_57 rfl rfl ?_
          refine TGo.al0 dX10_reckonAll_59 rfl ?_
          refine TGo.getI (t := 18) 15 15 (hT 0 (by decide)) rfl fgX10_326_10 dX10_reckonAll_60 rfl rfl rfl ?_
          refine TGo.toz _ (hz.1 15 rfl) ?_
          refine TGo.toz 0 hp ?_
          refine TGo.if_eq 76 dX10_reckonAll_63 (by decide) (by decide) (fun _ => ?_) (fun h => absurd h (by decide))
          refine TGo.al0 dX10_reckonAll_76 rfl ?_
          refine TGo.getS (t := 18) 3 3 (T + 2) (hT 0 (by decide)) rfl fgX10_13_10 dX10_reckonAll_77 rfl rfl rfl ?_
          refine TGo.al0 dX10_reckonAll_80 rfl ?_
          refine TGo.getI (t := 18) 28 28 (hT 0 (by decide)) rfl fgX10_400_10 dX10_reckonAll_81 rfl rfl rfl ?_
          refine TGo.toz L ((hfr.1 _ _ (by omega)).trans hL) ?_
          refine TGo.bip 98 dX10_reckonAll_84 (by decide) ?_
          refine TGo.iadd dX10_reckonAll_86 ?_
          refine TGo.ic2 dX10_reckonAll_87 ?_
          refine TGo.il dX10_reckonAll_88 rfl ?_
          refine TGo.imul dX10_reckonAll_90 ?_
          refine TGo.iadd dX10_reckonAll_91 ?_
          refine TGo.ic1 dX10_reckonAll_92 ?_
          refine TGo.iadd dX10_reckonAll_93 ?_
          refine TGo.iald dX10_reckonAll_94 (hT 2 (by decide)) (by omega) rfl ?_
          refine TGo.toz _ (hz.2.1 3 (by decide) _) ?_
          refine TGo.toz (ag k) (hg k) ?_
          refine TGo.is dX10_reckonAll_95 rfl rfl ?_
          refine TGo.iinc dX10_reckonAll_97 rfl rfl rfl ?_
          refine TGo.il dX10_reckonAll_100 rfl ?_
          refine TGo.bip 20 dX10_reckonAll_102 (by decide) ?_
          refine TGo.icmp_ge 154 dX10_reckonAll_104 (by decide) (by omega) (fun h104 => ?_) (fun h104 => ?_)
          · refine TGo.il dX10_reckonAll_154 rfl ?_
            refine TGo.bip 28 dX10_reckonAll_156 (by decide) ?_
            refine TGo.icmp_ge 231 dX10_reckonAll_158 (by decide) (by omega) (fun h158 => ?_) (fun h158 => ?_)
            · exfalso; omega
            · refine TGo.iinc dX10_reckonAll_161 rfl rfl rfl ?_
              refine TGo.al0 dX10_reckonAll_164 rfl ?_
              refine TGo.getS (t := 18) 31 31 (T + 15) (hT 0 (by decide)) rfl fgX10_82_10 dX10_reckonAll_165 rfl rfl rfl ?_
              refine TGo.il3 dX10_reckonAll_168 rfl ?_
              refine TGo.ic1 dX10_reckonAll_169 ?_
              refine TGo.isub dX10_reckonAll_170 ?_
              refine TGo.al0 dX10_reckonAll_171 rfl ?_
              refine TGo.il dX10_reckonAll_172 rfl ?_
              refine TGo.al0 dX10_reckonAll_174 rfl ?_
              refine TGo.getS (t := 18) 31 31 (T + 15) (hT 0 (by decide)) rfl fgX10_82_10 dX10_reckonAll_175 rfl rfl rfl ?_
              refine TGo.il3 dX10_reckonAll_178 rfl ?_
              refine TGo.ic1 dX10_reckonAll_179 ?_
              refine TGo.isub dX10_reckonAll_180 ?_
              refine TGo.lald dX10_reckonAll_181 (hT 15 (by decide)) (by omega) rfl ?_
              refine TGo.tol a (hav2 _ (by omega)) ?_
              refine TGo.al0 dX10_reckonAll_182 rfl ?_
              refine TGo.getS (t := 18) 31 31 (T + 15) (hT 0 (by decide)) rfl fgX10_82_10 dX10_reckonAll_183 rfl rfl rfl ?_
              refine TGo.il3 dX10_reckonAll_186 rfl ?_
              refine TGo.lald dX10_reckonAll_187 (hT 15 (by decide)) (by omega) rfl ?_
              refine TGo.tol b (hbv2 _ (by omega)) ?_
              refine TGo.cS (csV3 (y2 := mX10_reckon) (t := 18) 1 rfl (hT 0 (by decide)) rfl rfl dX10_reckonAll_188 q2301 q2303 qs75 okX10_reckon npX10_reckon rfl rfl) (kX10_reckon hT hz (by omega) ha9 hb9 hb) (fun v188 V188 h188 => ?_)
              obtain ⟨hz188, hq188, hf188, ht188, rfl⟩ := h188
              rw [hr]
              refine TGo.tol 0 rfl ?_
              refine TGo.last dX10_reckonAll_191 (hT 15 (by decide)) (by omega) rfl ?_
              refine TGo.al0 dX10_reckonAll_192 rfl ?_
              refine TGo.al0 dX10_reckonAll_193 rfl ?_
              refine TGo.getI (t := 18) 32 32 (hT 0 (by decide)) rfl fgX10_397_10 dX10_reckonAll_194 rfl rfl rfl ?_
              refine TGo.toz 1 ((ht188.trans (by rw [hr]; rfl))) ?_
              refine TGo.if_ne 220 dX10_reckonAll_197 (by decide) (by decide) (fun _ => ?_) (fun h => absurd h (by decide))
              refine TGo.ic1 dX10_reckonAll_220 ?_
              refine TGo.goto 225 dX10_reckonAll_221 (by decide) ?_
              refine TGo.putZ (t := 18) 32 32 (hT 0 (by decide)) rfl fpX10_397_10 dX10_reckonAll_225 rfl ⟨rfl, (by first | exact Or.inl rfl | exact Or.inr rfl | exact bZ_or _ | assumption)⟩ rfl ?_
              refine TGo.goto 293 dX10_reckonAll_228 (by decide) ?_
              refine TGo.goto 10 dX10_reckonAll_293 (by decide) ?_
              exact TGo.seq [some (.ref T), some (.int (iI i0)), some (.int (iI l)), some (.int (iI (((0 :: st').length : Nat) : Int))), some (.int (iI (k + 1))), _, _] [] _ (by rw [show N + -1 = (((_ :: st' : List Int).length : Nat) : Int) by simp only [List.length_cons]; omega]; rfl) rfl rfl (eX10_reckonAll hT ((hz188.la 15 rfl).s rfl) ((hfr.k hf188 hq188).l.b) (by simp only [List.length_cons] at *; omega) u2_s (by omega))
          · exfalso; omega
      · have hr2 := rkZ_r ha9 hb9 hr
        rcases hc with ⟨hfar, rfl⟩ | ⟨hfar, hev⟩
        · refine TGo.il dX10_reckonAll_10 rfl ?_
          refine TGo.il2 dX10_reckonAll_12 rfl ?_
          refine TGo.icmp_ge 296 dX10_reckonAll_13 (by decide) (by omega) (fun h13 => ?_) (fun h13 => ?_)
          · exfalso; omega
          · refine TGo.al0 dX10_reckonAll_16 rfl ?_
            refine TGo.getI (t := 18) 32 32 (hT 0 (by decide)) rfl fgX10_397_10 dX10_reckonAll_17 rfl rfl rfl ?_
            refine TGo.toz 0 hb ?_
            refine TGo.if_ne 296 dX10_reckonAll_20 (by decide) (by decide) (fun h => absurd h (by decide)) (fun _ => ?_)
            refine TGo.al0 dX10_reckonAll_23 rfl ?_
            refine TGo.getI (t := 18) 15 15 (hT 0 (by decide)) rfl fgX10_326_10 dX10_reckonAll_24 rfl rfl rfl ?_
            refine TGo.toz _ (hz.1 15 rfl) ?_
            refine TGo.toz 0 hp ?_
            refine TGo.if_eq 40 dX10_reckonAll_27 (by decide) (by decide) (fun _ => ?_) (fun h => absurd h (by decide))
            refine TGo.al0 dX10_reckonAll_40 rfl ?_
            refine TGo.getS (t := 18) 3 3 (T + 2) (hT 0 (by decide)) rfl fgX10_13_10 dX10_reckonAll_41 rfl rfl rfl ?_
            refine TGo.al0 dX10_reckonAll_44 rfl ?_
            refine TGo.getI (t := 18) 28 28 (hT 0 (by decide)) rfl fgX10_400_10 dX10_reckonAll_45 rfl rfl rfl ?_
            refine TGo.toz L ((hfr.1 _ _ (by omega)).trans hL) ?_
            refine TGo.bip 98 dX10_reckonAll_48 (by decide) ?_
            refine TGo.iadd dX10_reckonAll_50 ?_
            refine TGo.ic2 dX10_reckonAll_51 ?_
            refine TGo.il dX10_reckonAll_52 rfl ?_
            refine TGo.imul dX10_reckonAll_54 ?_
            refine TGo.iadd dX10_reckonAll_55 ?_
            refine TGo.iald dX10_reckonAll_56 (hT 2 (by decide)) (by omega) rfl ?_
            refine TGo.toz _ (hz.2.1 3 (by decide) _) ?_
            refine TGo.toz (op k) (ho k) ?_
            refine TGo.is dX10_reckonAll_57 rfl rfl ?_
            refine TGo.al0 dX10_reckonAll_59 rfl ?_
            refine TGo.getI (t := 18) 15 15 (hT 0 (by decide)) rfl fgX10_326_10 dX10_reckonAll_60 rfl rfl rfl ?_
            refine TGo.toz _ (hz.1 15 rfl) ?_
            refine TGo.toz 0 hp ?_
            refine TGo.if_eq 76 dX10_reckonAll_63 (by decide) (by decide) (fun _ => ?_) (fun h => absurd h (by decide))
            refine TGo.al0 dX10_reckonAll_76 rfl ?_
            refine TGo.getS (t := 18) 3 3 (T + 2) (hT 0 (by decide)) rfl fgX10_13_10 dX10_reckonAll_77 rfl rfl rfl ?_
            refine TGo.al0 dX10_reckonAll_80 rfl ?_
            refine TGo.getI (t := 18) 28 28 (hT 0 (by decide)) rfl fgX10_400_10 dX10_reckonAll_81 rfl rfl rfl ?_
            refine TGo.toz L ((hfr.1 _ _ (by omega)).trans hL) ?_
            refine TGo.bip 98 dX10_reckonAll_84 (by decide) ?_
            refine TGo.iadd dX10_reckonAll_86 ?_
            refine TGo.ic2 dX10_reckonAll_87 ?_
            refine TGo.il dX10_reckonAll_88 rfl ?_
            refine TGo.imul dX10_reckonAll_90 ?_
            refine TGo.iadd dX10_reckonAll_91 ?_
            refine TGo.ic1 dX10_reckonAll_92 ?_
            refine TGo.iadd dX10_reckonAll_93 ?_
            refine TGo.iald dX10_reckonAll_94 (hT 2 (by decide)) (by omega) rfl ?_
            refine TGo.toz _ (hz.2.1 3 (by decide) _) ?_
            refine TGo.toz (ag k) (hg k) ?_
            refine TGo.is dX10_reckonAll_95 rfl rfl ?_
            refine TGo.iinc dX10_reckonAll_97 rfl rfl rfl ?_
            refine TGo.il dX10_reckonAll_100 rfl ?_
            refine TGo.bip 20 dX10_reckonAll_102 (by decide) ?_
            refine TGo.icmp_ge 154 dX10_reckonAll_104 (by decide) (by omega) (fun h104 => ?_) (fun h104 => ?_)
            · refine TGo.il dX10_reckonAll_154 rfl ?_
              refine TGo.bip 28 dX10_reckonAll_156 (by decide) ?_
              refine TGo.icmp_ge 231 dX10_reckonAll_158 (by decide) (by omega) (fun h158 => ?_) (fun h158 => ?_)
              · exfalso; omega
              · refine TGo.iinc dX10_reckonAll_161 rfl rfl rfl ?_
                refine TGo.al0 dX10_reckonAll_164 rfl ?_
                refine TGo.getS (t := 18) 31 31 (T + 15) (hT 0 (by decide)) rfl fgX10_82_10 dX10_reckonAll_165 rfl rfl rfl ?_
                refine TGo.il3 dX10_reckonAll_168 rfl ?_
                refine TGo.ic1 dX10_reckonAll_169 ?_
                refine TGo.isub dX10_reckonAll_170 ?_
                refine TGo.al0 dX10_reckonAll_171 rfl ?_
                refine TGo.il dX10_reckonAll_172 rfl ?_
                refine TGo.al0 dX10_reckonAll_174 rfl ?_
                refine TGo.getS (t := 18) 31 31 (T + 15) (hT 0 (by decide)) rfl fgX10_82_10 dX10_reckonAll_175 rfl rfl rfl ?_
                refine TGo.il3 dX10_reckonAll_178 rfl ?_
                refine TGo.ic1 dX10_reckonAll_179 ?_
                refine TGo.isub dX10_reckonAll_180 ?_
                refine TGo.lald dX10_reckonAll_181 (hT 15 (by decide)) (by omega) rfl ?_
                refine TGo.tol a (hav2 _ (by omega)) ?_
                refine TGo.al0 dX10_reckonAll_182 rfl ?_
                refine TGo.getS (t := 18) 31 31 (T + 15) (hT 0 (by decide)) rfl fgX10_82_10 dX10_reckonAll_183 rfl rfl rfl ?_
                refine TGo.il3 dX10_reckonAll_186 rfl ?_
                refine TGo.lald dX10_reckonAll_187 (hT 15 (by decide)) (by omega) rfl ?_
                refine TGo.tol b (hbv2 _ (by omega)) ?_
                refine TGo.cS (csV3 (y2 := mX10_reckon) (t := 18) 1 rfl (hT 0 (by decide)) rfl rfl dX10_reckonAll_188 q2301 q2303 qs75 okX10_reckon npX10_reckon rfl rfl) (kX10_reckon hT hz (by omega) ha9 hb9 hb) (fun v188 V188 h188 => ?_)
                obtain ⟨hz188, hq188, hf188, ht188, rfl⟩ := h188
                rw [hr]
                refine TGo.tol v rfl ?_
                refine TGo.last dX10_reckonAll_191 (hT 15 (by decide)) (by omega) rfl ?_
                unfold farZ at hfar
                refine TGo.al0 dX10_reckonAll_192 rfl ?_
                refine TGo.al0 dX10_reckonAll_193 rfl ?_
                refine TGo.getI (t := 18) 32 32 (hT 0 (by decide)) rfl fgX10_397_10 dX10_reckonAll_194 rfl rfl rfl ?_
                refine TGo.toz 0 ((ht188.trans (by rw [hr]; rfl))) ?_
                refine TGo.if_ne 220 dX10_reckonAll_197 (by decide) (by decide) (fun h => absurd h (by decide)) (fun _ => ?_)
                refine TGo.al0 dX10_reckonAll_200 rfl ?_
                refine TGo.getS (t := 18) 31 31 (T + 15) (hT 0 (by decide)) rfl fgX10_82_10 dX10_reckonAll_201 rfl rfl rfl ?_
                refine TGo.il3 dX10_reckonAll_204 rfl ?_
                refine TGo.ic1 dX10_reckonAll_205 ?_
                refine TGo.isub dX10_reckonAll_206 ?_
                refine TGo.lald dX10_reckonAll_207 (hT 15 (by decide)) (by omega) rfl ?_
                refine TGo.tol v u2_s ?_
                refine TGo.ldc2 (-1000000000) dX10_reckonAll_208 q2305 (by decide) ?_
                refine TGo.ldc2 1000000000 dX10_reckonAll_211 q2306 (by decide) ?_
                refine TGo.cF (csS3 (y2 := mX10_in) 1 rfl dX10_reckonAll_214 q2032 q2033 okX10_in npX10_in rfl rfl) (kX10_in (by omega) (by omega) (by omega)) ?_
                refine TGo.ifb_ne 224 dX10_reckonAll_217 (by decide) (fun h217 => ?_) (fun h217 => ?_)
                · exfalso; omega
                · refine TGo.ic1 dX10_reckonAll_220 ?_
                  refine TGo.goto 225 dX10_reckonAll_221 (by decide) ?_
                  refine TGo.putZ (t := 18) 32 32 (hT 0 (by decide)) rfl fpX10_397_10 dX10_reckonAll_225 rfl ⟨rfl, (by first | exact Or.inl rfl | exact Or.inr rfl | exact bZ_or _ | assumption)⟩ rfl ?_
                  refine TGo.goto 293 dX10_reckonAll_228 (by decide) ?_
                  refine TGo.goto 10 dX10_reckonAll_293 (by decide) ?_
                  exact TGo.seq [some (.ref T), some (.int (iI i0)), some (.int (iI l)), some (.int (iI (((0 :: st').length : Nat) : Int))), some (.int (iI (k + 1))), _, _] [] _ (by rw [show N + -1 = (((_ :: st' : List Int).length : Nat) : Int) by simp only [List.length_cons]; omega]; rfl) rfl rfl (eX10_reckonAll hT ((hz188.la 15 rfl).s rfl) ((hfr.k hf188 hq188).l.b) (by simp only [List.length_cons] at *; omega) u2_s (by omega))
            · exfalso; omega
        · refine TGo.il dX10_reckonAll_10 rfl ?_
          refine TGo.il2 dX10_reckonAll_12 rfl ?_
          refine TGo.icmp_ge 296 dX10_reckonAll_13 (by decide) (by omega) (fun h13 => ?_) (fun h13 => ?_)
          · exfalso; omega
          · refine TGo.al0 dX10_reckonAll_16 rfl ?_
            refine TGo.getI (t := 18) 32 32 (hT 0 (by decide)) rfl fgX10_397_10 dX10_reckonAll_17 rfl rfl rfl ?_
            refine TGo.toz 0 hb ?_
            refine TGo.if_ne 296 dX10_reckonAll_20 (by decide) (by decide) (fun h => absurd h (by decide)) (fun _ => ?_)
            refine TGo.al0 dX10_reckonAll_23 rfl ?_
            refine TGo.getI (t := 18) 15 15 (hT 0 (by decide)) rfl fgX10_326_10 dX10_reckonAll_24 rfl rfl rfl ?_
            refine TGo.toz _ (hz.1 15 rfl) ?_
            refine TGo.toz 0 hp ?_
            refine TGo.if_eq 40 dX10_reckonAll_27 (by decide) (by decide) (fun _ => ?_) (fun h => absurd h (by decide))
            refine TGo.al0 dX10_reckonAll_40 rfl ?_
            refine TGo.getS (t := 18) 3 3 (T + 2) (hT 0 (by decide)) rfl fgX10_13_10 dX10_reckonAll_41 rfl rfl rfl ?_
            refine TGo.al0 dX10_reckonAll_44 rfl ?_
            refine TGo.getI (t := 18) 28 28 (hT 0 (by decide)) rfl fgX10_400_10 dX10_reckonAll_45 rfl rfl rfl ?_
            refine TGo.toz L ((hfr.1 _ _ (by omega)).trans hL) ?_
            refine TGo.bip 98 dX10_reckonAll_48 (by decide) ?_
            refine TGo.iadd dX10_reckonAll_50 ?_
            refine TGo.ic2 dX10_reckonAll_51 ?_
            refine TGo.il dX10_reckonAll_52 rfl ?_
            refine TGo.imul dX10_reckonAll_54 ?_
            refine TGo.iadd dX10_reckonAll_55 ?_
            refine TGo.iald dX10_reckonAll_56 (hT 2 (by decide)) (by omega) rfl ?_
            refine TGo.toz _ (hz.2.1 3 (by decide) _) ?_
            refine TGo.toz (op k) (ho k) ?_
            refine TGo.is dX10_reckonAll_57 rfl rfl ?_
            refine TGo.al0 dX10_reckonAll_59 rfl ?_
            refine TGo.getI (t := 18) 15 15 (hT 0 (by decide)) rfl fgX10_326_10 dX10_reckonAll_60 rfl rfl rfl ?_
            refine TGo.toz _ (hz.1 15 rfl) ?_
            refine TGo.toz 0 hp ?_
            refine TGo.if_eq 76 dX10_reckonAll_63 (by decide) (by decide) (fun _ => ?_) (fun h => absurd h (by decide))
            refine TGo.al0 dX10_reckonAll_76 rfl ?_
            refine TGo.getS (t := 18) 3 3 (T + 2) (hT 0 (by decide)) rfl fgX10_13_10 dX10_reckonAll_77 rfl rfl rfl ?_
            refine TGo.al0 dX10_reckonAll_80 rfl ?_
            refine TGo.getI (t := 18) 28 28 (hT 0 (by decide)) rfl fgX10_400_10 dX10_reckonAll_81 rfl rfl rfl ?_
            refine TGo.toz L ((hfr.1 _ _ (by omega)).trans hL) ?_
            refine TGo.bip 98 dX10_reckonAll_84 (by decide) ?_
            refine TGo.iadd dX10_reckonAll_86 ?_
            refine TGo.ic2 dX10_reckonAll_87 ?_
            refine TGo.il dX10_reckonAll_88 rfl ?_
            refine TGo.imul dX10_reckonAll_90 ?_
            refine TGo.iadd dX10_reckonAll_91 ?_
            refine TGo.ic1 dX10_reckonAll_92 ?_
            refine TGo.iadd dX10_reckonAll_93 ?_
            refine TGo.iald dX10_reckonAll_94 (hT 2 (by decide)) (by omega) rfl ?_
            refine TGo.toz _ (hz.2.1 3 (by decide) _) ?_
            refine TGo.toz (ag k) (hg k) ?_
            refine TGo.is dX10_reckonAll_95 rfl rfl ?_
            refine TGo.iinc dX10_reckonAll_97 rfl rfl rfl ?_
            refine TGo.il dX10_reckonAll_100 rfl ?_
            refine TGo.bip 20 dX10_reckonAll_102 (by decide) ?_
            refine TGo.icmp_ge 154 dX10_reckonAll_104 (by decide) (by omega) (fun h104 => ?_) (fun h104 => ?_)
            · refine TGo.il dX10_reckonAll_154 rfl ?_
              refine TGo.bip 28 dX10_reckonAll_156 (by decide) ?_
              refine TGo.icmp_ge 231 dX10_reckonAll_158 (by decide) (by omega) (fun h158 => ?_) (fun h158 => ?_)
              · exfalso; omega
              · refine TGo.iinc dX10_reckonAll_161 rfl rfl rfl ?_
                refine TGo.al0 dX10_reckonAll_164 rfl ?_
                refine TGo.getS (t := 18) 31 31 (T + 15) (hT 0 (by decide)) rfl fgX10_82_10 dX10_reckonAll_165 rfl rfl rfl ?_
                refine TGo.il3 dX10_reckonAll_168 rfl ?_
                refine TGo.ic1 dX10_reckonAll_169 ?_
                refine TGo.isub dX10_reckonAll_170 ?_
                refine TGo.al0 dX10_reckonAll_171 rfl ?_
                refine TGo.il dX10_reckonAll_172 rfl ?_
                refine TGo.al0 dX10_reckonAll_174 rfl ?_
                refine TGo.getS (t := 18) 31 31 (T + 15) (hT 0 (by decide)) rfl fgX10_82_10 dX10_reckonAll_175 rfl rfl rfl ?_
                refine TGo.il3 dX10_reckonAll_178 rfl ?_
                refine TGo.ic1 dX10_reckonAll_179 ?_
                refine TGo.isub dX10_reckonAll_180 ?_
                refine TGo.lald dX10_reckonAll_181 (hT 15 (by decide)) (by omega) rfl ?_
                refine TGo.tol a (hav2 _ (by omega)) ?_
                refine TGo.al0 dX10_reckonAll_182 rfl ?_
                refine TGo.getS (t := 18) 31 31 (T + 15) (hT 0 (by decide)) rfl fgX10_82_10 dX10_reckonAll_183 rfl rfl rfl ?_
                refine TGo.il3 dX10_reckonAll_186 rfl ?_
                refine TGo.lald dX10_reckonAll_187 (hT 15 (by decide)) (by omega) rfl ?_
                refine TGo.tol b (hbv2 _ (by omega)) ?_
                refine TGo.cS (csV3 (y2 := mX10_reckon) (t := 18) 1 rfl (hT 0 (by decide)) rfl rfl dX10_reckonAll_188 q2301 q2303 qs75 okX10_reckon npX10_reckon rfl rfl) (kX10_reckon hT hz (by omega) ha9 hb9 hb) (fun v188 V188 h188 => ?_)
                obtain ⟨hz188, hq188, hf188, ht188, rfl⟩ := h188
                rw [hr]
                refine TGo.tol v rfl ?_
                refine TGo.last dX10_reckonAll_191 (hT 15 (by decide)) (by omega) rfl ?_
                unfold farZ at hfar
                refine TGo.al0 dX10_reckonAll_192 rfl ?_
                refine TGo.al0 dX10_reckonAll_193 rfl ?_
                refine TGo.getI (t := 18) 32 32 (hT 0 (by decide)) rfl fgX10_397_10 dX10_reckonAll_194 rfl rfl rfl ?_
                refine TGo.toz 0 ((ht188.trans (by rw [hr]; rfl))) ?_
                refine TGo.if_ne 220 dX10_reckonAll_197 (by decide) (by decide) (fun h => absurd h (by decide)) (fun _ => ?_)
                refine TGo.al0 dX10_reckonAll_200 rfl ?_
                refine TGo.getS (t := 18) 31 31 (T + 15) (hT 0 (by decide)) rfl fgX10_82_10 dX10_reckonAll_201 rfl rfl rfl ?_
                refine TGo.il3 dX10_reckonAll_204 rfl ?_
                refine TGo.ic1 dX10_reckonAll_205 ?_
                refine TGo.isub dX10_reckonAll_206 ?_
                refine TGo.lald dX10_reckonAll_207 (hT 15 (by decide)) (by omega) rfl ?_
                refine TGo.tol v u2_s ?_
                refine TGo.ldc2 (-1000000000) dX10_reckonAll_208 q2305 (by decide) ?_
                refine TGo.ldc2 1000000000 dX10_reckonAll_211 q2306 (by decide) ?_
                refine TGo.cF (csS3 (y2 := mX10_in) 1 rfl dX10_reckonAll_214 q2032 q2033 okX10_in npX10_in rfl rfl) (kX10_in (by omega) (by omega) (by omega)) ?_
                refine TGo.ifb_ne 224 dX10_reckonAll_217 (by decide) (fun h217 => ?_) (fun h217 => ?_)
                · refine TGo.ic0 dX10_reckonAll_224 ?_
                  refine TGo.putZ (t := 18) 32 32 (hT 0 (by decide)) rfl fpX10_397_10 dX10_reckonAll_225 rfl ⟨rfl, (by first | exact Or.inl rfl | exact Or.inr rfl | exact bZ_or _ | assumption)⟩ rfl ?_
                  refine TGo.goto 293 dX10_reckonAll_228 (by decide) ?_
                  refine TGo.goto 10 dX10_reckonAll_293 (by decide) ?_
                  exact TGo.seq [some (.ref T), some (.int (iI i0)), some (.int (iI l)), some (.int (iI (((v :: st').length : Nat) : Int))), some (.int (iI (k + 1))), _, _] [] _ (by rw [show N + -1 = (((_ :: st' : List Int).length : Nat) : Int) by simp only [List.length_cons]; omega]; rfl) rfl rfl (ih (k + 1) (v :: st') _ _ _ _ (by omega) (by omega) (by simp only [List.length_cons] at *; omega) rfl ((hz188.la 15 rfl).s rfl) ((((hst3.of (congrArg Prod.fst hq188)).push (by omega) (by omega))).b) ((hfr.k hf188 hq188).l.b) (by first | exact hb | exact (u2_s) | assumption) hev)
                · exfalso; omega
            · exfalso; omega
    · obtain ⟨hav, ha9, hst3⟩ := hst
      simp only [List.length_cons] at hN hlen
      have hav2 : ∀ w, w = (st'.length : Int) → V.2.1 (T + 15) w = a := fun w e => by rw [e]; exact hav
      refine TGo.il dX10_reckonAll_10 rfl ?_
      refine TGo.il2 dX10_reckonAll_12 rfl ?_
      refine TGo.icmp_ge 296 dX10_reckonAll_13 (by decide) (by omega) (fun h13 => ?_) (fun h13 => ?_)
      · exfalso; omega
      · refine TGo.al0 dX10_reckonAll_16 rfl ?_
        refine TGo.getI (t := 18) 32 32 (hT 0 (by decide)) rfl fgX10_397_10 dX10_reckonAll_17 rfl rfl rfl ?_
        refine TGo.toz 0 hb ?_
        refine TGo.if_ne 296 dX10_reckonAll_20 (by decide) (by decide) (fun h => absurd h (by decide)) (fun _ => ?_)
        refine TGo.al0 dX10_reckonAll_23 rfl ?_
        refine TGo.getI (t := 18) 15 15 (hT 0 (by decide)) rfl fgX10_326_10 dX10_reckonAll_24 rfl rfl rfl ?_
        refine TGo.toz _ (hz.1 15 rfl) ?_
        refine TGo.toz 0 hp ?_
        refine TGo.if_eq 40 dX10_reckonAll_27 (by decide) (by decide) (fun _ => ?_) (fun h => absurd h (by decide))
        refine TGo.al0 dX10_reckonAll_40 rfl ?_
        refine TGo.getS (t := 18) 3 3 (T + 2) (hT 0 (by decide)) rfl fgX10_13_10 dX10_reckonAll_41 rfl rfl rfl ?_
        refine TGo.al0 dX10_reckonAll_44 rfl ?_
        refine TGo.getI (t := 18) 28 28 (hT 0 (by decide)) rfl fgX10_400_10 dX10_reckonAll_45 rfl rfl rfl ?_
        refine TGo.toz L ((hfr.1 _ _ (by omega)).trans hL) ?_
        refine TGo.bip 98 dX10_reckonAll_48 (by decide) ?_
        refine TGo.iadd dX10_reckonAll_50 ?_
        refine TGo.ic2 dX10_reckonAll_51 ?_
        refine TGo.il dX10_reckonAll_52 rfl ?_
        refine TGo.imul dX10_reckonAll_54 ?_
        refine TGo.iadd dX10_reckonAll_55 ?_
        refine TGo.iald dX10_reckonAll_56 (hT 2 (by decide)) (by omega) rfl ?_
        refine TGo.toz _ (hz.2.1 3 (by decide) _) ?_
        refine TGo.toz (op k) (ho k) ?_
        refine TGo.is dX10_reckonAll_57 rfl rfl ?_
        refine TGo.al0 dX10_reckonAll_59 rfl ?_
        refine TGo.getI (t := 18) 15 15 (hT 0 (by decide)) rfl fgX10_326_10 dX10_reckonAll_60 rfl rfl rfl ?_
        refine TGo.toz _ (hz.1 15 rfl) ?_
        refine TGo.toz 0 hp ?_
        refine TGo.if_eq 76 dX10_reckonAll_63 (by decide) (by decide) (fun _ => ?_) (fun h => absurd h (by decide))
        refine TGo.al0 dX10_reckonAll_76 rfl ?_
        refine TGo.getS (t := 18) 3 3 (T + 2) (hT 0 (by decide)) rfl fgX10_13_10 dX10_reckonAll_77 rfl rfl rfl ?_
        refine TGo.al0 dX10_reckonAll_80 rfl ?_
        refine TGo.getI (t := 18) 28 28 (hT 0 (by decide)) rfl fgX10_400_10 dX10_reckonAll_81 rfl rfl rfl ?_
        refine TGo.toz L ((hfr.1 _ _ (by omega)).trans hL) ?_
        refine TGo.bip 98 dX10_reckonAll_84 (by decide) ?_
        refine TGo.iadd dX10_reckonAll_86 ?_
        refine TGo.ic2 dX10_reckonAll_87 ?_
        refine TGo.il dX10_reckonAll_88 rfl ?_
        refine TGo.imul dX10_reckonAll_90 ?_
        refine TGo.iadd dX10_reckonAll_91 ?_
        refine TGo.ic1 dX10_reckonAll_92 ?_
        refine TGo.iadd dX10_reckonAll_93 ?_
        refine TGo.iald dX10_reckonAll_94 (hT 2 (by decide)) (by omega) rfl ?_
        refine TGo.toz _ (hz.2.1 3 (by decide) _) ?_
        refine TGo.toz (ag k) (hg k) ?_
        refine TGo.is dX10_reckonAll_95 rfl rfl ?_
        refine TGo.iinc dX10_reckonAll_97 rfl rfl rfl ?_
        refine TGo.il dX10_reckonAll_100 rfl ?_
        refine TGo.bip 20 dX10_reckonAll_102 (by decide) ?_
        refine TGo.icmp_ge 154 dX10_reckonAll_104 (by decide) (by omega) (fun h104 => ?_) (fun h104 => ?_)
        · refine TGo.il dX10_reckonAll_154 rfl ?_
          refine TGo.bip 28 dX10_reckonAll_156 (by decide) ?_
          refine TGo.icmp_ge 231 dX10_reckonAll_158 (by decide) (by omega) (fun h158 => ?_) (fun h158 => ?_)
          · refine TGo.il dX10_reckonAll_231 rfl ?_
            refine TGo.bip 28 dX10_reckonAll_233 (by decide) ?_
            refine TGo.icmp_ne 259 dX10_reckonAll_235 (by decide) (by omega) (fun h235 => ?_) (fun h235 => ?_)
            · exfalso; omega
            · refine TGo.al0 dX10_reckonAll_238 rfl ?_
              refine TGo.getS (t := 18) 31 31 (T + 15) (hT 0 (by decide)) rfl fgX10_82_10 dX10_reckonAll_239 rfl rfl rfl ?_
              refine TGo.il3 dX10_reckonAll_242 rfl ?_
              refine TGo.ic1 dX10_reckonAll_243 ?_
              refine TGo.isub dX10_reckonAll_244 ?_
              refine TGo.lc1 dX10_reckonAll_245 ?_
              refine TGo.al0 dX10_reckonAll_246 rfl ?_
              refine TGo.getS (t := 18) 31 31 (T + 15) (hT 0 (by decide)) rfl fgX10_82_10 dX10_reckonAll_247 rfl rfl rfl ?_
              refine TGo.il3 dX10_reckonAll_250 rfl ?_
              refine TGo.ic1 dX10_reckonAll_251 ?_
              refine TGo.isub dX10_reckonAll_252 ?_
              refine TGo.lald dX10_reckonAll_253 (hT 15 (by decide)) (by omega) rfl ?_
              refine TGo.tol a (hav2 _ (by omega)) ?_
              refine TGo.lsub dX10_reckonAll_254 ?_
              refine TGo.last dX10_reckonAll_255 (hT 15 (by decide)) (by omega) rfl ?_
              refine TGo.goto 293 dX10_reckonAll_256 (by decide) ?_
              refine TGo.goto 10 dX10_reckonAll_293 (by decide) ?_
              exact TGo.seq [some (.ref T), some (.int (iI i0)), some (.int (iI l)), some (.int (iI ((((1 - a) :: st').length : Nat) : Int))), some (.int (iI (k + 1))), _, _] [] _ (by rw [show N = ((((1 - a) :: st' : List Int).length : Nat) : Int) by simp only [List.length_cons]; omega]; rfl) rfl rfl (ih (k + 1) ((1 - a) :: st') _ _ _ _ (by omega) (by omega) (by simp only [List.length_cons] at *; omega) rfl (hz.la 15 rfl) (hst3.push (by omega) (by omega)) (hfr.l) (by first | exact hb | exact (u2_s) | assumption) hev)
          · exfalso; omega
        · exfalso; omega
    · obtain ⟨hav, ha9, hst3⟩ := hst
      simp only [List.length_cons] at hN hlen
      have hav2 : ∀ w, w = (st'.length : Int) → V.2.1 (T + 15) w = a := fun w e => by rw [e]; exact hav
      rcases hor with hor | hor
      · rw [if_pos hor] at hc
        rcases hc with ⟨ha1, hj, hev⟩ | ⟨ha1, hev⟩
        · refine TGo.il dX10_reckonAll_10 rfl ?_
          refine TGo.il2 dX10_reckonAll_12 rfl ?_
          refine TGo.icmp_ge 296 dX10_reckonAll_13 (by decide) (by omega) (fun h13 => ?_) (fun h13 => ?_)
          · exfalso; omega
          · refine TGo.al0 dX10_reckonAll_16 rfl ?_
            refine TGo.getI (t := 18) 32 32 (hT 0 (by decide)) rfl fgX10_397_10 dX10_reckonAll_17 rfl rfl rfl ?_
            refine TGo.toz 0 hb ?_
            refine TGo.if_ne 296 dX10_reckonAll_20 (by decide) (by decide) (fun h => absurd h (by decide)) (fun _ => ?_)
            refine TGo.al0 dX10_reckonAll_23 rfl ?_
            refine TGo.getI (t := 18) 15 15 (hT 0 (by decide)) rfl fgX10_326_10 dX10_reckonAll_24 rfl rfl rfl ?_
            refine TGo.toz _ (hz.1 15 rfl) ?_
            refine TGo.toz 0 hp ?_
            refine TGo.if_eq 40 dX10_reckonAll_27 (by decide) (by decide) (fun _ => ?_) (fun h => absurd h (by decide))
            refine TGo.al0 dX10_reckonAll_40 rfl ?_
            refine TGo.getS (t := 18) 3 3 (T + 2) (hT 0 (by decide)) rfl fgX10_13_10 dX10_reckonAll_41 rfl rfl rfl ?_
            refine TGo.al0 dX10_reckonAll_44 rfl ?_
            refine TGo.getI (t := 18) 28 28 (hT 0 (by decide)) rfl fgX10_400_10 dX10_reckonAll_45 rfl rfl rfl ?_
            refine TGo.toz L ((hfr.1 _ _ (by omega)).trans hL) ?_
            refine TGo.bip 98 dX10_reckonAll_48 (by decide) ?_
            refine TGo.iadd dX10_reckonAll_50 ?_
            refine TGo.ic2 dX10_reckonAll_51 ?_
            refine TGo.il dX10_reckonAll_52 rfl ?_
            refine TGo.imul dX10_reckonAll_54 ?_
            refine TGo.iadd dX10_reckonAll_55 ?_
            refine TGo.iald dX10_reckonAll_56 (hT 2 (by decide)) (by omega) rfl ?_
            refine TGo.toz _ (hz.2.1 3 (by decide) _) ?_
            refine TGo.toz (op k) (ho k) ?_
            refine TGo.is dX10_reckonAll_57 rfl rfl ?_
            refine TGo.al0 dX10_reckonAll_59 rfl ?_
            refine TGo.getI (t := 18) 15 15 (hT 0 (by decide)) rfl fgX10_326_10 dX10_reckonAll_60 rfl rfl rfl ?_
            refine TGo.toz _ (hz.1 15 rfl) ?_
            refine TGo.toz 0 hp ?_
            refine TGo.if_eq 76 dX10_reckonAll_63 (by decide) (by decide) (fun _ => ?_) (fun h => absurd h (by decide))
            refine TGo.al0 dX10_reckonAll_76 rfl ?_
            refine TGo.getS (t := 18) 3 3 (T + 2) (hT 0 (by decide)) rfl fgX10_13_10 dX10_reckonAll_77 rfl rfl rfl ?_
            refine TGo.al0 dX10_reckonAll_80 rfl ?_
            refine TGo.getI (t := 18) 28 28 (hT 0 (by decide)) rfl fgX10_400_10 dX10_reckonAll_81 rfl rfl rfl ?_
            refine TGo.toz L ((hfr.1 _ _ (by omega)).trans hL) ?_
            refine TGo.bip 98 dX10_reckonAll_84 (by decide) ?_
            refine TGo.iadd dX10_reckonAll_86 ?_
            refine TGo.ic2 dX10_reckonAll_87 ?_
            refine TGo.il dX10_reckonAll_88 rfl ?_
            refine TGo.imul dX10_reckonAll_90 ?_
            refine TGo.iadd dX10_reckonAll_91 ?_
            refine TGo.ic1 dX10_reckonAll_92 ?_
            refine TGo.iadd dX10_reckonAll_93 ?_
            refine TGo.iald dX10_reckonAll_94 (hT 2 (by decide)) (by omega) rfl ?_
            refine TGo.toz _ (hz.2.1 3 (by decide) _) ?_
            refine TGo.toz (ag k) (hg k) ?_
            refine TGo.is dX10_reckonAll_95 rfl rfl ?_
            refine TGo.iinc dX10_reckonAll_97 rfl rfl rfl ?_
            refine TGo.il dX10_reckonAll_100 rfl ?_
            refine TGo.bip 20 dX10_reckonAll_102 (by decide) ?_
            refine TGo.icmp_ge 154 dX10_reckonAll_104 (by decide) (by omega) (fun h104 => ?_) (fun h104 => ?_)
            · refine TGo.il dX10_reckonAll_154 rfl ?_
              refine TGo.bip 28 dX10_reckonAll_156 (by decide) ?_
              refine TGo.icmp_ge 231 dX10_reckonAll_158 (by decide) (by omega) (fun h158 => ?_) (fun h158 => ?_)
              · refine TGo.il dX10_reckonAll_231 rfl ?_
                refine TGo.bip 28 dX10_reckonAll_233 (by decide) ?_
                refine TGo.icmp_ne 259 dX10_reckonAll_235 (by decide) (by omega) (fun h235 => ?_) (fun h235 => ?_)
                · refine TGo.al0 dX10_reckonAll_259 rfl ?_
                  refine TGo.getS (t := 18) 31 31 (T + 15) (hT 0 (by decide)) rfl fgX10_82_10 dX10_reckonAll_260 rfl rfl rfl ?_
                  refine TGo.il3 dX10_reckonAll_263 rfl ?_
                  refine TGo.ic1 dX10_reckonAll_264 ?_
                  refine TGo.isub dX10_reckonAll_265 ?_
                  refine TGo.lald dX10_reckonAll_266 (hT 15 (by decide)) (by omega) rfl ?_
                  refine TGo.tol a (hav2 _ (by omega)) ?_
                  refine TGo.il dX10_reckonAll_267 rfl ?_
                  refine TGo.bip 29 dX10_reckonAll_269 (by decide) ?_
                  refine TGo.icmp_ne 278 dX10_reckonAll_271 (by decide) (by omega) (fun h271 => ?_) (fun h271 => ?_)
                  · exfalso; omega
                  · refine TGo.lc0 dX10_reckonAll_274 ?_
                    refine TGo.goto 279 dX10_reckonAll_275 (by decide) ?_
                    refine TGo.lc_ne 290 dX10_reckonAll_279 dX10_reckonAll_280 (by decide) (by omega) (fun h279 => ?_) (fun h279 => ?_)
                    · exfalso; omega
                    · refine TGo.il dX10_reckonAll_283 rfl ?_
                      refine TGo.is dX10_reckonAll_285 rfl rfl ?_
                      refine TGo.goto 293 dX10_reckonAll_287 (by decide) ?_
                      refine TGo.goto 10 dX10_reckonAll_293 (by decide) ?_
                      exact TGo.seq [some (.ref T), some (.int (iI i0)), some (.int (iI l)), some (.int (iI (((a :: st').length : Nat) : Int))), some (.int (iI (ag k))), _, _] [] _ (by rw [show N = (((a :: st' : List Int).length : Nat) : Int) by simp only [List.length_cons]; omega]; rfl) rfl rfl (ih (ag k) (a :: st') _ _ _ _ (by omega) (by omega) (by simp only [List.length_cons] at *; omega) rfl hz ⟨hav, ha9, hst3⟩ hfr (by first | exact hb | exact (u2_s) | assumption) hev)
                · exfalso; omega
              · exfalso; omega
            · exfalso; omega
        · refine TGo.il dX10_reckonAll_10 rfl ?_
          refine TGo.il2 dX10_reckonAll_12 rfl ?_
          refine TGo.icmp_ge 296 dX10_reckonAll_13 (by decide) (by omega) (fun h13 => ?_) (fun h13 => ?_)
          · exfalso; omega
          · refine TGo.al0 dX10_reckonAll_16 rfl ?_
            refine TGo.getI (t := 18) 32 32 (hT 0 (by decide)) rfl fgX10_397_10 dX10_reckonAll_17 rfl rfl rfl ?_
            refine TGo.toz 0 hb ?_
            refine TGo.if_ne 296 dX10_reckonAll_20 (by decide) (by decide) (fun h => absurd h (by decide)) (fun _ => ?_)
            refine TGo.al0 dX10_reckonAll_23 rfl ?_
            refine TGo.getI (t := 18) 15 15 (hT 0 (by decide)) rfl fgX10_326_10 dX10_reckonAll_24 rfl rfl rfl ?_
            refine TGo.toz _ (hz.1 15 rfl) ?_
            refine TGo.toz 0 hp ?_
            refine TGo.if_eq 40 dX10_reckonAll_27 (by decide) (by decide) (fun _ => ?_) (fun h => absurd h (by decide))
            refine TGo.al0 dX10_reckonAll_40 rfl ?_
            refine TGo.getS (t := 18) 3 3 (T + 2) (hT 0 (by decide)) rfl fgX10_13_10 dX10_reckonAll_41 rfl rfl rfl ?_
            refine TGo.al0 dX10_reckonAll_44 rfl ?_
            refine TGo.getI (t := 18) 28 28 (hT 0 (by decide)) rfl fgX10_400_10 dX10_reckonAll_45 rfl rfl rfl ?_
            refine TGo.toz L ((hfr.1 _ _ (by omega)).trans hL) ?_
            refine TGo.bip 98 dX10_reckonAll_48 (by decide) ?_
            refine TGo.iadd dX10_reckonAll_50 ?_
            refine TGo.ic2 dX10_reckonAll_51 ?_
            refine TGo.il dX10_reckonAll_52 rfl ?_
            refine TGo.imul dX10_reckonAll_54 ?_
            refine TGo.iadd dX10_reckonAll_55 ?_
            refine TGo.iald dX10_reckonAll_56 (hT 2 (by decide)) (by omega) rfl ?_
            refine TGo.toz _ (hz.2.1 3 (by decide) _) ?_
            refine TGo.toz (op k) (ho k) ?_
            refine TGo.is dX10_reckonAll_57 rfl rfl ?_
            refine TGo.al0 dX10_reckonAll_59 rfl ?_
            refine TGo.getI (t := 18) 15 15 (hT 0 (by decide)) rfl fgX10_326_10 dX10_reckonAll_60 rfl rfl rfl ?_
            refine TGo.toz _ (hz.1 15 rfl) ?_
            refine TGo.toz 0 hp ?_
            refine TGo.if_eq 76 dX10_reckonAll_63 (by decide) (by decide) (fun _ => ?_) (fun h => absurd h (by decide))
            refine TGo.al0 dX10_reckonAll_76 rfl ?_
            refine TGo.getS (t := 18) 3 3 (T + 2) (hT 0 (by decide)) rfl fgX10_13_10 dX10_reckonAll_77 rfl rfl rfl ?_
            refine TGo.al0 dX10_reckonAll_80 rfl ?_
            refine TGo.getI (t := 18) 28 28 (hT 0 (by decide)) rfl fgX10_400_10 dX10_reckonAll_81 rfl rfl rfl ?_
            refine TGo.toz L ((hfr.1 _ _ (by omega)).trans hL) ?_
            refine TGo.bip 98 dX10_reckonAll_84 (by decide) ?_
            refine TGo.iadd dX10_reckonAll_86 ?_
            refine TGo.ic2 dX10_reckonAll_87 ?_
            refine TGo.il dX10_reckonAll_88 rfl ?_
            refine TGo.imul dX10_reckonAll_90 ?_
            refine TGo.iadd dX10_reckonAll_91 ?_
            refine TGo.ic1 dX10_reckonAll_92 ?_
            refine TGo.iadd dX10_reckonAll_93 ?_
            refine TGo.iald dX10_reckonAll_94 (hT 2 (by decide)) (by omega) rfl ?_
            refine TGo.toz _ (hz.2.1 3 (by decide) _) ?_
            refine TGo.toz (ag k) (hg k) ?_
            refine TGo.is dX10_reckonAll_95 rfl rfl ?_
            refine TGo.iinc dX10_reckonAll_97 rfl rfl rfl ?_
            refine TGo.il dX10_reckonAll_100 rfl ?_
            refine TGo.bip 20 dX10_reckonAll_102 (by decide) ?_
            refine TGo.icmp_ge 154 dX10_reckonAll_104 (by decide) (by omega) (fun h104 => ?_) (fun h104 => ?_)
            · refine TGo.il dX10_reckonAll_154 rfl ?_
              refine TGo.bip 28 dX10_reckonAll_156 (by decide) ?_
              refine TGo.icmp_ge 231 dX10_reckonAll_158 (by decide) (by omega) (fun h158 => ?_) (fun h158 => ?_)
              · refine TGo.il dX10_reckonAll_231 rfl ?_
                refine TGo.bip 28 dX10_reckonAll_233 (by decide) ?_
                refine TGo.icmp_ne 259 dX10_reckonAll_235 (by decide) (by omega) (fun h235 => ?_) (fun h235 => ?_)
                · refine TGo.al0 dX10_reckonAll_259 rfl ?_
                  refine TGo.getS (t := 18) 31 31 (T + 15) (hT 0 (by decide)) rfl fgX10_82_10 dX10_reckonAll_260 rfl rfl rfl ?_
                  refine TGo.il3 dX10_reckonAll_263 rfl ?_
                  refine TGo.ic1 dX10_reckonAll_264 ?_
                  refine TGo.isub dX10_reckonAll_265 ?_
                  refine TGo.lald dX10_reckonAll_266 (hT 15 (by decide)) (by omega) rfl ?_
                  refine TGo.tol a (hav2 _ (by omega)) ?_
                  refine TGo.il dX10_reckonAll_267 rfl ?_
                  refine TGo.bip 29 dX10_reckonAll_269 (by decide) ?_
                  refine TGo.icmp_ne 278 dX10_reckonAll_271 (by decide) (by omega) (fun h271 => ?_) (fun h271 => ?_)
                  · exfalso; omega
                  · refine TGo.lc0 dX10_reckonAll_274 ?_
                    refine TGo.goto 279 dX10_reckonAll_275 (by decide) ?_
                    refine TGo.lc_ne 290 dX10_reckonAll_279 dX10_reckonAll_280 (by decide) (by omega) (fun h279 => ?_) (fun h279 => ?_)
                    · refine TGo.iinc dX10_reckonAll_290 rfl rfl rfl ?_
                      refine TGo.goto 10 dX10_reckonAll_293 (by decide) ?_
                      exact TGo.seq [some (.ref T), some (.int (iI i0)), some (.int (iI l)), some (.int (iI (((st').length : Nat) : Int))), some (.int (iI (k + 1))), _, _] [] _ (by rw [show N + -1 = ((st'.length : Nat) : Int) by omega]; rfl) rfl rfl (ih (k + 1) (st') _ _ _ _ (by omega) (by omega) (by simp only [List.length_cons] at *; omega) rfl hz hst3 hfr (by first | exact hb | exact (u2_s) | assumption) hev)
                    · exfalso; omega
                · exfalso; omega
              · exfalso; omega
            · exfalso; omega
      · rw [if_neg (by omega)] at hc
        rcases hc with ⟨ha1, hj, hev⟩ | ⟨ha1, hev⟩
        · refine TGo.il dX10_reckonAll_10 rfl ?_
          refine TGo.il2 dX10_reckonAll_12 rfl ?_
          refine TGo.icmp_ge 296 dX10_reckonAll_13 (by decide) (by omega) (fun h13 => ?_) (fun h13 => ?_)
          · exfalso; omega
          · refine TGo.al0 dX10_reckonAll_16 rfl ?_
            refine TGo.getI (t := 18) 32 32 (hT 0 (by decide)) rfl fgX10_397_10 dX10_reckonAll_17 rfl rfl rfl ?_
            refine TGo.toz 0 hb ?_
            refine TGo.if_ne 296 dX10_reckonAll_20 (by decide) (by decide) (fun h => absurd h (by decide)) (fun _ => ?_)
            refine TGo.al0 dX10_reckonAll_23 rfl ?_
            refine TGo.getI (t := 18) 15 15 (hT 0 (by decide)) rfl fgX10_326_10 dX10_reckonAll_24 rfl rfl rfl ?_
            refine TGo.toz _ (hz.1 15 rfl) ?_
            refine TGo.toz 0 hp ?_
            refine TGo.if_eq 40 dX10_reckonAll_27 (by decide) (by decide) (fun _ => ?_) (fun h => absurd h (by decide))
            refine TGo.al0 dX10_reckonAll_40 rfl ?_
            refine TGo.getS (t := 18) 3 3 (T + 2) (hT 0 (by decide)) rfl fgX10_13_10 dX10_reckonAll_41 rfl rfl rfl ?_
            refine TGo.al0 dX10_reckonAll_44 rfl ?_
            refine TGo.getI (t := 18) 28 28 (hT 0 (by decide)) rfl fgX10_400_10 dX10_reckonAll_45 rfl rfl rfl ?_
            refine TGo.toz L ((hfr.1 _ _ (by omega)).trans hL) ?_
            refine TGo.bip 98 dX10_reckonAll_48 (by decide) ?_
            refine TGo.iadd dX10_reckonAll_50 ?_
            refine TGo.ic2 dX10_reckonAll_51 ?_
            refine TGo.il dX10_reckonAll_52 rfl ?_
            refine TGo.imul dX10_reckonAll_54 ?_
            refine TGo.iadd dX10_reckonAll_55 ?_
            refine TGo.iald dX10_reckonAll_56 (hT 2 (by decide)) (by omega) rfl ?_
            refine TGo.toz _ (hz.2.1 3 (by decide) _) ?_
            refine TGo.toz (op k) (ho k) ?_
            refine TGo.is dX10_reckonAll_57 rfl rfl ?_
            refine TGo.al0 dX10_reckonAll_59 rfl ?_
            refine TGo.getI (t := 18) 15 15 (hT 0 (by decide)) rfl fgX10_326_10 dX10_reckonAll_60 rfl rfl rfl ?_
            refine TGo.toz _ (hz.1 15 rfl) ?_
            refine TGo.toz 0 hp ?_
            refine TGo.if_eq 76 dX10_reckonAll_63 (by decide) (by decide) (fun _ => ?_) (fun h => absurd h (by decide))
            refine TGo.al0 dX10_reckonAll_76 rfl ?_
            refine TGo.getS (t := 18) 3 3 (T + 2) (hT 0 (by decide)) rfl fgX10_13_10 dX10_reckonAll_77 rfl rfl rfl ?_
            refine TGo.al0 dX10_reckonAll_80 rfl ?_
            refine TGo.getI (t := 18) 28 28 (hT 0 (by decide)) rfl fgX10_400_10 dX10_reckonAll_81 rfl rfl rfl ?_
            refine TGo.toz L ((hfr.1 _ _ (by omega)).trans hL) ?_
            refine TGo.bip 98 dX10_reckonAll_84 (by decide) ?_
            refine TGo.iadd dX10_reckonAll_86 ?_
            refine TGo.ic2 dX10_reckonAll_87 ?_
            refine TGo.il dX10_reckonAll_88 rfl ?_
            refine TGo.imul dX10_reckonAll_90 ?_
            refine TGo.iadd dX10_reckonAll_91 ?_
            refine TGo.ic1 dX10_reckonAll_92 ?_
            refine TGo.iadd dX10_reckonAll_93 ?_
            refine TGo.iald dX10_reckonAll_94 (hT 2 (by decide)) (by omega) rfl ?_
            refine TGo.toz _ (hz.2.1 3 (by decide) _) ?_
            refine TGo.toz (ag k) (hg k) ?_
            refine TGo.is dX10_reckonAll_95 rfl rfl ?_
            refine TGo.iinc dX10_reckonAll_97 rfl rfl rfl ?_
            refine TGo.il dX10_reckonAll_100 rfl ?_
            refine TGo.bip 20 dX10_reckonAll_102 (by decide) ?_
            refine TGo.icmp_ge 154 dX10_reckonAll_104 (by decide) (by omega) (fun h104 => ?_) (fun h104 => ?_)
            · refine TGo.il dX10_reckonAll_154 rfl ?_
              refine TGo.bip 28 dX10_reckonAll_156 (by decide) ?_
              refine TGo.icmp_ge 231 dX10_reckonAll_158 (by decide) (by omega) (fun h158 => ?_) (fun h158 => ?_)
              · refine TGo.il dX10_reckonAll_231 rfl ?_
                refine TGo.bip 28 dX10_reckonAll_233 (by decide) ?_
                refine TGo.icmp_ne 259 dX10_reckonAll_235 (by decide) (by omega) (fun h235 => ?_) (fun h235 => ?_)
                · refine TGo.al0 dX10_reckonAll_259 rfl ?_
                  refine TGo.getS (t := 18) 31 31 (T + 15) (hT 0 (by decide)) rfl fgX10_82_10 dX10_reckonAll_260 rfl rfl rfl ?_
                  refine TGo.il3 dX10_reckonAll_263 rfl ?_
                  refine TGo.ic1 dX10_reckonAll_264 ?_
                  refine TGo.isub dX10_reckonAll_265 ?_
                  refine TGo.lald dX10_reckonAll_266 (hT 15 (by decide)) (by omega) rfl ?_
                  refine TGo.tol a (hav2 _ (by omega)) ?_
                  refine TGo.il dX10_reckonAll_267 rfl ?_
                  refine TGo.bip 29 dX10_reckonAll_269 (by decide) ?_
                  refine TGo.icmp_ne 278 dX10_reckonAll_271 (by decide) (by omega) (fun h271 => ?_) (fun h271 => ?_)
                  · refine TGo.lc1 dX10_reckonAll_278 ?_
                    refine TGo.lc_ne 290 dX10_reckonAll_279 dX10_reckonAll_280 (by decide) (by omega) (fun h279 => ?_) (fun h279 => ?_)
                    · exfalso; omega
                    · refine TGo.il dX10_reckonAll_283 rfl ?_
                      refine TGo.is dX10_reckonAll_285 rfl rfl ?_
                      refine TGo.goto 293 dX10_reckonAll_287 (by decide) ?_
                      refine TGo.goto 10 dX10_reckonAll_293 (by decide) ?_
                      exact TGo.seq [some (.ref T), some (.int (iI i0)), some (.int (iI l)), some (.int (iI (((a :: st').length : Nat) : Int))), some (.int (iI (ag k))), _, _] [] _ (by rw [show N = (((a :: st' : List Int).length : Nat) : Int) by simp only [List.length_cons]; omega]; rfl) rfl rfl (ih (ag k) (a :: st') _ _ _ _ (by omega) (by omega) (by simp only [List.length_cons] at *; omega) rfl hz ⟨hav, ha9, hst3⟩ hfr (by first | exact hb | exact (u2_s) | assumption) hev)
                  · exfalso; omega
                · exfalso; omega
              · exfalso; omega
            · exfalso; omega
        · refine TGo.il dX10_reckonAll_10 rfl ?_
          refine TGo.il2 dX10_reckonAll_12 rfl ?_
          refine TGo.icmp_ge 296 dX10_reckonAll_13 (by decide) (by omega) (fun h13 => ?_) (fun h13 => ?_)
          · exfalso; omega
          · refine TGo.al0 dX10_reckonAll_16 rfl ?_
            refine TGo.getI (t := 18) 32 32 (hT 0 (by decide)) rfl fgX10_397_10 dX10_reckonAll_17 rfl rfl rfl ?_
            refine TGo.toz 0 hb ?_
            refine TGo.if_ne 296 dX10_reckonAll_20 (by decide) (by decide) (fun h => absurd h (by decide)) (fun _ => ?_)
            refine TGo.al0 dX10_reckonAll_23 rfl ?_
            refine TGo.getI (t := 18) 15 15 (hT 0 (by decide)) rfl fgX10_326_10 dX10_reckonAll_24 rfl rfl rfl ?_
            refine TGo.toz _ (hz.1 15 rfl) ?_
            refine TGo.toz 0 hp ?_
            refine TGo.if_eq 40 dX10_reckonAll_27 (by decide) (by decide) (fun _ => ?_) (fun h => absurd h (by decide))
            refine TGo.al0 dX10_reckonAll_40 rfl ?_
            refine TGo.getS (t := 18) 3 3 (T + 2) (hT 0 (by decide)) rfl fgX10_13_10 dX10_reckonAll_41 rfl rfl rfl ?_
            refine TGo.al0 dX10_reckonAll_44 rfl ?_
            refine TGo.getI (t := 18) 28 28 (hT 0 (by decide)) rfl fgX10_400_10 dX10_reckonAll_45 rfl rfl rfl ?_
            refine TGo.toz L ((hfr.1 _ _ (by omega)).trans hL) ?_
            refine TGo.bip 98 dX10_reckonAll_48 (by decide) ?_
            refine TGo.iadd dX10_reckonAll_50 ?_
            refine TGo.ic2 dX10_reckonAll_51 ?_
            refine TGo.il dX10_reckonAll_52 rfl ?_
            refine TGo.imul dX10_reckonAll_54 ?_
            refine TGo.iadd dX10_reckonAll_55 ?_
            refine TGo.iald dX10_reckonAll_56 (hT 2 (by decide)) (by omega) rfl ?_
            refine TGo.toz _ (hz.2.1 3 (by decide) _) ?_
            refine TGo.toz (op k) (ho k) ?_
            refine TGo.is dX10_reckonAll_57 rfl rfl ?_
            refine TGo.al0 dX10_reckonAll_59 rfl ?_
            refine TGo.getI (t := 18) 15 15 (hT 0 (by decide)) rfl fgX10_326_10 dX10_reckonAll_60 rfl rfl rfl ?_
            refine TGo.toz _ (hz.1 15 rfl) ?_
            refine TGo.toz 0 hp ?_
            refine TGo.if_eq 76 dX10_reckonAll_63 (by decide) (by decide) (fun _ => ?_) (fun h => absurd h (by decide))
            refine TGo.al0 dX10_reckonAll_76 rfl ?_
            refine TGo.getS (t := 18) 3 3 (T + 2) (hT 0 (by decide)) rfl fgX10_13_10 dX10_reckonAll_77 rfl rfl rfl ?_
            refine TGo.al0 dX10_reckonAll_80 rfl ?_
            refine TGo.getI (t := 18) 28 28 (hT 0 (by decide)) rfl fgX10_400_10 dX10_reckonAll_81 rfl rfl rfl ?_
            refine TGo.toz L ((hfr.1 _ _ (by omega)).trans hL) ?_
            refine TGo.bip 98 dX10_reckonAll_84 (by decide) ?_
            refine TGo.iadd dX10_reckonAll_86 ?_
            refine TGo.ic2 dX10_reckonAll_87 ?_
            refine TGo.il dX10_reckonAll_88 rfl ?_
            refine TGo.imul dX10_reckonAll_90 ?_
            refine TGo.iadd dX10_reckonAll_91 ?_
            refine TGo.ic1 dX10_reckonAll_92 ?_
            refine TGo.iadd dX10_reckonAll_93 ?_
            refine TGo.iald dX10_reckonAll_94 (hT 2 (by decide)) (by omega) rfl ?_
            refine TGo.toz _ (hz.2.1 3 (by decide) _) ?_
            refine TGo.toz (ag k) (hg k) ?_
            refine TGo.is dX10_reckonAll_95 rfl rfl ?_
            refine TGo.iinc dX10_reckonAll_97 rfl rfl rfl ?_
            refine TGo.il dX10_reckonAll_100 rfl ?_
            refine TGo.bip 20 dX10_reckonAll_102 (by decide) ?_
            refine TGo.icmp_ge 154 dX10_reckonAll_104 (by decide) (by omega) (fun h104 => ?_) (fun h104 => ?_)
            · refine TGo.il dX10_reckonAll_154 rfl ?_
              refine TGo.bip 28 dX10_reckonAll_156 (by decide) ?_
              refine TGo.icmp_ge 231 dX10_reckonAll_158 (by decide) (by omega) (fun h158 => ?_) (fun h158 => ?_)
              · refine TGo.il dX10_reckonAll_231 rfl ?_
                refine TGo.bip 28 dX10_reckonAll_233 (by decide) ?_
                refine TGo.icmp_ne 259 dX10_reckonAll_235 (by decide) (by omega) (fun h235 => ?_) (fun h235 => ?_)
                · refine TGo.al0 dX10_reckonAll_259 rfl ?_
                  refine TGo.getS (t := 18) 31 31 (T + 15) (hT 0 (by decide)) rfl fgX10_82_10 dX10_reckonAll_260 rfl rfl rfl ?_
                  refine TGo.il3 dX10_reckonAll_263 rfl ?_
                  refine TGo.ic1 dX10_reckonAll_264 ?_
                  refine TGo.isub dX10_reckonAll_265 ?_
                  refine TGo.lald dX10_reckonAll_266 (hT 15 (by decide)) (by omega) rfl ?_
                  refine TGo.tol a (hav2 _ (by omega)) ?_
                  refine TGo.il dX10_reckonAll_267 rfl ?_
                  refine TGo.bip 29 dX10_reckonAll_269 (by decide) ?_
                  refine TGo.icmp_ne 278 dX10_reckonAll_271 (by decide) (by omega) (fun h271 => ?_) (fun h271 => ?_)
                  · refine TGo.lc1 dX10_reckonAll_278 ?_
                    refine TGo.lc_ne 290 dX10_reckonAll_279 dX10_reckonAll_280 (by decide) (by omega) (fun h279 => ?_) (fun h279 => ?_)
                    · refine TGo.iinc dX10_reckonAll_290 rfl rfl rfl ?_
                      refine TGo.goto 10 dX10_reckonAll_293 (by decide) ?_
                      exact TGo.seq [some (.ref T), some (.int (iI i0)), some (.int (iI l)), some (.int (iI (((st').length : Nat) : Int))), some (.int (iI (k + 1))), _, _] [] _ (by rw [show N + -1 = ((st'.length : Nat) : Int) by omega]; rfl) rfl rfl (ih (k + 1) (st') _ _ _ _ (by omega) (by omega) (by simp only [List.length_cons] at *; omega) rfl hz hst3 hfr (by first | exact hb | exact (u2_s) | assumption) hev)
                    · exfalso; omega
                  · exfalso; omega
                · exfalso; omega
              · exfalso; omega
            · exfalso; omega
set_option maxHeartbeats 8000000 in
theorem lX10_reckonAll1 {E : ET} {sh : SHT} {nn : Nat × Nat} {V0 : VT} {T : Nat} {z : ZT} {op ag val : Int → Int} {L i0 l : Int} {R : Option (List Int)} (hT : MSh T sh) (hcode : CodeZ T V0 z op ag val true L) (hl : 0 ≤ l ∧ l ≤ 400) (hv9 : ∀ i, 1 ≤ i → i ≤ 8 → (-1000000000 ≤ val i ∧ val i ≤ 1000000000)) : ∀ (n : Nat) (k : Int) (st : List Int) (N : Int) (V : VT) (x5 x6 : Option Value), l - k ≤ (n : Int) → (0 ≤ k ∧ k ≤ 400) → st.length ≤ 400 → N = (st.length : Int) → PE T V z → StkZ T V st → FrE T V0 V → V.1 T 32 = 0 → evZ op ag val l n k st = some R → TGo E mX10_reckonAll 2 10 [some (.ref T), some (.int (iI i0)), some (.int (iI l)), some (.int (iI N)), some (.int (iI k)), x5, x6] [] sh nn V (fun o sh' nn' V' => o = .inl none ∧ sh' = sh ∧ nn' = nn ∧ PE T V' z ∧ (∀ c i, (c ≠ T ∨ i ≠ 32) → V'.1 c i = V0.1 c i) ∧ (∀ c, c ≠ T → c ≠ T + 15 → V'.2.1 c = V0.2.1 c) ∧ (∀ i, i ≠ 33 → V'.2.1 T i = V0.2.1 T i) ∧ V'.2.2 = V0.2.2 ∧ RkP T V' R) := by
  obtain ⟨hp, ho, hg, hval⟩ := hcode
  intro n
  induction n with
  | zero =>
    intro k st N V x5 x6 hlk hk hlen hN hz hst hfr hb hev
    rw [evZ] at hev
    obtain rfl := Option.some.inj hev
    exact aX10_reckonAll hT hz hfr hst hN (by omega) hb (by omega) (by omega)
  | succ n ih =>
    intro k st N V x5 x6 hlk hk hlen hN hz hst hfr hb hev
    by_cases hkl : l ≤ k
    · obtain rfl := evZ_0 hev hkl
      exact aX10_reckonAll hT hz hfr hst hN (by omega) hb (by omega) hkl
    rcases evZ_c hev hkl with ⟨h0, har, hle, hev⟩ | ⟨hor, hle, hev⟩ | ⟨hor, b, a, st', rfl, hc⟩ | ⟨hor, a, st', rfl, ha01, hev⟩ | ⟨hor, a, st', rfl, hc⟩
    · refine TGo.il dX10_reckonAll_10 rfl ?_
      refine TGo.il2 dX10_reckonAll_12 rfl ?_
      refine TGo.icmp_ge 296 dX10_reckonAll_13 (by decide) (by omega) (fun h13 => ?_) (fun h13 => ?_)
      · exfalso; omega
      · refine TGo.al0 dX10_reckonAll_16 rfl ?_
        refine TGo.getI (t := 18) 32 32 (hT 0 (by decide)) rfl fgX10_397_10 dX10_reckonAll_17 rfl rfl rfl ?_
        refine TGo.toz 0 hb ?_
        refine TGo.if_ne 296 dX10_reckonAll_20 (by decide) (by decide) (fun h => absurd h (by decide)) (fun _ => ?_)
        refine TGo.al0 dX10_reckonAll_23 rfl ?_
        refine TGo.getI (t := 18) 15 15 (hT 0 (by decide)) rfl fgX10_326_10 dX10_reckonAll_24 rfl rfl rfl ?_
        refine TGo.toz _ (hz.1 15 rfl) ?_
        refine TGo.toz 1 hp ?_
        refine TGo.if_eq 40 dX10_reckonAll_27 (by decide) (by decide) (fun h => absurd h (by decide)) (fun _ => ?_)
        refine TGo.al0 dX10_reckonAll_30 rfl ?_
        refine TGo.getS (t := 18) 19 19 (T + 7) (hT 0 (by decide)) rfl fgX10_33_10 dX10_reckonAll_31 rfl rfl rfl ?_
        refine TGo.il dX10_reckonAll_34 rfl ?_
        refine TGo.iald dX10_reckonAll_36 (hT 7 (by decide)) (by omega) rfl ?_
        refine TGo.toz (op k) ((hfr.1 _ _ (by omega)).trans (ho k)) ?_
        refine TGo.goto 57 dX10_reckonAll_37 (by decide) ?_
        refine TGo.is dX10_reckonAll_57 rfl rfl ?_
        refine TGo.al0 dX10_reckonAll_59 rfl ?_
        refine TGo.getI (t := 18) 15 15 (hT 0 (by decide)) rfl fgX10_326_10 dX10_reckonAll_60 rfl rfl rfl ?_
        refine TGo.toz _ (hz.1 15 rfl) ?_
        refine TGo.toz 1 hp ?_
        refine TGo.if_eq 76 dX10_reckonAll_63 (by decide) (by decide) (fun h => absurd h (by decide)) (fun _ => ?_)
        refine TGo.al0 dX10_reckonAll_66 rfl ?_
        refine TGo.getS (t := 18) 20 20 (T + 8) (hT 0 (by decide)) rfl fgX10_36_10 dX10_reckonAll_67 rfl rfl rfl ?_
        refine TGo.il dX10_reckonAll_70 rfl ?_
        refine TGo.iald dX10_reckonAll_72 (hT 8 (by decide)) (by omega) rfl ?_
        refine TGo.toz (ag k) ((hfr.1 _ _ (by omega)).trans (hg k)) ?_
        refine TGo.goto 95 dX10_reckonAll_73 (by decide) ?_
        refine TGo.is dX10_reckonAll_95 rfl rfl ?_
        refine TGo.iinc dX10_reckonAll_97 rfl rfl rfl ?_
        refine TGo.il dX10_reckonAll_100 rfl ?_
        refine TGo.bip 20 dX10_reckonAll_102 (by decide) ?_
        refine TGo.icmp_ge 154 dX10_reckonAll_104 (by decide) (by omega) (fun h104 => ?_) (fun h104 => ?_)
        · exfalso; omega
        · refine TGo.al0 dX10_reckonAll_107 rfl ?_
          refine TGo.getS (t := 18) 31 31 (T + 15) (hT 0 (by decide)) rfl fgX10_82_10 dX10_reckonAll_108 rfl rfl rfl ?_
          refine TGo.il3 dX10_reckonAll_111 rfl ?_
          refine TGo.il dX10_reckonAll_112 rfl ?_
          refine TGo.if_ne 123 dX10_reckonAll_114 (by decide) (by omega) (fun h114 => ?_) (fun h114 => ?_)
          · exfalso; omega
          · refine TGo.il dX10_reckonAll_117 rfl ?_
            refine TGo.i2l dX10_reckonAll_119 (by omega) ?_
            refine TGo.goto 147 dX10_reckonAll_120 (by decide) ?_
            refine TGo.last dX10_reckonAll_147 (hT 15 (by decide)) (by omega) rfl ?_
            refine TGo.iinc dX10_reckonAll_148 rfl rfl rfl ?_
            refine TGo.goto 293 dX10_reckonAll_151 (by decide) ?_
            refine TGo.goto 10 dX10_reckonAll_293 (by decide) ?_
            exact TGo.seq [some (.ref T), some (.int (iI i0)), some (.int (iI l)), some (.int (iI (((ag k :: st).length : Nat) : Int))), some (.int (iI (k + 1))), _, _] [] _ (by first | rfl | (rw [hN]; rfl)) rfl rfl (ih (k + 1) (ag k :: st) _ _ _ _ (by omega) (by omega) (by simp only [List.length_cons] at *; omega) rfl (hz.la 15 rfl) (hst.push hN (by omega)) (hfr.l) (by first | exact hb | exact (u2_s) | assumption) hev)
    · refine TGo.il dX10_reckonAll_10 rfl ?_
      refine TGo.il2 dX10_reckonAll_12 rfl ?_
      refine TGo.icmp_ge 296 dX10_reckonAll_13 (by decide) (by omega) (fun h13 => ?_) (fun h13 => ?_)
      · exfalso; omega
      · refine TGo.al0 dX10_reckonAll_16 rfl ?_
        refine TGo.getI (t := 18) 32 32 (hT 0 (by decide)) rfl fgX10_397_10 dX10_reckonAll_17 rfl rfl rfl ?_
        refine TGo.toz 0 hb ?_
        refine TGo.if_ne 296 dX10_reckonAll_20 (by decide) (by decide) (fun h => absurd h (by decide)) (fun _ => ?_)
        refine TGo.al0 dX10_reckonAll_23 rfl ?_
        refine TGo.getI (t := 18) 15 15 (hT 0 (by decide)) rfl fgX10_326_10 dX10_reckonAll_24 rfl rfl rfl ?_
        refine TGo.toz _ (hz.1 15 rfl) ?_
        refine TGo.toz 1 hp ?_
        refine TGo.if_eq 40 dX10_reckonAll_27 (by decide) (by decide) (fun h => absurd h (by decide)) (fun _ => ?_)
        refine TGo.al0 dX10_reckonAll_30 rfl ?_
        refine TGo.getS (t := 18) 19 19 (T + 7) (hT 0 (by decide)) rfl fgX10_33_10 dX10_reckonAll_31 rfl rfl rfl ?_
        refine TGo.il dX10_reckonAll_34 rfl ?_
        refine TGo.iald dX10_reckonAll_36 (hT 7 (by decide)) (by omega) rfl ?_
        refine TGo.toz (op k) ((hfr.1 _ _ (by omega)).trans (ho k)) ?_
        refine TGo.goto 57 dX10_reckonAll_37 (by decide) ?_
        refine TGo.is dX10_reckonAll_57 rfl rfl ?_
        refine TGo.al0 dX10_reckonAll_59 rfl ?_
        refine TGo.getI (t := 18) 15 15 (hT 0 (by decide)) rfl fgX10_326_10 dX10_reckonAll_60 rfl rfl rfl ?_
        refine TGo.toz _ (hz.1 15 rfl) ?_
        refine TGo.toz 1 hp ?_
        refine TGo.if_eq 76 dX10_reckonAll_63 (by decide) (by decide) (fun h => absurd h (by decide)) (fun _ => ?_)
        refine TGo.al0 dX10_reckonAll_66 rfl ?_
        refine TGo.getS (t := 18) 20 20 (T + 8) (hT 0 (by decide)) rfl fgX10_36_10 dX10_reckonAll_67 rfl rfl rfl ?_
        refine TGo.il dX10_reckonAll_70 rfl ?_
        refine TGo.iald dX10_reckonAll_72 (hT 8 (by decide)) (by omega) rfl ?_
        refine TGo.toz (ag k) ((hfr.1 _ _ (by omega)).trans (hg k)) ?_
        refine TGo.goto 95 dX10_reckonAll_73 (by decide) ?_
        refine TGo.is dX10_reckonAll_95 rfl rfl ?_
        refine TGo.iinc dX10_reckonAll_97 rfl rfl rfl ?_
        refine TGo.il dX10_reckonAll_100 rfl ?_
        refine TGo.bip 20 dX10_reckonAll_102 (by decide) ?_
        refine TGo.icmp_ge 154 dX10_reckonAll_104 (by decide) (by omega) (fun h104 => ?_) (fun h104 => ?_)
        · exfalso; omega
        · refine TGo.al0 dX10_reckonAll_107 rfl ?_
          refine TGo.getS (t := 18) 31 31 (T + 15) (hT 0 (by decide)) rfl fgX10_82_10 dX10_reckonAll_108 rfl rfl rfl ?_
          refine TGo.il3 dX10_reckonAll_111 rfl ?_
          refine TGo.il dX10_reckonAll_112 rfl ?_
          refine TGo.if_ne 123 dX10_reckonAll_114 (by decide) (by omega) (fun h114 => ?_) (fun h114 => ?_)
          · refine TGo.al0 dX10_reckonAll_123 rfl ?_
            refine TGo.getI (t := 18) 15 15 (hT 0 (by decide)) rfl fgX10_326_10 dX10_reckonAll_124 rfl rfl rfl ?_
            refine TGo.toz _ (hz.1 15 rfl) ?_
            refine TGo.toz 1 hp ?_
            refine TGo.if_eq 140 dX10_reckonAll_127 (by decide) (by decide) (fun h => absurd h (by decide)) (fun _ => ?_)
            refine TGo.al0 dX10_reckonAll_130 rfl ?_
            refine TGo.getS (t := 18) 30 30 (T + 14) (hT 0 (by decide)) rfl fgX10_79_10 dX10_reckonAll_131 rfl rfl rfl ?_
            refine TGo.il dX10_reckonAll_134 rfl ?_
            refine TGo.lald dX10_reckonAll_136 (hT 14 (by decide)) (by omega) rfl ?_
            refine TGo.tol (val (op k)) ((congrFun (hfr.2.1 _ (by simp)) _).trans (hval _ (by omega) (by omega))) ?_
            refine TGo.goto 147 dX10_reckonAll_137 (by decide) ?_
            refine TGo.last dX10_reckonAll_147 (hT 15 (by decide)) (by omega) rfl ?_
            refine TGo.iinc dX10_reckonAll_148 rfl rfl rfl ?_
            refine TGo.goto 293 dX10_reckonAll_151 (by decide) ?_
            refine TGo.goto 10 dX10_reckonAll_293 (by decide) ?_
            exact TGo.seq [some (.ref T), some (.int (iI i0)), some (.int (iI l)), some (.int (iI (((val (op k) :: st).length : Nat) : Int))), some (.int (iI (k + 1))), _, _] [] _ (by first | rfl | (rw [hN]; rfl)) rfl rfl (ih (k + 1) (val (op k) :: st) _ _ _ _ (by omega) (by omega) (by simp only [List.length_cons] at *; omega) rfl (hz.la 15 rfl) (hst.push hN (hv9 _ (by omega) (by omega))) (hfr.l) (by first | exact hb | exact (u2_s) | assumption) hev)
          · exfalso; omega
    · obtain ⟨hbv, hb9, hst2⟩ := hst
      obtain ⟨hav, ha9, hst3⟩ := hst2
      simp only [List.length_cons] at hN hbv hlen
      have hav2 : ∀ w, w = (st'.length : Int) → V.2.1 (T + 15) w = a := fun w e => by rw [e]; exact hav
      have hbv2 : ∀ w, w = (st'.length : Int) + 1 → V.2.1 (T + 15) w = b := fun w e => by rw [e]; exact hbv
      rcases hc with ⟨hr, rfl⟩ | ⟨v, hr, hc⟩
      · refine TGo.il dX10_reckonAll_10 rfl ?_
        refine TGo.il2 dX10_reckonAll_12 rfl ?_
        refine TGo.icmp_ge 296 dX10_reckonAll_13 (by decide) (by omega) (fun h13 => ?_) (fun h13 => ?_)
        · exfalso; omega
        · refine TGo.al0 dX10_reckonAll_16 rfl ?_
          refine TGo.getI (t := 18) 32 32 (hT 0 (by decide)) rfl fgX10_397_10 dX10_reckonAll_17 rfl rfl rfl ?_
          refine TGo.toz 0 hb ?_
          refine TGo.if_ne 296 dX10_reckonAll_20 (by decide) (by decide) (fun h => absurd h (by decide)) (fun _ => ?_)
          refine TGo.al0 dX10_reckonAll_23 rfl ?_
          refine TGo.getI (t := 18) 15 15 (hT 0 (by decide)) rfl fgX10_326_10 dX10_reckonAll_24 rfl rfl rfl ?_
          refine TGo.toz _ (hz.1 15 rfl) ?_
          refine TGo.toz 1 hp ?_
          refine TGo.if_eq 40 dX10_reckonAll_27 (by decide) (by decide) (fun h => absurd h (by decide)) (fun _ => ?_)
          refine TGo.al0 dX10_reckonAll_30 rfl ?_
          refine TGo.getS (t := 18) 19 19 (T + 7) (hT 0 (by decide)) rfl fgX10_33_10 dX10_reckonAll_31 rfl rfl rfl ?_
          refine TGo.il dX10_reckonAll_34 rfl ?_
          refine TGo.iald dX10_reckonAll_36 (hT 7 (by decide)) (by omega) rfl ?_
          refine TGo.toz (op k) ((hfr.1 _ _ (by omega)).trans (ho k)) ?_
          refine TGo.goto 57 dX10_reckonAll_37 (by decide) ?_
          refine TGo.is dX10_reckonAll_57 rfl rfl ?_
          refine TGo.al0 dX10_reckonAll_59 rfl ?_
          refine TGo.getI (t := 18) 15 15 (hT 0 (by decide)) rfl fgX10_326_10 dX10_reckonAll_60 rfl rfl rfl ?_
          refine TGo.toz _ (hz.1 15 rfl) ?_
          refine TGo.toz 1 hp ?_
          refine TGo.if_eq 76 dX10_reckonAll_63 (by decide) (by decide) (fun h => absurd h (by decide)) (fun _ => ?_)
          refine TGo.al0 dX10_reckonAll_66 rfl ?_
          refine TGo.getS (t := 18) 20 20 (T + 8) (hT 0 (by decide)) rfl fgX10_36_10 dX10_reckonAll_67 rfl rfl rfl ?_
          refine TGo.il dX10_reckonAll_70 rfl ?_
          refine TGo.iald dX10_reckonAll_72 (hT 8 (by decide)) (by omega) rfl ?_
          refine TGo.toz (ag k) ((hfr.1 _ _ (by omega)).trans (hg k)) ?_
          refine TGo.goto 95 dX10_reckonAll_73 (by decide) ?_
          refine TGo.is dX10_reckonAll_95 rfl rfl ?_
          refine TGo.iinc dX10_reckonAll_97 rfl rfl rfl ?_
          refine TGo.il dX10_reckonAll_100 rfl ?_
          refine TGo.bip 20 dX10_reckonAll_102 (by decide) ?_
          refine TGo.icmp_ge 154 dX10_reckonAll_104 (by decide) (by omega) (fun h104 => ?_) (fun h104 => ?_)
          · refine TGo.il dX10_reckonAll_154 rfl ?_
            refine TGo.bip 28 dX10_reckonAll_156 (by decide) ?_
            refine TGo.icmp_ge 231 dX10_reckonAll_158 (by decide) (by omega) (fun h158 => ?_) (fun h158 => ?_)
            · exfalso; omega
            · refine TGo.iinc dX10_reckonAll_161 rfl rfl rfl ?_
              refine TGo.al0 dX10_reckonAll_164 rfl ?_
              refine TGo.getS (t := 18) 31 31 (T + 15) (hT 0 (by decide)) rfl fgX10_82_10 dX10_reckonAll_165 rfl rfl rfl ?_
              refine TGo.il3 dX10_reckonAll_168 rfl ?_
              refine TGo.ic1 dX10_reckonAll_169 ?_
              refine TGo.isub dX10_reckonAll_170 ?_
              refine TGo.al0 dX10_reckonAll_171 rfl ?_
              refine TGo.il dX10_reckonAll_172 rfl ?_
              refine TGo.al0 dX10_reckonAll_174 rfl ?_
              refine TGo.getS (t := 18) 31 31 (T + 15) (hT 0 (by decide)) rfl fgX10_82_10 dX10_reckonAll_175 rfl rfl rfl ?_
              refine TGo.il3 dX10_reckonAll_178 rfl ?_
              refine TGo.ic1 dX10_reckonAll_179 ?_
              refine TGo.isub dX10_reckonAll_180 ?_
              refine TGo.lald dX10_reckonAll_181 (hT 15 (by decide)) (by omega) rfl ?_
              refine TGo.tol a (hav2 _ (by omega)) ?_
              refine TGo.al0 dX10_reckonAll_182 rfl ?_
              refine TGo.getS (t := 18) 31 31 (T + 15) (hT 0 (by decide)) rfl fgX10_82_10 dX10_reckonAll_183 rfl rfl rfl ?_
              refine TGo.il3 dX10_reckonAll_186 rfl ?_
              refine TGo.lald dX10_reckonAll_187 (hT 15 (by decide)) (by omega) rfl ?_
              refine TGo.tol b (hbv2 _ (by omega)) ?_
              refine TGo.cS (csV3 (y2 := mX10_reckon) (t := 18) 1 rfl (hT 0 (by decide)) rfl rfl dX10_reckonAll_188 q2301 q2303 qs75 okX10_reckon npX10_reckon rfl rfl) (kX10_reckon hT hz (by omega) ha9 hb9 hb) (fun v188 V188 h188 => ?_)
              obtain ⟨hz188, hq188, hf188, ht188, rfl⟩ := h188
              rw [hr]
              refine TGo.tol 0 rfl ?_
              refine TGo.last dX10_reckonAll_191 (hT 15 (by decide)) (by omega) rfl ?_
              refine TGo.al0 dX10_reckonAll_192 rfl ?_
              refine TGo.al0 dX10_reckonAll_193 rfl ?_
              refine TGo.getI (t := 18) 32 32 (hT 0 (by decide)) rfl fgX10_397_10 dX10_reckonAll_194 rfl rfl rfl ?_
              refine TGo.toz 1 ((ht188.trans (by rw [hr]; rfl))) ?_
              refine TGo.if_ne 220 dX10_reckonAll_197 (by decide) (by decide) (fun _ => ?_) (fun h => absurd h (by decide))
              refine TGo.ic1 dX10_reckonAll_220 ?_
              refine TGo.goto 225 dX10_reckonAll_221 (by decide) ?_
              refine TGo.putZ (t := 18) 32 32 (hT 0 (by decide)) rfl fpX10_397_10 dX10_reckonAll_225 rfl ⟨rfl, (by first | exact Or.inl rfl | exact Or.inr rfl | exact bZ_or _ | assumption)⟩ rfl ?_
              refine TGo.goto 293 dX10_reckonAll_228 (by decide) ?_
              refine TGo.goto 10 dX10_reckonAll_293 (by decide) ?_
              exact TGo.seq [some (.ref T), some (.int (iI i0)), some (.int (iI l)), some (.int (iI (((0 :: st').length : Nat) : Int))), some (.int (iI (k + 1))), _, _] [] _ (by rw [show N + -1 = (((_ :: st' : List Int).length : Nat) : Int) by simp only [List.length_cons]; omega]; rfl) rfl rfl (eX10_reckonAll hT ((hz188.la 15 rfl).s rfl) ((hfr.k hf188 hq188).l.b) (by simp only [List.length_cons] at *; omega) u2_s (by omega))
          · exfalso; omega
      · have hr2 := rkZ_r ha9 hb9 hr
        rcases hc with ⟨hfar, rfl⟩ | ⟨hfar, hev⟩
        · refine TGo.il dX10_reckonAll_10 rfl ?_
          refine TGo.il2 dX10_reckonAll_12 rfl ?_
          refine TGo.icmp_ge 296 dX10_reckonAll_13 (by decide) (by omega) (fun h13 => ?_) (fun h13 => ?_)
          · exfalso; omega
          · refine TGo.al0 dX10_reckonAll_16 rfl ?_
            refine TGo.getI (t := 18) 32 32 (hT 0 (by decide)) rfl fgX10_397_10 dX10_reckonAll_17 rfl rfl rfl ?_
            refine TGo.toz 0 hb ?_
            refine TGo.if_ne 296 dX10_reckonAll_20 (by decide) (by decide) (fun h => absurd h (by decide)) (fun _ => ?_)
            refine TGo.al0 dX10_reckonAll_23 rfl ?_
            refine TGo.getI (t := 18) 15 15 (hT 0 (by decide)) rfl fgX10_326_10 dX10_reckonAll_24 rfl rfl rfl ?_
            refine TGo.toz _ (hz.1 15 rfl) ?_
            refine TGo.toz 1 hp ?_
            refine TGo.if_eq 40 dX10_reckonAll_27 (by decide) (by decide) (fun h => absurd h (by decide)) (fun _ => ?_)
            refine TGo.al0 dX10_reckonAll_30 rfl ?_
            refine TGo.getS (t := 18) 19 19 (T + 7) (hT 0 (by decide)) rfl fgX10_33_10 dX10_reckonAll_31 rfl rfl rfl ?_
            refine TGo.il dX10_reckonAll_34 rfl ?_
            refine TGo.iald dX10_reckonAll_36 (hT 7 (by decide)) (by omega) rfl ?_
            refine TGo.toz (op k) ((hfr.1 _ _ (by omega)).trans (ho k)) ?_
            refine TGo.goto 57 dX10_reckonAll_37 (by decide) ?_
            refine TGo.is dX10_reckonAll_57 rfl rfl ?_
            refine TGo.al0 dX10_reckonAll_59 rfl ?_
            refine TGo.getI (t := 18) 15 15 (hT 0 (by decide)) rfl fgX10_326_10 dX10_reckonAll_60 rfl rfl rfl ?_
            refine TGo.toz _ (hz.1 15 rfl) ?_
            refine TGo.toz 1 hp ?_
            refine TGo.if_eq 76 dX10_reckonAll_63 (by decide) (by decide) (fun h => absurd h (by decide)) (fun _ => ?_)
            refine TGo.al0 dX10_reckonAll_66 rfl ?_
            refine TGo.getS (t := 18) 20 20 (T + 8) (hT 0 (by decide)) rfl fgX10_36_10 dX10_reckonAll_67 rfl rfl rfl ?_
            refine TGo.il dX10_reckonAll_70 rfl ?_
            refine TGo.iald dX10_reckonAll_72 (hT 8 (by decide)) (by omega) rfl ?_
            refine TGo.toz (ag k) ((hfr.1 _ _ (by omega)).trans (hg k)) ?_
            refine TGo.goto 95 dX10_reckonAll_73 (by decide) ?_
            refine TGo.is dX10_reckonAll_95 rfl rfl ?_
            refine TGo.iinc dX10_reckonAll_97 rfl rfl rfl ?_
            refine TGo.il dX10_reckonAll_100 rfl ?_
            refine TGo.bip 20 dX10_reckonAll_102 (by decide) ?_
            refine TGo.icmp_ge 154 dX10_reckonAll_104 (by decide) (by omega) (fun h104 => ?_) (fun h104 => ?_)
            · refine TGo.il dX10_reckonAll_154 rfl ?_
              refine TGo.bip 28 dX10_reckonAll_156 (by decide) ?_
              refine TGo.icmp_ge 231 dX10_reckonAll_158 (by decide) (by omega) (fun h158 => ?_) (fun h158 => ?_)
              · exfalso; omega
              · refine TGo.iinc dX10_reckonAll_161 rfl rfl rfl ?_
                refine TGo.al0 dX10_reckonAll_164 rfl ?_
                refine TGo.getS (t := 18) 31 31 (T + 15) (hT 0 (by decide)) rfl fgX10_82_10 dX10_reckonAll_165 rfl rfl rfl ?_
                refine TGo.il3 dX10_reckonAll_168 rfl ?_
                refine TGo.ic1 dX10_reckonAll_169 ?_
                refine TGo.isub dX10_reckonAll_170 ?_
                refine TGo.al0 dX10_reckonAll_171 rfl ?_
                refine TGo.il dX10_reckonAll_172 rfl ?_
                refine TGo.al0 dX10_reckonAll_174 rfl ?_
                refine TGo.getS (t := 18) 31 31 (T + 15) (hT 0 (by decide)) rfl fgX10_82_10 dX10_reckonAll_175 rfl rfl rfl ?_
                refine TGo.il3 dX10_reckonAll_178 rfl ?_
                refine TGo.ic1 dX10_reckonAll_179 ?_
                refine TGo.isub dX10_reckonAll_180 ?_
                refine TGo.lald dX10_reckonAll_181 (hT 15 (by decide)) (by omega) rfl ?_
                refine TGo.tol a (hav2 _ (by omega)) ?_
                refine TGo.al0 dX10_reckonAll_182 rfl ?_
                refine TGo.getS (t := 18) 31 31 (T + 15) (hT 0 (by decide)) rfl fgX10_82_10 dX10_reckonAll_183 rfl rfl rfl ?_
                refine TGo.il3 dX10_reckonAll_186 rfl ?_
                refine TGo.lald dX10_reckonAll_187 (hT 15 (by decide)) (by omega) rfl ?_
                refine TGo.tol b (hbv2 _ (by omega)) ?_
                refine TGo.cS (csV3 (y2 := mX10_reckon) (t := 18) 1 rfl (hT 0 (by decide)) rfl rfl dX10_reckonAll_188 q2301 q2303 qs75 okX10_reckon npX10_reckon rfl rfl) (kX10_reckon hT hz (by omega) ha9 hb9 hb) (fun v188 V188 h188 => ?_)
                obtain ⟨hz188, hq188, hf188, ht188, rfl⟩ := h188
                rw [hr]
                refine TGo.tol v rfl ?_
                refine TGo.last dX10_reckonAll_191 (hT 15 (by decide)) (by omega) rfl ?_
                unfold farZ at hfar
                refine TGo.al0 dX10_reckonAll_192 rfl ?_
                refine TGo.al0 dX10_reckonAll_193 rfl ?_
                refine TGo.getI (t := 18) 32 32 (hT 0 (by decide)) rfl fgX10_397_10 dX10_reckonAll_194 rfl rfl rfl ?_
                refine TGo.toz 0 ((ht188.trans (by rw [hr]; rfl))) ?_
                refine TGo.if_ne 220 dX10_reckonAll_197 (by decide) (by decide) (fun h => absurd h (by decide)) (fun _ => ?_)
                refine TGo.al0 dX10_reckonAll_200 rfl ?_
                refine TGo.getS (t := 18) 31 31 (T + 15) (hT 0 (by decide)) rfl fgX10_82_10 dX10_reckonAll_201 rfl rfl rfl ?_
                refine TGo.il3 dX10_reckonAll_204 rfl ?_
                refine TGo.ic1 dX10_reckonAll_205 ?_
                refine TGo.isub dX10_reckonAll_206 ?_
                refine TGo.lald dX10_reckonAll_207 (hT 15 (by decide)) (by omega) rfl ?_
                refine TGo.tol v u2_s ?_
                refine TGo.ldc2 (-1000000000) dX10_reckonAll_208 q2305 (by decide) ?_
                refine TGo.ldc2 1000000000 dX10_reckonAll_211 q2306 (by decide) ?_
                refine TGo.cF (csS3 (y2 := mX10_in) 1 rfl dX10_reckonAll_214 q2032 q2033 okX10_in npX10_in rfl rfl) (kX10_in (by omega) (by omega) (by omega)) ?_
                refine TGo.ifb_ne 224 dX10_reckonAll_217 (by decide) (fun h217 => ?_) (fun h217 => ?_)
                · exfalso; omega
                · refine TGo.ic1 dX10_reckonAll_220 ?_
                  refine TGo.goto 225 dX10_reckonAll_221 (by decide) ?_
                  refine TGo.putZ (t := 18) 32 32 (hT 0 (by decide)) rfl fpX10_397_10 dX10_reckonAll_225 rfl ⟨rfl, (by first | exact Or.inl rfl | exact Or.inr rfl | exact bZ_or _ | assumption)⟩ rfl ?_
                  refine TGo.goto 293 dX10_reckonAll_228 (by decide) ?_
                  refine TGo.goto 10 dX10_reckonAll_293 (by decide) ?_
                  exact TGo.seq [some (.ref T), some (.int (iI i0)), some (.int (iI l)), some (.int (iI (((0 :: st').length : Nat) : Int))), some (.int (iI (k + 1))), _, _] [] _ (by rw [show N + -1 = (((_ :: st' : List Int).length : Nat) : Int) by simp only [List.length_cons]; omega]; rfl) rfl rfl (eX10_reckonAll hT ((hz188.la 15 rfl).s rfl) ((hfr.k hf188 hq188).l.b) (by simp only [List.length_cons] at *; omega) u2_s (by omega))
            · exfalso; omega
        · refine TGo.il dX10_reckonAll_10 rfl ?_
          refine TGo.il2 dX10_reckonAll_12 rfl ?_
          refine TGo.icmp_ge 296 dX10_reckonAll_13 (by decide) (by omega) (fun h13 => ?_) (fun h13 => ?_)
          · exfalso; omega
          · refine TGo.al0 dX10_reckonAll_16 rfl ?_
            refine TGo.getI (t := 18) 32 32 (hT 0 (by decide)) rfl fgX10_397_10 dX10_reckonAll_17 rfl rfl rfl ?_
            refine TGo.toz 0 hb ?_
            refine TGo.if_ne 296 dX10_reckonAll_20 (by decide) (by decide) (fun h => absurd h (by decide)) (fun _ => ?_)
            refine TGo.al0 dX10_reckonAll_23 rfl ?_
            refine TGo.getI (t := 18) 15 15 (hT 0 (by decide)) rfl fgX10_326_10 dX10_reckonAll_24 rfl rfl rfl ?_
            refine TGo.toz _ (hz.1 15 rfl) ?_
            refine TGo.toz 1 hp ?_
            refine TGo.if_eq 40 dX10_reckonAll_27 (by decide) (by decide) (fun h => absurd h (by decide)) (fun _ => ?_)
            refine TGo.al0 dX10_reckonAll_30 rfl ?_
            refine TGo.getS (t := 18) 19 19 (T + 7) (hT 0 (by decide)) rfl fgX10_33_10 dX10_reckonAll_31 rfl rfl rfl ?_
            refine TGo.il dX10_reckonAll_34 rfl ?_
            refine TGo.iald dX10_reckonAll_36 (hT 7 (by decide)) (by omega) rfl ?_
            refine TGo.toz (op k) ((hfr.1 _ _ (by omega)).trans (ho k)) ?_
            refine TGo.goto 57 dX10_reckonAll_37 (by decide) ?_
            refine TGo.is dX10_reckonAll_57 rfl rfl ?_
            refine TGo.al0 dX10_reckonAll_59 rfl ?_
            refine TGo.getI (t := 18) 15 15 (hT 0 (by decide)) rfl fgX10_326_10 dX10_reckonAll_60 rfl rfl rfl ?_
            refine TGo.toz _ (hz.1 15 rfl) ?_
            refine TGo.toz 1 hp ?_
            refine TGo.if_eq 76 dX10_reckonAll_63 (by decide) (by decide) (fun h => absurd h (by decide)) (fun _ => ?_)
            refine TGo.al0 dX10_reckonAll_66 rfl ?_
            refine TGo.getS (t := 18) 20 20 (T + 8) (hT 0 (by decide)) rfl fgX10_36_10 dX10_reckonAll_67 rfl rfl rfl ?_
            refine TGo.il dX10_reckonAll_70 rfl ?_
            refine TGo.iald dX10_reckonAll_72 (hT 8 (by decide)) (by omega) rfl ?_
            refine TGo.toz (ag k) ((hfr.1 _ _ (by omega)).trans (hg k)) ?_
            refine TGo.goto 95 dX10_reckonAll_73 (by decide) ?_
            refine TGo.is dX10_reckonAll_95 rfl rfl ?_
            refine TGo.iinc dX10_reckonAll_97 rfl rfl rfl ?_
            refine TGo.il dX10_reckonAll_100 rfl ?_
            refine TGo.bip 20 dX10_reckonAll_102 (by decide) ?_
            refine TGo.icmp_ge 154 dX10_reckonAll_104 (by decide) (by omega) (fun h104 => ?_) (fun h104 => ?_)
            · refine TGo.il dX10_reckonAll_154 rfl ?_
              refine TGo.bip 28 dX10_reckonAll_156 (by decide) ?_
              refine TGo.icmp_ge 231 dX10_reckonAll_158 (by decide) (by omega) (fun h158 => ?_) (fun h158 => ?_)
              · exfalso; omega
              · refine TGo.iinc dX10_reckonAll_161 rfl rfl rfl ?_
                refine TGo.al0 dX10_reckonAll_164 rfl ?_
                refine TGo.getS (t := 18) 31 31 (T + 15) (hT 0 (by decide)) rfl fgX10_82_10 dX10_reckonAll_165 rfl rfl rfl ?_
                refine TGo.il3 dX10_reckonAll_168 rfl ?_
                refine TGo.ic1 dX10_reckonAll_169 ?_
                refine TGo.isub dX10_reckonAll_170 ?_
                refine TGo.al0 dX10_reckonAll_171 rfl ?_
                refine TGo.il dX10_reckonAll_172 rfl ?_
                refine TGo.al0 dX10_reckonAll_174 rfl ?_
                refine TGo.getS (t := 18) 31 31 (T + 15) (hT 0 (by decide)) rfl fgX10_82_10 dX10_reckonAll_175 rfl rfl rfl ?_
                refine TGo.il3 dX10_reckonAll_178 rfl ?_
                refine TGo.ic1 dX10_reckonAll_179 ?_
                refine TGo.isub dX10_reckonAll_180 ?_
                refine TGo.lald dX10_reckonAll_181 (hT 15 (by decide)) (by omega) rfl ?_
                refine TGo.tol a (hav2 _ (by omega)) ?_
                refine TGo.al0 dX10_reckonAll_182 rfl ?_
                refine TGo.getS (t := 18) 31 31 (T + 15) (hT 0 (by decide)) rfl fgX10_82_10 dX10_reckonAll_183 rfl rfl rfl ?_
                refine TGo.il3 dX10_reckonAll_186 rfl ?_
                refine TGo.lald dX10_reckonAll_187 (hT 15 (by decide)) (by omega) rfl ?_
                refine TGo.tol b (hbv2 _ (by omega)) ?_
                refine TGo.cS (csV3 (y2 := mX10_reckon) (t := 18) 1 rfl (hT 0 (by decide)) rfl rfl dX10_reckonAll_188 q2301 q2303 qs75 okX10_reckon npX10_reckon rfl rfl) (kX10_reckon hT hz (by omega) ha9 hb9 hb) (fun v188 V188 h188 => ?_)
                obtain ⟨hz188, hq188, hf188, ht188, rfl⟩ := h188
                rw [hr]
                refine TGo.tol v rfl ?_
                refine TGo.last dX10_reckonAll_191 (hT 15 (by decide)) (by omega) rfl ?_
                unfold farZ at hfar
                refine TGo.al0 dX10_reckonAll_192 rfl ?_
                refine TGo.al0 dX10_reckonAll_193 rfl ?_
                refine TGo.getI (t := 18) 32 32 (hT 0 (by decide)) rfl fgX10_397_10 dX10_reckonAll_194 rfl rfl rfl ?_
                refine TGo.toz 0 ((ht188.trans (by rw [hr]; rfl))) ?_
                refine TGo.if_ne 220 dX10_reckonAll_197 (by decide) (by decide) (fun h => absurd h (by decide)) (fun _ => ?_)
                refine TGo.al0 dX10_reckonAll_200 rfl ?_
                refine TGo.getS (t := 18) 31 31 (T + 15) (hT 0 (by decide)) rfl fgX10_82_10 dX10_reckonAll_201 rfl rfl rfl ?_
                refine TGo.il3 dX10_reckonAll_204 rfl ?_
                refine TGo.ic1 dX10_reckonAll_205 ?_
                refine TGo.isub dX10_reckonAll_206 ?_
                refine TGo.lald dX10_reckonAll_207 (hT 15 (by decide)) (by omega) rfl ?_
                refine TGo.tol v u2_s ?_
                refine TGo.ldc2 (-1000000000) dX10_reckonAll_208 q2305 (by decide) ?_
                refine TGo.ldc2 1000000000 dX10_reckonAll_211 q2306 (by decide) ?_
                refine TGo.cF (csS3 (y2 := mX10_in) 1 rfl dX10_reckonAll_214 q2032 q2033 okX10_in npX10_in rfl rfl) (kX10_in (by omega) (by omega) (by omega)) ?_
                refine TGo.ifb_ne 224 dX10_reckonAll_217 (by decide) (fun h217 => ?_) (fun h217 => ?_)
                · refine TGo.ic0 dX10_reckonAll_224 ?_
                  refine TGo.putZ (t := 18) 32 32 (hT 0 (by decide)) rfl fpX10_397_10 dX10_reckonAll_225 rfl ⟨rfl, (by first | exact Or.inl rfl | exact Or.inr rfl | exact bZ_or _ | assumption)⟩ rfl ?_
                  refine TGo.goto 293 dX10_reckonAll_228 (by decide) ?_
                  refine TGo.goto 10 dX10_reckonAll_293 (by decide) ?_
                  exact TGo.seq [some (.ref T), some (.int (iI i0)), some (.int (iI l)), some (.int (iI (((v :: st').length : Nat) : Int))), some (.int (iI (k + 1))), _, _] [] _ (by rw [show N + -1 = (((_ :: st' : List Int).length : Nat) : Int) by simp only [List.length_cons]; omega]; rfl) rfl rfl (ih (k + 1) (v :: st') _ _ _ _ (by omega) (by omega) (by simp only [List.length_cons] at *; omega) rfl ((hz188.la 15 rfl).s rfl) ((((hst3.of (congrArg Prod.fst hq188)).push (by omega) (by omega))).b) ((hfr.k hf188 hq188).l.b) (by first | exact hb | exact (u2_s) | assumption) hev)
                · exfalso; omega
            · exfalso; omega
    · obtain ⟨hav, ha9, hst3⟩ := hst
      simp only [List.length_cons] at hN hlen
      have hav2 : ∀ w, w = (st'.length : Int) → V.2.1 (T + 15) w = a := fun w e => by rw [e]; exact hav
      refine TGo.il dX10_reckonAll_10 rfl ?_
      refine TGo.il2 dX10_reckonAll_12 rfl ?_
      refine TGo.icmp_ge 296 dX10_reckonAll_13 (by decide) (by omega) (fun h13 => ?_) (fun h13 => ?_)
      · exfalso; omega
      · refine TGo.al0 dX10_reckonAll_16 rfl ?_
        refine TGo.getI (t := 18) 32 32 (hT 0 (by decide)) rfl fgX10_397_10 dX10_reckonAll_17 rfl rfl rfl ?_
        refine TGo.toz 0 hb ?_
        refine TGo.if_ne 296 dX10_reckonAll_20 (by decide) (by decide) (fun h => absurd h (by decide)) (fun _ => ?_)
        refine TGo.al0 dX10_reckonAll_23 rfl ?_
        refine TGo.getI (t := 18) 15 15 (hT 0 (by decide)) rfl fgX10_326_10 dX10_reckonAll_24 rfl rfl rfl ?_
        refine TGo.toz _ (hz.1 15 rfl) ?_
        refine TGo.toz 1 hp ?_
        refine TGo.if_eq 40 dX10_reckonAll_27 (by decide) (by decide) (fun h => absurd h (by decide)) (fun _ => ?_)
        refine TGo.al0 dX10_reckonAll_30 rfl ?_
        refine TGo.getS (t := 18) 19 19 (T + 7) (hT 0 (by decide)) rfl fgX10_33_10 dX10_reckonAll_31 rfl rfl rfl ?_
        refine TGo.il dX10_reckonAll_34 rfl ?_
        refine TGo.iald dX10_reckonAll_36 (hT 7 (by decide)) (by omega) rfl ?_
        refine TGo.toz (op k) ((hfr.1 _ _ (by omega)).trans (ho k)) ?_
        refine TGo.goto 57 dX10_reckonAll_37 (by decide) ?_
        refine TGo.is dX10_reckonAll_57 rfl rfl ?_
        refine TGo.al0 dX10_reckonAll_59 rfl ?_
        refine TGo.getI (t := 18) 15 15 (hT 0 (by decide)) rfl fgX10_326_10 dX10_reckonAll_60 rfl rfl rfl ?_
        refine TGo.toz _ (hz.1 15 rfl) ?_
        refine TGo.toz 1 hp ?_
        refine TGo.if_eq 76 dX10_reckonAll_63 (by decide) (by decide) (fun h => absurd h (by decide)) (fun _ => ?_)
        refine TGo.al0 dX10_reckonAll_66 rfl ?_
        refine TGo.getS (t := 18) 20 20 (T + 8) (hT 0 (by decide)) rfl fgX10_36_10 dX10_reckonAll_67 rfl rfl rfl ?_
        refine TGo.il dX10_reckonAll_70 rfl ?_
        refine TGo.iald dX10_reckonAll_72 (hT 8 (by decide)) (by omega) rfl ?_
        refine TGo.toz (ag k) ((hfr.1 _ _ (by omega)).trans (hg k)) ?_
        refine TGo.goto 95 dX10_reckonAll_73 (by decide) ?_
        refine TGo.is dX10_reckonAll_95 rfl rfl ?_
        refine TGo.iinc dX10_reckonAll_97 rfl rfl rfl ?_
        refine TGo.il dX10_reckonAll_100 rfl ?_
        refine TGo.bip 20 dX10_reckonAll_102 (by decide) ?_
        refine TGo.icmp_ge 154 dX10_reckonAll_104 (by decide) (by omega) (fun h104 => ?_) (fun h104 => ?_)
        · refine TGo.il dX10_reckonAll_154 rfl ?_
          refine TGo.bip 28 dX10_reckonAll_156 (by decide) ?_
          refine TGo.icmp_ge 231 dX10_reckonAll_158 (by decide) (by omega) (fun h158 => ?_) (fun h158 => ?_)
          · refine TGo.il dX10_reckonAll_231 rfl ?_
            refine TGo.bip 28 dX10_reckonAll_233 (by decide) ?_
            refine TGo.icmp_ne 259 dX10_reckonAll_235 (by decide) (by omega) (fun h235 => ?_) (fun h235 => ?_)
            · exfalso; omega
            · refine TGo.al0 dX10_reckonAll_238 rfl ?_
              refine TGo.getS (t := 18) 31 31 (T + 15) (hT 0 (by decide)) rfl fgX10_82_10 dX10_reckonAll_239 rfl rfl rfl ?_
              refine TGo.il3 dX10_reckonAll_242 rfl ?_
              refine TGo.ic1 dX10_reckonAll_243 ?_
              refine TGo.isub dX10_reckonAll_244 ?_
              refine TGo.lc1 dX10_reckonAll_245 ?_
              refine TGo.al0 dX10_reckonAll_246 rfl ?_
              refine TGo.getS (t := 18) 31 31 (T + 15) (hT 0 (by decide)) rfl fgX10_82_10 dX10_reckonAll_247 rfl rfl rfl ?_
              refine TGo.il3 dX10_reckonAll_250 rfl ?_
              refine TGo.ic1 dX10_reckonAll_251 ?_
              refine TGo.isub dX10_reckonAll_252 ?_
              refine TGo.lald dX10_reckonAll_253 (hT 15 (by decide)) (by omega) rfl ?_
              refine TGo.tol a (hav2 _ (by omega)) ?_
              refine TGo.lsub dX10_reckonAll_254 ?_
              refine TGo.last dX10_reckonAll_255 (hT 15 (by decide)) (by omega) rfl ?_
              refine TGo.goto 293 dX10_reckonAll_256 (by decide) ?_
              refine TGo.goto 10 dX10_reckonAll_293 (by decide) ?_
              exact TGo.seq [some (.ref T), some (.int (iI i0)), some (.int (iI l)), some (.int (iI ((((1 - a) :: st').length : Nat) : Int))), some (.int (iI (k + 1))), _, _] [] _ (by rw [show N = ((((1 - a) :: st' : List Int).length : Nat) : Int) by simp only [List.length_cons]; omega]; rfl) rfl rfl (ih (k + 1) ((1 - a) :: st') _ _ _ _ (by omega) (by omega) (by simp only [List.length_cons] at *; omega) rfl (hz.la 15 rfl) (hst3.push (by omega) (by omega)) (hfr.l) (by first | exact hb | exact (u2_s) | assumption) hev)
          · exfalso; omega
        · exfalso; omega
    · obtain ⟨hav, ha9, hst3⟩ := hst
      simp only [List.length_cons] at hN hlen
      have hav2 : ∀ w, w = (st'.length : Int) → V.2.1 (T + 15) w = a := fun w e => by rw [e]; exact hav
      rcases hor with hor | hor
      · rw [if_pos hor] at hc
        rcases hc with ⟨ha1, hj, hev⟩ | ⟨ha1, hev⟩
        · refine TGo.il dX10_reckonAll_10 rfl ?_
          refine TGo.il2 dX10_reckonAll_12 rfl ?_
          refine TGo.icmp_ge 296 dX10_reckonAll_13 (by decide) (by omega) (fun h13 => ?_) (fun h13 => ?_)
          · exfalso; omega
          · refine TGo.al0 dX10_reckonAll_16 rfl ?_
            refine TGo.getI (t := 18) 32 32 (hT 0 (by decide)) rfl fgX10_397_10 dX10_reckonAll_17 rfl rfl rfl ?_
            refine TGo.toz 0 hb ?_
            refine TGo.if_ne 296 dX10_reckonAll_20 (by decide) (by decide) (fun h => absurd h (by decide)) (fun _ => ?_)
            refine TGo.al0 dX10_reckonAll_23 rfl ?_
            refine TGo.getI (t := 18) 15 15 (hT 0 (by decide)) rfl fgX10_326_10 dX10_reckonAll_24 rfl rfl rfl ?_
            refine TGo.toz _ (hz.1 15 rfl) ?_
            refine TGo.toz 1 hp ?_
            refine TGo.if_eq 40 dX10_reckonAll_27 (by decide) (by decide) (fun h => absurd h (by decide)) (fun _ => ?_)
            refine TGo.al0 dX10_reckonAll_30 rfl ?_
            refine TGo.getS (t := 18) 19 19 (T + 7) (hT 0 (by decide)) rfl fgX10_33_10 dX10_reckonAll_31 rfl rfl rfl ?_
            refine TGo.il dX10_reckonAll_34 rfl ?_
            refine TGo.iald dX10_reckonAll_36 (hT 7 (by decide)) (by omega) rfl ?_
            refine TGo.toz (op k) ((hfr.1 _ _ (by omega)).trans (ho k)) ?_
            refine TGo.goto 57 dX10_reckonAll_37 (by decide) ?_
            refine TGo.is dX10_reckonAll_57 rfl rfl ?_
            refine TGo.al0 dX10_reckonAll_59 rfl ?_
            refine TGo.getI (t := 18) 15 15 (hT 0 (by decide)) rfl fgX10_326_10 dX10_reckonAll_60 rfl rfl rfl ?_
            refine TGo.toz _ (hz.1 15 rfl) ?_
            refine TGo.toz 1 hp ?_
            refine TGo.if_eq 76 dX10_reckonAll_63 (by decide) (by decide) (fun h => absurd h (by decide)) (fun _ => ?_)
            refine TGo.al0 dX10_reckonAll_66 rfl ?_
            refine TGo.getS (t := 18) 20 20 (T + 8) (hT 0 (by decide)) rfl fgX10_36_10 dX10_reckonAll_67 rfl rfl rfl ?_
            refine TGo.il dX10_reckonAll_70 rfl ?_
            refine TGo.iald dX10_reckonAll_72 (hT 8 (by decide)) (by omega) rfl ?_
            refine TGo.toz (ag k) ((hfr.1 _ _ (by omega)).trans (hg k)) ?_
            refine TGo.goto 95 dX10_reckonAll_73 (by decide) ?_
            refine TGo.is dX10_reckonAll_95 rfl rfl ?_
            refine TGo.iinc dX10_reckonAll_97 rfl rfl rfl ?_
            refine TGo.il dX10_reckonAll_100 rfl ?_
            refine TGo.bip 20 dX10_reckonAll_102 (by decide) ?_
            refine TGo.icmp_ge 154 dX10_reckonAll_104 (by decide) (by omega) (fun h104 => ?_) (fun h104 => ?_)
            · refine TGo.il dX10_reckonAll_154 rfl ?_
              refine TGo.bip 28 dX10_reckonAll_156 (by decide) ?_
              refine TGo.icmp_ge 231 dX10_reckonAll_158 (by decide) (by omega) (fun h158 => ?_) (fun h158 => ?_)
              · refine TGo.il dX10_reckonAll_231 rfl ?_
                refine TGo.bip 28 dX10_reckonAll_233 (by decide) ?_
                refine TGo.icmp_ne 259 dX10_reckonAll_235 (by decide) (by omega) (fun h235 => ?_) (fun h235 => ?_)
                · refine TGo.al0 dX10_reckonAll_259 rfl ?_
                  refine TGo.getS (t := 18) 31 31 (T + 15) (hT 0 (by decide)) rfl fgX10_82_10 dX10_reckonAll_260 rfl rfl rfl ?_
                  refine TGo.il3 dX10_reckonAll_263 rfl ?_
                  refine TGo.ic1 dX10_reckonAll_264 ?_
                  refine TGo.isub dX10_reckonAll_265 ?_
                  refine TGo.lald dX10_reckonAll_266 (hT 15 (by decide)) (by omega) rfl ?_
                  refine TGo.tol a (hav2 _ (by omega)) ?_
                  refine TGo.il dX10_reckonAll_267 rfl ?_
                  refine TGo.bip 29 dX10_reckonAll_269 (by decide) ?_
                  refine TGo.icmp_ne 278 dX10_reckonAll_271 (by decide) (by omega) (fun h271 => ?_) (fun h271 => ?_)
                  · exfalso; omega
                  · refine TGo.lc0 dX10_reckonAll_274 ?_
                    refine TGo.goto 279 dX10_reckonAll_275 (by decide) ?_
                    refine TGo.lc_ne 290 dX10_reckonAll_279 dX10_reckonAll_280 (by decide) (by omega) (fun h279 => ?_) (fun h279 => ?_)
                    · exfalso; omega
                    · refine TGo.il dX10_reckonAll_283 rfl ?_
                      refine TGo.is dX10_reckonAll_285 rfl rfl ?_
                      refine TGo.goto 293 dX10_reckonAll_287 (by decide) ?_
                      refine TGo.goto 10 dX10_reckonAll_293 (by decide) ?_
                      exact TGo.seq [some (.ref T), some (.int (iI i0)), some (.int (iI l)), some (.int (iI (((a :: st').length : Nat) : Int))), some (.int (iI (ag k))), _, _] [] _ (by rw [show N = (((a :: st' : List Int).length : Nat) : Int) by simp only [List.length_cons]; omega]; rfl) rfl rfl (ih (ag k) (a :: st') _ _ _ _ (by omega) (by omega) (by simp only [List.length_cons] at *; omega) rfl hz ⟨hav, ha9, hst3⟩ hfr (by first | exact hb | exact (u2_s) | assumption) hev)
                · exfalso; omega
              · exfalso; omega
            · exfalso; omega
        · refine TGo.il dX10_reckonAll_10 rfl ?_
          refine TGo.il2 dX10_reckonAll_12 rfl ?_
          refine TGo.icmp_ge 296 dX10_reckonAll_13 (by decide) (by omega) (fun h13 => ?_) (fun h13 => ?_)
          · exfalso; omega
          · refine TGo.al0 dX10_reckonAll_16 rfl ?_
            refine TGo.getI (t := 18) 32 32 (hT 0 (by decide)) rfl fgX10_397_10 dX10_reckonAll_17 rfl rfl rfl ?_
            refine TGo.toz 0 hb ?_
            refine TGo.if_ne 296 dX10_reckonAll_20 (by decide) (by decide) (fun h => absurd h (by decide)) (fun _ => ?_)
            refine TGo.al0 dX10_reckonAll_23 rfl ?_
            refine TGo.getI (t := 18) 15 15 (hT 0 (by decide)) rfl fgX10_326_10 dX10_reckonAll_24 rfl rfl rfl ?_
            refine TGo.toz _ (hz.1 15 rfl) ?_
            refine TGo.toz 1 hp ?_
            refine TGo.if_eq 40 dX10_reckonAll_27 (by decide) (by decide) (fun h => absurd h (by decide)) (fun _ => ?_)
            refine TGo.al0 dX10_reckonAll_30 rfl ?_
            refine TGo.getS (t := 18) 19 19 (T + 7) (hT 0 (by decide)) rfl fgX10_33_10 dX10_reckonAll_31 rfl rfl rfl ?_
            refine TGo.il dX10_reckonAll_34 rfl ?_
            refine TGo.iald dX10_reckonAll_36 (hT 7 (by decide)) (by omega) rfl ?_
            refine TGo.toz (op k) ((hfr.1 _ _ (by omega)).trans (ho k)) ?_
            refine TGo.goto 57 dX10_reckonAll_37 (by decide) ?_
            refine TGo.is dX10_reckonAll_57 rfl rfl ?_
            refine TGo.al0 dX10_reckonAll_59 rfl ?_
            refine TGo.getI (t := 18) 15 15 (hT 0 (by decide)) rfl fgX10_326_10 dX10_reckonAll_60 rfl rfl rfl ?_
            refine TGo.toz _ (hz.1 15 rfl) ?_
            refine TGo.toz 1 hp ?_
            refine TGo.if_eq 76 dX10_reckonAll_63 (by decide) (by decide) (fun h => absurd h (by decide)) (fun _ => ?_)
            refine TGo.al0 dX10_reckonAll_66 rfl ?_
            refine TGo.getS (t := 18) 20 20 (T + 8) (hT 0 (by decide)) rfl fgX10_36_10 dX10_reckonAll_67 rfl rfl rfl ?_
            refine TGo.il dX10_reckonAll_70 rfl ?_
            refine TGo.iald dX10_reckonAll_72 (hT 8 (by decide)) (by omega) rfl ?_
            refine TGo.toz (ag k) ((hfr.1 _ _ (by omega)).trans (hg k)) ?_
            refine TGo.goto 95 dX10_reckonAll_73 (by decide) ?_
            refine TGo.is dX10_reckonAll_95 rfl rfl ?_
            refine TGo.iinc dX10_reckonAll_97 rfl rfl rfl ?_
            refine TGo.il dX10_reckonAll_100 rfl ?_
            refine TGo.bip 20 dX10_reckonAll_102 (by decide) ?_
            refine TGo.icmp_ge 154 dX10_reckonAll_104 (by decide) (by omega) (fun h104 => ?_) (fun h104 => ?_)
            · refine TGo.il dX10_reckonAll_154 rfl ?_
              refine TGo.bip 28 dX10_reckonAll_156 (by decide) ?_
              refine TGo.icmp_ge 231 dX10_reckonAll_158 (by decide) (by omega) (fun h158 => ?_) (fun h158 => ?_)
              · refine TGo.il dX10_reckonAll_231 rfl ?_
                refine TGo.bip 28 dX10_reckonAll_233 (by decide) ?_
                refine TGo.icmp_ne 259 dX10_reckonAll_235 (by decide) (by omega) (fun h235 => ?_) (fun h235 => ?_)
                · refine TGo.al0 dX10_reckonAll_259 rfl ?_
                  refine TGo.getS (t := 18) 31 31 (T + 15) (hT 0 (by decide)) rfl fgX10_82_10 dX10_reckonAll_260 rfl rfl rfl ?_
                  refine TGo.il3 dX10_reckonAll_263 rfl ?_
                  refine TGo.ic1 dX10_reckonAll_264 ?_
                  refine TGo.isub dX10_reckonAll_265 ?_
                  refine TGo.lald dX10_reckonAll_266 (hT 15 (by decide)) (by omega) rfl ?_
                  refine TGo.tol a (hav2 _ (by omega)) ?_
                  refine TGo.il dX10_reckonAll_267 rfl ?_
                  refine TGo.bip 29 dX10_reckonAll_269 (by decide) ?_
                  refine TGo.icmp_ne 278 dX10_reckonAll_271 (by decide) (by omega) (fun h271 => ?_) (fun h271 => ?_)
                  · exfalso; omega
                  · refine TGo.lc0 dX10_reckonAll_274 ?_
                    refine TGo.goto 279 dX10_reckonAll_275 (by decide) ?_
                    refine TGo.lc_ne 290 dX10_reckonAll_279 dX10_reckonAll_280 (by decide) (by omega) (fun h279 => ?_) (fun h279 => ?_)
                    · refine TGo.iinc dX10_reckonAll_290 rfl rfl rfl ?_
                      refine TGo.goto 10 dX10_reckonAll_293 (by decide) ?_
                      exact TGo.seq [some (.ref T), some (.int (iI i0)), some (.int (iI l)), some (.int (iI (((st').length : Nat) : Int))), some (.int (iI (k + 1))), _, _] [] _ (by rw [show N + -1 = ((st'.length : Nat) : Int) by omega]; rfl) rfl rfl (ih (k + 1) (st') _ _ _ _ (by omega) (by omega) (by simp only [List.length_cons] at *; omega) rfl hz hst3 hfr (by first | exact hb | exact (u2_s) | assumption) hev)
                    · exfalso; omega
                · exfalso; omega
              · exfalso; omega
            · exfalso; omega
      · rw [if_neg (by omega)] at hc
        rcases hc with ⟨ha1, hj, hev⟩ | ⟨ha1, hev⟩
        · refine TGo.il dX10_reckonAll_10 rfl ?_
          refine TGo.il2 dX10_reckonAll_12 rfl ?_
          refine TGo.icmp_ge 296 dX10_reckonAll_13 (by decide) (by omega) (fun h13 => ?_) (fun h13 => ?_)
          · exfalso; omega
          · refine TGo.al0 dX10_reckonAll_16 rfl ?_
            refine TGo.getI (t := 18) 32 32 (hT 0 (by decide)) rfl fgX10_397_10 dX10_reckonAll_17 rfl rfl rfl ?_
            refine TGo.toz 0 hb ?_
            refine TGo.if_ne 296 dX10_reckonAll_20 (by decide) (by decide) (fun h => absurd h (by decide)) (fun _ => ?_)
            refine TGo.al0 dX10_reckonAll_23 rfl ?_
            refine TGo.getI (t := 18) 15 15 (hT 0 (by decide)) rfl fgX10_326_10 dX10_reckonAll_24 rfl rfl rfl ?_
            refine TGo.toz _ (hz.1 15 rfl) ?_
            refine TGo.toz 1 hp ?_
            refine TGo.if_eq 40 dX10_reckonAll_27 (by decide) (by decide) (fun h => absurd h (by decide)) (fun _ => ?_)
            refine TGo.al0 dX10_reckonAll_30 rfl ?_
            refine TGo.getS (t := 18) 19 19 (T + 7) (hT 0 (by decide)) rfl fgX10_33_10 dX10_reckonAll_31 rfl rfl rfl ?_
            refine TGo.il dX10_reckonAll_34 rfl ?_
            refine TGo.iald dX10_reckonAll_36 (hT 7 (by decide)) (by omega) rfl ?_
            refine TGo.toz (op k) ((hfr.1 _ _ (by omega)).trans (ho k)) ?_
            refine TGo.goto 57 dX10_reckonAll_37 (by decide) ?_
            refine TGo.is dX10_reckonAll_57 rfl rfl ?_
            refine TGo.al0 dX10_reckonAll_59 rfl ?_
            refine TGo.getI (t := 18) 15 15 (hT 0 (by decide)) rfl fgX10_326_10 dX10_reckonAll_60 rfl rfl rfl ?_
            refine TGo.toz _ (hz.1 15 rfl) ?_
            refine TGo.toz 1 hp ?_
            refine TGo.if_eq 76 dX10_reckonAll_63 (by decide) (by decide) (fun h => absurd h (by decide)) (fun _ => ?_)
            refine TGo.al0 dX10_reckonAll_66 rfl ?_
            refine TGo.getS (t := 18) 20 20 (T + 8) (hT 0 (by decide)) rfl fgX10_36_10 dX10_reckonAll_67 rfl rfl rfl ?_
            refine TGo.il dX10_reckonAll_70 rfl ?_
            refine TGo.iald dX10_reckonAll_72 (hT 8 (by decide)) (by omega) rfl ?_
            refine TGo.toz (ag k) ((hfr.1 _ _ (by omega)).trans (hg k)) ?_
            refine TGo.goto 95 dX10_reckonAll_73 (by decide) ?_
            refine TGo.is dX10_reckonAll_95 rfl rfl ?_
            refine TGo.iinc dX10_reckonAll_97 rfl rfl rfl ?_
            refine TGo.il dX10_reckonAll_100 rfl ?_
            refine TGo.bip 20 dX10_reckonAll_102 (by decide) ?_
            refine TGo.icmp_ge 154 dX10_reckonAll_104 (by decide) (by omega) (fun h104 => ?_) (fun h104 => ?_)
            · refine TGo.il dX10_reckonAll_154 rfl ?_
              refine TGo.bip 28 dX10_reckonAll_156 (by decide) ?_
              refine TGo.icmp_ge 231 dX10_reckonAll_158 (by decide) (by omega) (fun h158 => ?_) (fun h158 => ?_)
              · refine TGo.il dX10_reckonAll_231 rfl ?_
                refine TGo.bip 28 dX10_reckonAll_233 (by decide) ?_
                refine TGo.icmp_ne 259 dX10_reckonAll_235 (by decide) (by omega) (fun h235 => ?_) (fun h235 => ?_)
                · refine TGo.al0 dX10_reckonAll_259 rfl ?_
                  refine TGo.getS (t := 18) 31 31 (T + 15) (hT 0 (by decide)) rfl fgX10_82_10 dX10_reckonAll_260 rfl rfl rfl ?_
                  refine TGo.il3 dX10_reckonAll_263 rfl ?_
                  refine TGo.ic1 dX10_reckonAll_264 ?_
                  refine TGo.isub dX10_reckonAll_265 ?_
                  refine TGo.lald dX10_reckonAll_266 (hT 15 (by decide)) (by omega) rfl ?_
                  refine TGo.tol a (hav2 _ (by omega)) ?_
                  refine TGo.il dX10_reckonAll_267 rfl ?_
                  refine TGo.bip 29 dX10_reckonAll_269 (by decide) ?_
                  refine TGo.icmp_ne 278 dX10_reckonAll_271 (by decide) (by omega) (fun h271 => ?_) (fun h271 => ?_)
                  · refine TGo.lc1 dX10_reckonAll_278 ?_
                    refine TGo.lc_ne 290 dX10_reckonAll_279 dX10_reckonAll_280 (by decide) (by omega) (fun h279 => ?_) (fun h279 => ?_)
                    · exfalso; omega
                    · refine TGo.il dX10_reckonAll_283 rfl ?_
                      refine TGo.is dX10_reckonAll_285 rfl rfl ?_
                      refine TGo.goto 293 dX10_reckonAll_287 (by decide) ?_
                      refine TGo.goto 10 dX10_reckonAll_293 (by decide) ?_
                      exact TGo.seq [some (.ref T), some (.int (iI i0)), some (.int (iI l)), some (.int (iI (((a :: st').length : Nat) : Int))), some (.int (iI (ag k))), _, _] [] _ (by rw [show N = (((a :: st' : List Int).length : Nat) : Int) by simp only [List.length_cons]; omega]; rfl) rfl rfl (ih (ag k) (a :: st') _ _ _ _ (by omega) (by omega) (by simp only [List.length_cons] at *; omega) rfl hz ⟨hav, ha9, hst3⟩ hfr (by first | exact hb | exact (u2_s) | assumption) hev)
                  · exfalso; omega
                · exfalso; omega
              · exfalso; omega
            · exfalso; omega
        · refine TGo.il dX10_reckonAll_10 rfl ?_
          refine TGo.il2 dX10_reckonAll_12 rfl ?_
          refine TGo.icmp_ge 296 dX10_reckonAll_13 (by decide) (by omega) (fun h13 => ?_) (fun h13 => ?_)
          · exfalso; omega
          · refine TGo.al0 dX10_reckonAll_16 rfl ?_
            refine TGo.getI (t := 18) 32 32 (hT 0 (by decide)) rfl fgX10_397_10 dX10_reckonAll_17 rfl rfl rfl ?_
            refine TGo.toz 0 hb ?_
            refine TGo.if_ne 296 dX10_reckonAll_20 (by decide) (by decide) (fun h => absurd h (by decide)) (fun _ => ?_)
            refine TGo.al0 dX10_reckonAll_23 rfl ?_
            refine TGo.getI (t := 18) 15 15 (hT 0 (by decide)) rfl fgX10_326_10 dX10_reckonAll_24 rfl rfl rfl ?_
            refine TGo.toz _ (hz.1 15 rfl) ?_
            refine TGo.toz 1 hp ?_
            refine TGo.if_eq 40 dX10_reckonAll_27 (by decide) (by decide) (fun h => absurd h (by decide)) (fun _ => ?_)
            refine TGo.al0 dX10_reckonAll_30 rfl ?_
            refine TGo.getS (t := 18) 19 19 (T + 7) (hT 0 (by decide)) rfl fgX10_33_10 dX10_reckonAll_31 rfl rfl rfl ?_
            refine TGo.il dX10_reckonAll_34 rfl ?_
            refine TGo.iald dX10_reckonAll_36 (hT 7 (by decide)) (by omega) rfl ?_
            refine TGo.toz (op k) ((hfr.1 _ _ (by omega)).trans (ho k)) ?_
            refine TGo.goto 57 dX10_reckonAll_37 (by decide) ?_
            refine TGo.is dX10_reckonAll_57 rfl rfl ?_
            refine TGo.al0 dX10_reckonAll_59 rfl ?_
            refine TGo.getI (t := 18) 15 15 (hT 0 (by decide)) rfl fgX10_326_10 dX10_reckonAll_60 rfl rfl rfl ?_
            refine TGo.toz _ (hz.1 15 rfl) ?_
            refine TGo.toz 1 hp ?_
            refine TGo.if_eq 76 dX10_reckonAll_63 (by decide) (by decide) (fun h => absurd h (by decide)) (fun _ => ?_)
            refine TGo.al0 dX10_reckonAll_66 rfl ?_
            refine TGo.getS (t := 18) 20 20 (T + 8) (hT 0 (by decide)) rfl fgX10_36_10 dX10_reckonAll_67 rfl rfl rfl ?_
            refine TGo.il dX10_reckonAll_70 rfl ?_
            refine TGo.iald dX10_reckonAll_72 (hT 8 (by decide)) (by omega) rfl ?_
            refine TGo.toz (ag k) ((hfr.1 _ _ (by omega)).trans (hg k)) ?_
            refine TGo.goto 95 dX10_reckonAll_73 (by decide) ?_
            refine TGo.is dX10_reckonAll_95 rfl rfl ?_
            refine TGo.iinc dX10_reckonAll_97 rfl rfl rfl ?_
            refine TGo.il dX10_reckonAll_100 rfl ?_
            refine TGo.bip 20 dX10_reckonAll_102 (by decide) ?_
            refine TGo.icmp_ge 154 dX10_reckonAll_104 (by decide) (by omega) (fun h104 => ?_) (fun h104 => ?_)
            · refine TGo.il dX10_reckonAll_154 rfl ?_
              refine TGo.bip 28 dX10_reckonAll_156 (by decide) ?_
              refine TGo.icmp_ge 231 dX10_reckonAll_158 (by decide) (by omega) (fun h158 => ?_) (fun h158 => ?_)
              · refine TGo.il dX10_reckonAll_231 rfl ?_
                refine TGo.bip 28 dX10_reckonAll_233 (by decide) ?_
                refine TGo.icmp_ne 259 dX10_reckonAll_235 (by decide) (by omega) (fun h235 => ?_) (fun h235 => ?_)
                · refine TGo.al0 dX10_reckonAll_259 rfl ?_
                  refine TGo.getS (t := 18) 31 31 (T + 15) (hT 0 (by decide)) rfl fgX10_82_10 dX10_reckonAll_260 rfl rfl rfl ?_
                  refine TGo.il3 dX10_reckonAll_263 rfl ?_
                  refine TGo.ic1 dX10_reckonAll_264 ?_
                  refine TGo.isub dX10_reckonAll_265 ?_
                  refine TGo.lald dX10_reckonAll_266 (hT 15 (by decide)) (by omega) rfl ?_
                  refine TGo.tol a (hav2 _ (by omega)) ?_
                  refine TGo.il dX10_reckonAll_267 rfl ?_
                  refine TGo.bip 29 dX10_reckonAll_269 (by decide) ?_
                  refine TGo.icmp_ne 278 dX10_reckonAll_271 (by decide) (by omega) (fun h271 => ?_) (fun h271 => ?_)
                  · refine TGo.lc1 dX10_reckonAll_278 ?_
                    refine TGo.lc_ne 290 dX10_reckonAll_279 dX10_reckonAll_280 (by decide) (by omega) (fun h279 => ?_) (fun h279 => ?_)
                    · refine TGo.iinc dX10_reckonAll_290 rfl rfl rfl ?_
                      refine TGo.goto 10 dX10_reckonAll_293 (by decide) ?_
                      exact TGo.seq [some (.ref T), some (.int (iI i0)), some (.int (iI l)), some (.int (iI (((st').length : Nat) : Int))), some (.int (iI (k + 1))), _, _] [] _ (by rw [show N + -1 = ((st'.length : Nat) : Int) by omega]; rfl) rfl rfl (ih (k + 1) (st') _ _ _ _ (by omega) (by omega) (by simp only [List.length_cons] at *; omega) rfl hz hst3 hfr (by first | exact hb | exact (u2_s) | assumption) hev)
                    · exfalso; omega
                  · exfalso; omega
                · exfalso; omega
              · exfalso; omega
            · exfalso; omega
