/-! THE MODEL: centuries -/
set_option maxRecDepth 100000
def drZ (s : Int) : Int := (s * 1103 + 12345) % 1000003
theorem drZ_in (s : Int) : 0 ≤ drZ s ∧ drZ s < 1000003 := by unfold drZ; omega
set_option maxHeartbeats 4000000 in
theorem kX10_draw {E : ET} {sh : SHT} {nn : Nat × Nat} {V : VT} {T : Nat} {z : ZT} {s : Int} {n : Int} (hT : MSh T sh) (hz : PE T V z) (hs : V.2.1 T 71 = s) (hs0 : 0 ≤ s ∧ s < 1000003) (hn : 1 ≤ n ∧ n ≤ 100) : TS E mX10_draw 1 [.ref T, .int (iI n)] sh nn V (fun v V' => v = .int (iI (drZ s % n)) ∧ PE T V' z ∧ V'.1 = V.1 ∧ V'.2.1 T 71 = drZ s) := by
  have hd := drZ_in s
  refine TC.intro [some (.ref T), some (.int (iI n))] rfl ?_
  refine TGo.al0 dX10_draw_0 rfl ?_
  refine TGo.al0 dX10_draw_1 rfl ?_
  refine TGo.getJ (t := 18) 71 71 (hT 0 (by decide)) rfl fgX10_604_10 dX10_draw_2 rfl rfl rfl ?_
  refine TGo.tol s hs ?_
  refine TGo.ldc2 1103 dX10_draw_5 q2568 (by decide) ?_
  refine TGo.lmul dX10_draw_8 ?_
  refine TGo.ldc2 12345 dX10_draw_9 q2569 (by decide) ?_
  refine TGo.ladd dX10_draw_12 ?_
  refine TGo.ldc2 1000003 dX10_draw_13 q2570 (by decide) ?_
  refine TGo.lrem dX10_draw_16 (by omega) (by omega) ?_
  refine TGo.tol (drZ s) (by unfold drZ; rw [Int.tmod_eq_emod_of_nonneg (by omega)]) ?_
  refine TGo.putJ (t := 18) 71 71 (hT 0 (by decide)) rfl fpX10_604_10 dX10_draw_17 rfl rfl rfl ?_
  refine TGo.al0 dX10_draw_20 rfl ?_
  refine TGo.getJ (t := 18) 71 71 (hT 0 (by decide)) rfl fgX10_604_10 dX10_draw_21 rfl rfl rfl ?_
  refine TGo.tol (drZ s) u2_s ?_
  refine TGo.il1 dX10_draw_24 rfl ?_
  refine TGo.i2l dX10_draw_25 (by omega) ?_
  refine TGo.lrem dX10_draw_26 (by omega) (by omega) ?_
  refine TGo.tol (drZ s % n) (by rw [Int.tmod_eq_emod_of_nonneg (by omega)]) ?_
  have hm1 := Int.emod_nonneg (drZ s) (show n ≠ 0 by omega)
  have hm2 := Int.emod_lt_of_pos (drZ s) (show 0 < n by omega)
  refine TGo.l2i dX10_draw_27 (by omega) ?_
  refine TGo.iret dX10_draw_28 rfl ?_
  exact ⟨_, rfl, rfl, rfl, rfl, (hz.lf trivial), rfl, u2_s⟩
/-- one lesson: over the rules -/
def ciZ (sl : Int) (S : Int × (Int → Int)) : Nat → Int × (Int → Int)
  | 0 => S
  | r + 1 => if (ciZ sl S r).2 (r : Int) = -1 then ciZ sl S r else if drZ (ciZ sl S r).1 % 100 < sl then (drZ (ciZ sl S r).1, zu (ciZ sl S r).2 (r : Int) (((ciZ sl S r).2 (r : Int) + 6) % 60)) else (drZ (ciZ sl S r).1, (ciZ sl S r).2)
/-- k lessons -/
def coZ (f : Int → Int) (a : Int) (S : (Int × (Int → Int)) × (Int → Int)) : Nat → (Int × (Int → Int)) × (Int → Int)
  | 0 => S
  | k + 1 => (ciZ (slipZ f (drZ (coZ f a S k).1.1 % f 1) a (-1) (f 7)) (drZ (coZ f a S k).1.1, (coZ f a S k).1.2) 36, zu (coZ f a S k).2 (drZ (coZ f a S k).1.1 % f 1) ((coZ f a S k).2 (drZ (coZ f a S k).1.1 % f 1) + 1))
def zC (z : ZT) (d pu : Int → Int) : ZT := zA (zA (zi (zi z 75 1) 74 (z.2 3 1)) 72 d) 73 pu
theorem zC_d {z : ZT} {d pu : Int → Int} {i v : Int} : za (zC z d pu) 72 i v = zC z (zu d i v) pu := by
  unfold zC za zA
  refine Prod.ext rfl (funext fun k => funext fun j => ?_)
  by_cases e : k = 73
  · subst e; simp [u1, u2, zu]
  · by_cases e2 : k = 72
    · subst e2; simp [u1, u2, zu]
    · simp [u1, u2, zu, e, e2]
theorem zC_p {z : ZT} {d pu : Int → Int} {i v : Int} : za (zC z d pu) 73 i v = zC z d (zu pu i v) := by
  unfold zC za zA
  refine Prod.ext rfl (funext fun k => funext fun j => ?_)
  by_cases e : k = 73
  · subst e; simp [u1, u2, zu]
  · simp [u1, u2, zu, e]
theorem ciZ_s {sl : Int} {S : Int × (Int → Int)} (h : 0 ≤ S.1 ∧ S.1 < 1000003) (hd : ∀ r, 0 ≤ r → r < 36 → cOK (S.2 r)) : ∀ r : Nat, (0 ≤ (ciZ sl S r).1 ∧ (ciZ sl S r).1 < 1000003) ∧ ∀ i, 0 ≤ i → i < 36 → cOK ((ciZ sl S r).2 i) := by
  intro r
  induction r with
  | zero => exact ⟨h, hd⟩
  | succ r ih =>
    rw [ciZ]
    split
    · exact ih
    · split
      · refine ⟨drZ_in _, fun i h0 h1 => ?_⟩
        simp only
        unfold zu
        split
        · unfold cOK; omega
        · exact ih.2 i h0 h1
      · exact ⟨drZ_in _, ih.2⟩
set_option maxHeartbeats 4000000 in
theorem iX10_century {E : ET} {sh : SHT} {nn : Nat × Nat} {T : Nat} {z : ZT} {sd a n0 k0 p sl : Int} {S : Int × (Int → Int)} {pu : Int → Int} {Q : AO → SHT → Nat × Nat → VT → Prop} (hT : MSh T sh) (hS : 0 ≤ S.1 ∧ S.1 < 1000003) (hd : ∀ r, 0 ≤ r → r < 36 → cOK (S.2 r)) (hsl : 0 ≤ sl ∧ sl ≤ 100) (K : ∀ V : VT, PE T V (zC z (ciZ sl S 36).2 pu) → V.2.1 T 71 = (ciZ sl S 36).1 → TGo E mX10_century 6 245 [some (.ref T), some (.int (iI sd)), some (.int (iI a)), some (.int (iI n0)), some (.int (iI k0)), some (.int (iI p)), some (.int (iI sl)), some (.int (iI (((36) : Nat) : Int)))] [] sh nn V Q) : ∀ (n j : Nat) (V : VT), 36 - j < n → j ≤ 36 → PE T V (zC z (ciZ sl S j).2 pu) → (V.2.1 T 71 = (ciZ sl S j).1) → TGo E mX10_century 6 190 [some (.ref T), some (.int (iI sd)), some (.int (iI a)), some (.int (iI n0)), some (.int (iI k0)), some (.int (iI p)), some (.int (iI sl)), some (.int (iI (((j) : Nat) : Int)))] [] sh nn V Q := by
  intro n
  induction n with
  | zero => intro j V h; omega
  | succ n ih =>
    intro j V hn hj hz hx
    have hci := ciZ_s (sl := sl) hS hd j
    refine TGo.il dX10_century_190 rfl ?_
    refine TGo.bip 36 dX10_century_192 (by decide) ?_
    refine TGo.icmp_ge 245 dX10_century_194 (by decide) (by omega) (fun h194 => ?_) (fun h194 => ?_)
    · obtain rfl : j = 36 := by omega
      exact K V hz hx
    · have hcj := hci.2 (j : Int) (by omega) (by omega)
      have hdm : 0 ≤ drZ (ciZ sl S j).1 % 100 ∧ drZ (ciZ sl S j).1 % 100 < 100 := by omega
      unfold cOK at hcj
      refine TGo.al0 dX10_century_197 rfl ?_
      refine TGo.getS (t := 18) 72 72 (T + 40) (hT 0 (by decide)) rfl fgX10_157_10 dX10_century_198 rfl rfl rfl ?_
      refine TGo.il dX10_century_201 rfl ?_
      refine TGo.iald dX10_century_203 (hT 40 (by decide)) (by omega) rfl ?_
      refine TGo.toz ((ciZ sl S j).2 (j : Int)) (hz.2.1 72 (by decide) _) ?_
      refine TGo.icm1 dX10_century_204 ?_
      refine TGo.icmp_eq 239 dX10_century_205 (by decide) (by omega) (fun h205 => ?_) (fun h205 => ?_)
      · refine TGo.iinc dX10_century_239 rfl rfl rfl ?_
        refine TGo.goto 190 dX10_century_242 (by decide) ?_
        first | (exfalso; omega) | exact TGo.seq [some (.ref T), some (.int (iI sd)), some (.int (iI a)), some (.int (iI n0)), some (.int (iI k0)), some (.int (iI p)), some (.int (iI sl)), some (.int (iI ((((j + 1)) : Nat) : Int)))] [] _ (rfl) rfl rfl (ih (j + 1) _ (by omega) (by omega) (PE.eq hz (by rw [ciZ]; first | (rw [if_pos (by omega)]) | (rw [if_neg (by omega), if_pos (by omega)]; exact zC_d) | (rw [if_neg (by omega), if_neg (by omega)]))) (by rw [ciZ]; first | (rw [if_pos (by omega)]; exact hx) | (rw [if_neg (by omega), if_pos (by omega)]; exact hs211) | (rw [if_neg (by omega), if_neg (by omega)]; exact hs211)))
      · refine TGo.al0 dX10_century_208 rfl ?_
        refine TGo.bip 100 dX10_century_209 (by decide) ?_
        refine TGo.cS (csV1 (y2 := mX10_draw) (t := 18) 1 rfl (hT 0 (by decide)) rfl rfl dX10_century_211 q2564 q2566 qs110 okX10_draw npX10_draw rfl rfl) (kX10_draw hT hz hx hci.1 (by omega)) (fun v211 V211 h211 => ?_)
        obtain ⟨rfl, hz211, hv211, hs211⟩ := h211
        refine TGo.il dX10_century_214 rfl ?_
        refine TGo.icmp_ge 239 dX10_century_216 (by decide) (by omega) (fun h216 => ?_) (fun h216 => ?_)
        · refine TGo.iinc dX10_century_239 rfl rfl rfl ?_
          refine TGo.goto 190 dX10_century_242 (by decide) ?_
          first | (exfalso; omega) | exact TGo.seq [some (.ref T), some (.int (iI sd)), some (.int (iI a)), some (.int (iI n0)), some (.int (iI k0)), some (.int (iI p)), some (.int (iI sl)), some (.int (iI ((((j + 1)) : Nat) : Int)))] [] _ (rfl) rfl rfl (ih (j + 1) _ (by omega) (by omega) (PE.eq hz211 (by rw [ciZ]; first | (rw [if_pos (by omega)]) | (rw [if_neg (by omega), if_pos (by omega)]; exact zC_d) | (rw [if_neg (by omega), if_neg (by omega)]))) (by rw [ciZ]; first | (rw [if_pos (by omega)]; exact hx) | (rw [if_neg (by omega), if_pos (by omega)]; exact hs211) | (rw [if_neg (by omega), if_neg (by omega)]; exact hs211)))
        · refine TGo.al0 dX10_century_219 rfl ?_
          refine TGo.getS (t := 18) 72 72 (T + 40) (hT 0 (by decide)) rfl fgX10_157_10 dX10_century_220 rfl rfl rfl ?_
          refine TGo.il dX10_century_223 rfl ?_
          refine TGo.al0 dX10_century_225 rfl ?_
          refine TGo.getS (t := 18) 72 72 (T + 40) (hT 0 (by decide)) rfl fgX10_157_10 dX10_century_226 rfl rfl rfl ?_
          refine TGo.il dX10_century_229 rfl ?_
          refine TGo.iald dX10_century_231 (hT 40 (by decide)) (by omega) rfl ?_
          refine TGo.toz ((ciZ sl S j).2 (j : Int)) (hz211.2.1 72 (by decide) _) ?_
          refine TGo.bip 6 dX10_century_232 (by decide) ?_
          refine TGo.iadd dX10_century_234 ?_
          refine TGo.bip 60 dX10_century_235 (by decide) ?_
          refine TGo.irem dX10_century_237 (by omega) ?_
          refine TGo.iast dX10_century_238 (hT 40 (by decide)) (by omega) rfl ?_
          refine TGo.iinc dX10_century_239 rfl rfl rfl ?_
          refine TGo.goto 190 dX10_century_242 (by decide) ?_
          first | (exfalso; omega) | exact TGo.seq [some (.ref T), some (.int (iI sd)), some (.int (iI a)), some (.int (iI n0)), some (.int (iI k0)), some (.int (iI p)), some (.int (iI sl)), some (.int (iI ((((j + 1)) : Nat) : Int)))] [] _ (rfl) rfl rfl (ih (j + 1) _ (by omega) (by omega) (PE.eq (hz211.a 72 rfl rfl) (by rw [ciZ]; first | (rw [if_pos (by omega)]) | (rw [if_neg (by omega), if_pos (by omega)]; exact zC_d) | (rw [if_neg (by omega), if_neg (by omega)]))) (by rw [ciZ]; first | (rw [if_pos (by omega)]; exact hx) | (rw [if_neg (by omega), if_pos (by omega)]; exact hs211) | (rw [if_neg (by omega), if_neg (by omega)]; exact hs211)))
theorem coZ_s {f : Int → Int} {a : Int} {S : (Int × (Int → Int)) × (Int → Int)} (h : 0 ≤ S.1.1 ∧ S.1.1 < 1000003) (hd : ∀ r, 0 ≤ r → r < 36 → cOK (S.1.2 r)) : ∀ k : Nat, (0 ≤ (coZ f a S k).1.1 ∧ (coZ f a S k).1.1 < 1000003) ∧ ∀ i, 0 ≤ i → i < 36 → cOK ((coZ f a S k).1.2 i) := by
  intro k
  induction k with
  | zero => exact ⟨h, hd⟩
  | succ k ih =>
    have q := ciZ_s (sl := slipZ f (drZ (coZ f a S k).1.1 % f 1) a (-1) (f 7)) (S := (drZ (coZ f a S k).1.1, (coZ f a S k).1.2)) (drZ_in _) ih.2 36
    simp only [coZ]
    exact q
set_option maxHeartbeats 4000000 in
theorem lX10_century {E : ET} {sh : SHT} {nn : Nat × Nat} {T : Nat} {z : ZT} {sd a : Int} {m : Nat} {S : (Int × (Int → Int)) × (Int → Int)} {Q : AO → SHT → Nat × Nat → VT → Prop} (hT : MSh T sh) (W : RWZ (z.2 3)) (WL : LawsZ (z.2 3)) (h15 : z.1 15 = 0) (ha : 0 ≤ a ∧ a ≤ 6) (hm : m ≤ 100) (hS : 0 ≤ S.1.1 ∧ S.1.1 < 1000003) (hd : ∀ r, 0 ≤ r → r < 36 → cOK (S.1.2 r)) (K : ∀ (V : VT) (x4 x5 x6 x7 : Option Value), PE T V (zC z (coZ (z.2 3) a S (if 0 < z.2 3 1 then m else 0)).1.2 (coZ (z.2 3) a S (if 0 < z.2 3 1 then m else 0)).2) → TGo E mX10_century 6 251 [some (.ref T), some (.int (iI sd)), some (.int (iI a)), some (.int (iI (m : Int))), x4, x5, x6, x7] [] sh nn V Q) : ∀ (n j : Nat) (V : VT) (x5 x6 x7 : Option Value), m - j < n → j ≤ m → PE T V (zC z (coZ (z.2 3) a S j).1.2 (coZ (z.2 3) a S j).2) → (V.2.1 T 71 = (coZ (z.2 3) a S j).1.1 ∧ (0 < z.2 3 1 ∨ j = 0)) → TGo E mX10_century 6 136 [some (.ref T), some (.int (iI sd)), some (.int (iI a)), some (.int (iI (m : Int))), some (.int (iI (((j) : Nat) : Int))), x5, x6, x7] [] sh nn V Q := by
  intro n
  induction n with
  | zero => intro j V x5 x6 x7 h; omega
  | succ n ih =>
    intro j V x5 x6 x7 hn hj hz hx
    have w0 := W.1.1
    have w1 := W.1.2.1
    have w7 := W.1.2.2.2.2.2.2.2.1
    have hco := coZ_s (f := z.2 3) (a := a) hS hd j
    have hdm : 0 < z.2 3 1 → 0 ≤ (drZ (coZ (z.2 3) a S j).1.1 % z.2 3 1) ∧ (drZ (coZ (z.2 3) a S j).1.1 % z.2 3 1) < z.2 3 1 := fun h => ⟨Int.emod_nonneg _ (by omega), Int.emod_lt_of_pos _ h⟩
    refine TGo.il dX10_century_136 rfl ?_
    refine TGo.il3 dX10_century_138 rfl ?_
    refine TGo.icmp_ge 251 dX10_century_139 (by decide) (by omega) (fun h139 => ?_) (fun h139 => ?_)
    · have ej : (if 0 < z.2 3 1 then m else 0) = j := by
        by_cases q : 0 < z.2 3 1
        · rw [if_pos q]; omega
        · rw [if_neg q]; have := hx.2; omega
      exact K V _ _ _ _ (by rw [ej]; exact hz)
    · refine TGo.al0 dX10_century_142 rfl ?_
      refine TGo.getI (t := 18) 74 74 (hT 0 (by decide)) rfl fgX10_616_10 dX10_century_143 rfl rfl rfl ?_
      refine TGo.toz (z.2 3 1) (hz.1 74 rfl) ?_
      refine TGo.if_le 251 dX10_century_146 (by decide) (by omega) (fun h146 => ?_) (fun h146 => ?_)
      · have ej : (if 0 < z.2 3 1 then m else 0) = j := by
          by_cases q : 0 < z.2 3 1
          · rw [if_pos q]; omega
          · rw [if_neg q]; have := hx.2; omega
        exact K V _ _ _ _ (by rw [ej]; exact hz)
      · have hdm1 := hdm (by omega)
        refine TGo.al0 dX10_century_149 rfl ?_
        refine TGo.al0 dX10_century_150 rfl ?_
        refine TGo.getI (t := 18) 74 74 (hT 0 (by decide)) rfl fgX10_616_10 dX10_century_151 rfl rfl rfl ?_
        refine TGo.toz (z.2 3 1) (hz.1 74 rfl) ?_
        refine TGo.cS (csV1 (y2 := mX10_draw) (t := 18) 1 rfl (hT 0 (by decide)) rfl rfl dX10_century_154 q2564 q2566 qs110 okX10_draw npX10_draw rfl rfl) (kX10_draw hT hz hx.1 hco.1 (by omega)) (fun v154 V154 h154 => ?_)
        obtain ⟨rfl, hz154, hv154, hs154⟩ := h154
        refine TGo.is dX10_century_157 rfl rfl ?_
        refine TGo.al0 dX10_century_159 rfl ?_
        refine TGo.il dX10_century_160 rfl ?_
        refine TGo.il2 dX10_century_162 rfl ?_
        refine TGo.icm1 dX10_century_163 ?_
        refine TGo.al0 dX10_century_164 rfl ?_
        refine TGo.getS (t := 18) 3 3 (T + 2) (hT 0 (by decide)) rfl fgX10_13_10 dX10_century_165 rfl rfl rfl ?_
        refine TGo.bip 7 dX10_century_168 (by decide) ?_
        refine TGo.iald dX10_century_170 (hT 2 (by decide)) (by omega) rfl ?_
        refine TGo.toz (z.2 3 7) (hz154.2.1 3 (by decide) _) ?_
        refine TGo.cS (csV4 (y2 := mX10_slipOf) (t := 18) 5 rfl (hT 0 (by decide)) rfl rfl dX10_century_171 q2285 q2287 qs71 okX10_slipOf npX10_slipOf rfl rfl) (kX10_slipOf (p := (drZ (coZ (z.2 3) a S j).1.1 % z.2 3 1)) (a := a) (t := -1) (y := z.2 3 7) hT hz154 (show RWZ ((zC z (coZ (z.2 3) a S j).1.2 (coZ (z.2 3) a S j).2).2 3) from W) (show LawsZ ((zC z (coZ (z.2 3) a S j).1.2 (coZ (z.2 3) a S j).2).2 3) from WL) h15 hdm1 ha (by omega) w7) (fun v171 V171 h171 => ?_)
        obtain ⟨rfl, hz171, hf171⟩ := h171
        refine TGo.is dX10_century_174 rfl rfl ?_
        refine TGo.al0 dX10_century_176 rfl ?_
        refine TGo.getS (t := 18) 73 73 (T + 41) (hT 0 (by decide)) rfl fgX10_160_10 dX10_century_177 rfl rfl rfl ?_
        refine TGo.il dX10_century_180 rfl ?_
        refine TGo.dup2 dX10_century_182 rfl rfl ?_
        refine TGo.iald dX10_century_183 (hT 41 (by decide)) (by omega) rfl ?_
        refine TGo.toz ((coZ (z.2 3) a S j).2 (drZ (coZ (z.2 3) a S j).1.1 % z.2 3 1)) (hz171.2.1 73 (by decide) _) ?_
        refine TGo.ic1 dX10_century_184 ?_
        refine TGo.iadd dX10_century_185 ?_
        refine TGo.iast dX10_century_186 (hT 41 (by decide)) (by omega) rfl ?_
        refine TGo.ic0 dX10_century_187 ?_
        refine TGo.is dX10_century_188 rfl rfl ?_
        have hsl := slipZ_r (z.2 3) (drZ (coZ (z.2 3) a S j).1.1 % z.2 3 1) a (-1) (z.2 3 7)
        refine TGo.seq [some (.ref T), some (.int (iI sd)), some (.int (iI a)), some (.int (iI (m : Int))), some (.int (iI (j : Int))), some (.int (iI (drZ (coZ (z.2 3) a S j).1.1 % z.2 3 1))), some (.int (iI (slipZ (z.2 3) (drZ (coZ (z.2 3) a S j).1.1 % z.2 3 1) a (-1) (z.2 3 7)))), some (.int (iI (((0 : Nat) : Int))))] [] _ rfl rfl rfl (iX10_century (S := (drZ (coZ (z.2 3) a S j).1.1, (coZ (z.2 3) a S j).1.2)) (pu := zu (coZ (z.2 3) a S j).2 (drZ (coZ (z.2 3) a S j).1.1 % z.2 3 1) ((coZ (z.2 3) a S j).2 (drZ (coZ (z.2 3) a S j).1.1 % z.2 3 1) + 1)) hT (drZ_in _) hco.2 hsl (fun V1 hz1 hs1 => ?_) 37 0 _ (by omega) (by omega) (PE.eq (hz171.a 73 rfl rfl) zC_p) ((hf171.2.2.1 71 (by decide) (by decide)).trans hs154))
        refine TGo.iinc dX10_century_245 rfl rfl rfl ?_
        refine TGo.goto 136 dX10_century_248 (by decide) ?_
        exact TGo.seq [some (.ref T), some (.int (iI sd)), some (.int (iI a)), some (.int (iI (m : Int))), some (.int (iI ((((j + 1)) : Nat) : Int))), _, _, _] [] _ rfl rfl rfl (ih (j + 1) V1 _ _ _ (by omega) (by omega) hz1 ⟨hs1, Or.inl (by omega)⟩)
theorem zu_if {g h : Int → Int} {j : Nat} : zu (fun i => if 0 ≤ i ∧ i < (j : Int) then g i else h i) (j : Int) (g (j : Int)) = fun i => if 0 ≤ i ∧ i < ((j + 1 : Nat) : Int) then g i else h i := by
  funext i
  unfold zu
  by_cases e : i = (j : Int)
  · subst e; rw [if_pos rfl, if_pos (by omega)]
  · rw [if_neg e]
    show (if 0 ≤ i ∧ i < (j : Int) then g i else h i) = _
    by_cases q : 0 ≤ i ∧ i < (j : Int)
    · rw [if_pos q, if_pos (by omega)]
    · rw [if_neg q, if_neg (by omega)]
theorem zif_0 {g h : Int → Int} : (fun i => if 0 ≤ i ∧ i < ((0 : Nat) : Int) then g i else h i) = h := by
  funext i
  rw [if_neg (by omega)]
theorem zC_0 {z : ZT} : zi (zi z 75 1) 74 (z.2 3 1) = zC z (z.2 72) (z.2 73) := by
  unfold zC zA
  refine Prod.ext rfl ?_
  show z.2 = u1 (u1 z.2 72 (z.2 72)) 73 (z.2 73)
  rw [u1_id, u1_id]
/-- how many are otherwise of the first k rules -/
def cnoZ (d g : Int → Int) : Nat → Int
  | 0 => 0
  | k + 1 => cnoZ d g k + if d (k : Int) = g (k : Int) then 0 else 1
theorem cnoZ_in (d g : Int → Int) : ∀ k : Nat, 0 ≤ cnoZ d g k ∧ cnoZ d g k ≤ k := by
  intro k
  induction k with
  | zero => exact ⟨Int.le_refl _, Int.le_refl _⟩
  | succ k ih => rw [cnoZ]; split <;> omega
set_option maxHeartbeats 4000000 in
theorem eX10_century {E : ET} {sh : SHT} {nn : Nat × Nat} {T : Nat} {z : ZT} {sd a : Int} {m : Nat} {d pu : Int → Int} {x6 x7 : Option Value} (hT : MSh T sh) (W : RWZ (z.2 3)) (ha : 0 ≤ a ∧ a < z.2 3 0) (hd : ∀ r, 0 ≤ r → r < 36 → cOK (d r)) : ∀ (n j : Nat) (V : VT), 36 - j < n → j ≤ 36 → PE T V (zC z d pu) → TGo E mX10_century 6 257 [some (.ref T), some (.int (iI sd)), some (.int (iI a)), some (.int (iI (m : Int))), some (.int (iI (cnoZ d (fun r => z.2 3 (22 + 36 * a + r)) (j)))), some (.int (iI (((j) : Nat) : Int))), x6, x7] [] sh nn V (fun o sh' nn' V' => o = .inl (some (.int (iI (cnoZ d (fun r => z.2 3 (22 + 36 * a + r)) 36)))) ∧ sh' = sh ∧ nn' = nn ∧ PE T V' (zTell (zC z d pu) (cnoZ d (fun r => z.2 3 (22 + 36 * a + r)) 36))) := by
  intro n
  induction n with
  | zero => intro j V h; omega
  | succ n ih =>
    intro j V hn hj hz
    have w0 := W.1.1
    have hdf := cnoZ_in d (fun r => z.2 3 (22 + 36 * a + r)) j
    refine TGo.il dX10_century_257 rfl ?_
    refine TGo.bip 36 dX10_century_259 (by decide) ?_
    refine TGo.icmp_ge 305 dX10_century_261 (by decide) (by omega) (fun h261 => ?_) (fun h261 => ?_)
    · refine TGo.al0 dX10_century_305 rfl ?_
      refine TGo.il dX10_century_306 rfl ?_
      refine TGo.cS (csV1 (y2 := mX10_tell) (t := 18) 1 rfl (hT 0 (by decide)) rfl rfl dX10_century_308 q2035 q2037 qs39 okX10_tell npX10_tell rfl rfl) (kX10_tell (c := cnoZ d (fun r => z.2 3 (22 + 36 * a + r)) j) hT hz (by omega)) (fun v308 V308 h308 => ?_)
      obtain ⟨rfl, hz308⟩ := h308
      refine TGo.iret dX10_century_311 rfl ?_
      obtain rfl : j = 36 := by omega
      exact ⟨rfl, rfl, rfl, hz308⟩
    · have hdj := hd (j : Int) (by omega) (by omega)
      have wj := W.2.2.1 a (j : Int) ha.1 ha.2 (by omega) (by omega)
      unfold cOK at hdj wj
      refine TGo.il dX10_century_264 rfl ?_
      refine TGo.al0 dX10_century_266 rfl ?_
      refine TGo.getS (t := 18) 72 72 (T + 40) (hT 0 (by decide)) rfl fgX10_157_10 dX10_century_267 rfl rfl rfl ?_
      refine TGo.il dX10_century_270 rfl ?_
      refine TGo.iald dX10_century_272 (hT 40 (by decide)) (by omega) rfl ?_
      refine TGo.toz (d (j : Int)) (hz.2.1 72 (by decide) _) ?_
      refine TGo.al0 dX10_century_273 rfl ?_
      refine TGo.getS (t := 18) 3 3 (T + 2) (hT 0 (by decide)) rfl fgX10_13_10 dX10_century_274 rfl rfl rfl ?_
      refine TGo.bip 22 dX10_century_277 (by decide) ?_
      refine TGo.bip 36 dX10_century_279 (by decide) ?_
      refine TGo.il2 dX10_century_281 rfl ?_
      refine TGo.imul dX10_century_282 ?_
      refine TGo.iadd dX10_century_283 ?_
      refine TGo.il dX10_century_284 rfl ?_
      refine TGo.iadd dX10_century_286 ?_
      refine TGo.iald dX10_century_287 (hT 2 (by decide)) (by omega) rfl ?_
      refine TGo.toz (z.2 3 (22 + 36 * a + (j : Int))) (hz.2.1 3 (by decide) _) ?_
      refine TGo.icmp_ne 295 dX10_century_288 (by decide) (by omega) (fun h288 => ?_) (fun h288 => ?_)
      · refine TGo.ic1 dX10_century_295 ?_
        refine TGo.iadd dX10_century_296 ?_
        refine TGo.is dX10_century_297 rfl rfl ?_
        refine TGo.iinc dX10_century_299 rfl rfl rfl ?_
        refine TGo.goto 257 dX10_century_302 (by decide) ?_
        exact TGo.seq [some (.ref T), some (.int (iI sd)), some (.int (iI a)), some (.int (iI (m : Int))), some (.int (iI (cnoZ d (fun r => z.2 3 (22 + 36 * a + r)) ((j + 1))))), some (.int (iI ((((j + 1)) : Nat) : Int))), x6, x7] [] _ (by rw [cnoZ]; first | (rw [if_pos (by omega)]; rfl) | (rw [if_neg (by omega)]; rfl)) rfl rfl (ih (j + 1) _ (by omega) (by omega) hz)
      · refine TGo.ic0 dX10_century_291 ?_
        refine TGo.goto 296 dX10_century_292 (by decide) ?_
        refine TGo.iadd dX10_century_296 ?_
        refine TGo.is dX10_century_297 rfl rfl ?_
        refine TGo.iinc dX10_century_299 rfl rfl rfl ?_
        refine TGo.goto 257 dX10_century_302 (by decide) ?_
        exact TGo.seq [some (.ref T), some (.int (iI sd)), some (.int (iI a)), some (.int (iI (m : Int))), some (.int (iI (cnoZ d (fun r => z.2 3 (22 + 36 * a + r)) ((j + 1))))), some (.int (iI ((((j + 1)) : Nat) : Int))), x6, x7] [] _ (by rw [cnoZ]; first | (rw [if_pos (by omega)]; rfl) | (rw [if_neg (by omega)]; rfl)) rfl rfl (ih (j + 1) _ (by omega) (by omega) hz)
def ceZ (z : ZT) (sd a : Int) (n : Int) : (Int × (Int → Int)) × (Int → Int) := coZ (z.2 3) a ((sd, fun i => if 0 ≤ i ∧ i < ((36 : Nat) : Int) then z.2 3 (22 + 36 * a + i) else z.2 72 i), fun i => if 0 ≤ i ∧ i < ((8 : Nat) : Int) then 0 else z.2 73 i) (if 0 < z.2 3 1 then n.toNat else 0)
def zp_century (z : ZT) (sd a n : Int) : Int × ZT := if ¬ ((0 ≤ sd ∧ sd ≤ 1000000) ∧ 0 ≤ n ∧ n ≤ 100) then (-1, zTell z (-1)) else if ¬ (0 ≤ a ∧ a < z.2 3 0) then (-2, zTell z (-2)) else (cnoZ (ceZ z sd a n).1.2 (fun r => z.2 3 (22 + 36 * a + r)) 36, zTell (zC z (ceZ z sd a n).1.2 (ceZ z sd a n).2) (cnoZ (ceZ z sd a n).1.2 (fun r => z.2 3 (22 + 36 * a + r)) 36))
set_option maxHeartbeats 4000000 in
theorem pX10_century {E : ET} {sh : SHT} {nn : Nat × Nat} {T : Nat} {z : ZT} {sd a : Int} {m : Nat} (hT : MSh T sh) (W : RWZ (z.2 3)) (WL : LawsZ (z.2 3)) (h15 : z.1 15 = 0) (ha : 0 ≤ a ∧ a < z.2 3 0) (hm : m ≤ 100) (hsd : 0 ≤ sd ∧ sd ≤ 1000000) : ∀ (n j : Nat) (V : VT), 8 - j < n → j ≤ 8 → PE T V (zC z (fun i => if 0 ≤ i ∧ i < (((36) : Nat) : Int) then z.2 3 (22 + 36 * a + i) else z.2 72 i) (fun i => if 0 ≤ i ∧ i < (((j) : Nat) : Int) then 0 else z.2 73 i)) → (V.2.1 T 71 = sd) → TGo E mX10_century 6 112 [some (.ref T), some (.int (iI sd)), some (.int (iI a)), some (.int (iI (m : Int))), some (.int (iI (((j) : Nat) : Int))), none, none, none] [] sh nn V (fun o sh' nn' V' => o = .inl (some (.int (iI (cnoZ (ceZ z sd a (m : Int)).1.2 (fun r => z.2 3 (22 + 36 * a + r)) 36)))) ∧ sh' = sh ∧ nn' = nn ∧ PE T V' (zTell (zC z (ceZ z sd a (m : Int)).1.2 (ceZ z sd a (m : Int)).2) (cnoZ (ceZ z sd a (m : Int)).1.2 (fun r => z.2 3 (22 + 36 * a + r)) 36))) := by
  intro n
  induction n with
  | zero => intro j V h; omega
  | succ n ih =>
    intro j V hn hj hz hx
    have w0 := W.1.1
    refine TGo.il dX10_century_112 rfl ?_
    refine TGo.bip 8 dX10_century_114 (by decide) ?_
    refine TGo.icmp_ge 133 dX10_century_116 (by decide) (by omega) (fun h116 => ?_) (fun h116 => ?_)
    · refine TGo.ic0 dX10_century_133 ?_
      refine TGo.is dX10_century_134 rfl rfl ?_
      obtain rfl : j = 8 := by omega
      have hd0 : ∀ r, 0 ≤ r → r < 36 → cOK ((fun i => if 0 ≤ i ∧ i < (((36) : Nat) : Int) then z.2 3 (22 + 36 * a + i) else z.2 72 i) r) := fun r h0 h1 => by
        show cOK (if 0 ≤ r ∧ r < ((36 : Nat) : Int) then z.2 3 (22 + 36 * a + r) else z.2 72 r)
        rw [if_pos (by omega)]
        exact W.2.2.1 a r ha.1 ha.2 h0 h1
      refine TGo.seq [some (.ref T), some (.int (iI sd)), some (.int (iI a)), some (.int (iI (m : Int))), some (.int (iI (((0) : Nat) : Int))), none, none, none] [] _ rfl rfl rfl (lX10_century (S := ((sd, (fun i => if 0 ≤ i ∧ i < (((36) : Nat) : Int) then z.2 3 (22 + 36 * a + i) else z.2 72 i)), (fun i => if 0 ≤ i ∧ i < (((8) : Nat) : Int) then 0 else z.2 73 i))) hT W WL h15 (by omega) hm (show 0 ≤ sd ∧ sd < 1000003 by omega) hd0 (fun V1 x4 x5 x6 x7 hz1 => ?_) (m + 1) 0 _ _ _ _ (by omega) (by omega) hz ⟨hx, Or.inr rfl⟩)
      have hcs := (coZ_s (f := z.2 3) (a := a) (S := ((sd, (fun i => if 0 ≤ i ∧ i < (((36) : Nat) : Int) then z.2 3 (22 + 36 * a + i) else z.2 72 i)), (fun i => if 0 ≤ i ∧ i < (((8) : Nat) : Int) then 0 else z.2 73 i))) (show 0 ≤ sd ∧ sd < 1000003 by omega) hd0 (if 0 < z.2 3 1 then m else 0)).2
      refine TGo.ic0 dX10_century_251 ?_
      refine TGo.is dX10_century_252 rfl rfl ?_
      refine TGo.ic0 dX10_century_254 ?_
      refine TGo.is dX10_century_255 rfl rfl ?_
      exact TGo.seq [some (.ref T), some (.int (iI sd)), some (.int (iI a)), some (.int (iI (m : Int))), some (.int (iI (cnoZ (ceZ z sd a (m : Int)).1.2 (fun r => z.2 3 (22 + 36 * a + r)) (0)))), some (.int (iI (((0) : Nat) : Int))), x6, x7] [] _ rfl rfl rfl (eX10_century (d := (ceZ z sd a (m : Int)).1.2) (pu := (ceZ z sd a (m : Int)).2) hT W ha hcs 37 0 _ (by omega) (by omega) hz1)
    · refine TGo.al0 dX10_century_119 rfl ?_
      refine TGo.getS (t := 18) 73 73 (T + 41) (hT 0 (by decide)) rfl fgX10_160_10 dX10_century_120 rfl rfl rfl ?_
      refine TGo.il dX10_century_123 rfl ?_
      refine TGo.ic0 dX10_century_125 ?_
      refine TGo.iast dX10_century_126 (hT 41 (by decide)) (by omega) rfl ?_
      refine TGo.iinc dX10_century_127 rfl rfl rfl ?_
      refine TGo.goto 112 dX10_century_130 (by decide) ?_
      exact TGo.seq [some (.ref T), some (.int (iI sd)), some (.int (iI a)), some (.int (iI (m : Int))), some (.int (iI ((((j + 1)) : Nat) : Int))), none, none, none] [] _ (rfl) rfl rfl (ih (j + 1) _ (by omega) (by omega) (PE.eq (hz.a 73 rfl rfl) (zC_p.trans (congrArg _ (zu_if (g := fun _ => 0))))) hx)
set_option maxHeartbeats 4000000 in
theorem dX10_century {E : ET} {sh : SHT} {nn : Nat × Nat} {T : Nat} {z : ZT} {sd a : Int} {m : Nat} (hT : MSh T sh) (W : RWZ (z.2 3)) (WL : LawsZ (z.2 3)) (h15 : z.1 15 = 0) (ha : 0 ≤ a ∧ a < z.2 3 0) (hm : m ≤ 100) (hsd : 0 ≤ sd ∧ sd ≤ 1000000) : ∀ (n j : Nat) (V : VT), 36 - j < n → j ≤ 36 → PE T V (zC z (fun i => if 0 ≤ i ∧ i < (((j) : Nat) : Int) then z.2 3 (22 + 36 * a + i) else z.2 72 i) (z.2 73)) → (V.2.1 T 71 = sd) → TGo E mX10_century 6 74 [some (.ref T), some (.int (iI sd)), some (.int (iI a)), some (.int (iI (m : Int))), some (.int (iI (((j) : Nat) : Int))), none, none, none] [] sh nn V (fun o sh' nn' V' => o = .inl (some (.int (iI (cnoZ (ceZ z sd a (m : Int)).1.2 (fun r => z.2 3 (22 + 36 * a + r)) 36)))) ∧ sh' = sh ∧ nn' = nn ∧ PE T V' (zTell (zC z (ceZ z sd a (m : Int)).1.2 (ceZ z sd a (m : Int)).2) (cnoZ (ceZ z sd a (m : Int)).1.2 (fun r => z.2 3 (22 + 36 * a + r)) 36))) := by
  intro n
  induction n with
  | zero => intro j V h; omega
  | succ n ih =>
    intro j V hn hj hz hx
    have w0 := W.1.1
    refine TGo.il dX10_century_74 rfl ?_
    refine TGo.bip 36 dX10_century_76 (by decide) ?_
    refine TGo.icmp_ge 109 dX10_century_78 (by decide) (by omega) (fun h78 => ?_) (fun h78 => ?_)
    · refine TGo.ic0 dX10_century_109 ?_
      refine TGo.is dX10_century_110 rfl rfl ?_
      obtain rfl : j = 36 := by omega
      exact TGo.seq [some (.ref T), some (.int (iI sd)), some (.int (iI a)), some (.int (iI (m : Int))), some (.int (iI (((0) : Nat) : Int))), none, none, none] [] _ rfl rfl rfl (pX10_century hT W WL h15 ha hm hsd 9 0 _ (by omega) (by omega) (PE.eq hz (congrArg (fun p => zC z (fun i => if 0 ≤ i ∧ i < (((36) : Nat) : Int) then z.2 3 (22 + 36 * a + i) else z.2 72 i) p) (zif_0 (g := fun _ => 0)).symm)) hx)
    · refine TGo.al0 dX10_century_81 rfl ?_
      refine TGo.getS (t := 18) 72 72 (T + 40) (hT 0 (by decide)) rfl fgX10_157_10 dX10_century_82 rfl rfl rfl ?_
      refine TGo.il dX10_century_85 rfl ?_
      refine TGo.al0 dX10_century_87 rfl ?_
      refine TGo.getS (t := 18) 3 3 (T + 2) (hT 0 (by decide)) rfl fgX10_13_10 dX10_century_88 rfl rfl rfl ?_
      refine TGo.bip 22 dX10_century_91 (by decide) ?_
      refine TGo.bip 36 dX10_century_93 (by decide) ?_
      refine TGo.il2 dX10_century_95 rfl ?_
      refine TGo.imul dX10_century_96 ?_
      refine TGo.iadd dX10_century_97 ?_
      refine TGo.il dX10_century_98 rfl ?_
      refine TGo.iadd dX10_century_100 ?_
      refine TGo.iald dX10_century_101 (hT 2 (by decide)) (by omega) rfl ?_
      refine TGo.toz (z.2 3 (22 + 36 * a + (j : Int))) (hz.2.1 3 (by decide) _) ?_
      refine TGo.iast dX10_century_102 (hT 40 (by decide)) (by omega) rfl ?_
      refine TGo.iinc dX10_century_103 rfl rfl rfl ?_
      refine TGo.goto 74 dX10_century_106 (by decide) ?_
      exact TGo.seq [some (.ref T), some (.int (iI sd)), some (.int (iI a)), some (.int (iI (m : Int))), some (.int (iI ((((j + 1)) : Nat) : Int))), none, none, none] [] _ (rfl) rfl rfl (ih (j + 1) _ (by omega) (by omega) (PE.eq (hz.a 72 rfl rfl) (zC_d.trans (congrArg (fun d => zC z d (z.2 73)) (zu_if (g := fun i => z.2 3 (22 + 36 * a + i)))))) hx)
set_option maxHeartbeats 4000000 in
theorem kX10_century {E : ET} {sh : SHT} {nn : Nat × Nat} {V : VT} {T : Nat} {z : ZT} {sd a n : Int} (hT : MSh T sh) (hz : PE T V z) (W : RWZ (z.2 3)) (WL : LawsZ (z.2 3)) (h15 : z.1 15 = 0) (rsd : R32 sd) (ra : R32 a) (rn : R32 n) : TC E mX10_century 6 [.ref T, .int (iI sd), .int (iI a), .int (iI n)] sh nn V (ZP T sh nn (zp_century z sd a n)) := by
  have w0 := W.1.1
  have w1 := W.1.2.1
  refine TC.intro [some (.ref T), some (.int (iI sd)), some (.int (iI a)), some (.int (iI n)), none, none, none, none] rfl ?_
  refine TGo.al0 dX10_century_0 rfl ?_
  refine TGo.ic0 dX10_century_1 ?_
  refine TGo.putI (t := 18) 0 0 (hT 0 (by decide)) rfl fpX10_163_10 dX10_century_2 rfl rfl rfl ?_
  refine TGo.il1 dX10_century_5 rfl ?_
  refine TGo.i2l dX10_century_6 (by omega) ?_
  refine TGo.lc0 dX10_century_7 ?_
  refine TGo.ldc2 1000000 dX10_century_8 q2183 (by decide) ?_
  refine TGo.cF (csS3 (y2 := mX10_in) 1 rfl dX10_century_11 q2032 q2033 okX10_in npX10_in rfl rfl) (kX10_in (by omega) (by omega) (by omega)) ?_
  refine TGo.ifb_eq 29 dX10_century_14 (by decide) (fun h14 => ?_) (fun h14 => ?_)
  · refine TGo.al0 dX10_century_29 rfl ?_
    refine TGo.icm1 dX10_century_30 ?_
    refine TGo.cS (csV1 (y2 := mX10_tell) (t := 18) 1 rfl (hT 0 (by decide)) rfl rfl dX10_century_31 q2035 q2037 qs39 okX10_tell npX10_tell rfl rfl) (kX10_tell hT (hz.s rfl) (by omega)) (fun v31 V31 h31 => ?_)
    obtain ⟨rfl, hz31⟩ := h31
    refine TGo.iret dX10_century_34 rfl ?_
    first
    | (exfalso; omega)
    | (refine leafZ hz31 ?_
       unfold zp_century
       (repeat (first | rw [if_pos (by first | rfl | assumption | omega)] | rw [if_neg (by first | decide | assumption | omega)]))
       (try first | rfl | rw [bZ_t (by first | assumption | omega)] | rw [bZ_f (by first | assumption | omega)]))
  · refine TGo.il3 dX10_century_17 rfl ?_
    refine TGo.i2l dX10_century_18 (by omega) ?_
    refine TGo.lc0 dX10_century_19 ?_
    refine TGo.ldc2 100 dX10_century_20 q2133 (by decide) ?_
    refine TGo.cF (csS3 (y2 := mX10_in) 1 rfl dX10_century_23 q2032 q2033 okX10_in npX10_in rfl rfl) (kX10_in (by omega) (by omega) (by omega)) ?_
    refine TGo.ifb_ne 35 dX10_century_26 (by decide) (fun h26 => ?_) (fun h26 => ?_)
    · refine TGo.al0 dX10_century_35 rfl ?_
      refine TGo.il2 dX10_century_36 rfl ?_
      refine TGo.cF (csV1 (y2 := mX10_isPart) (t := 18) 2 rfl (hT 0 (by decide)) rfl rfl dX10_century_37 q2061 q2063 qs40 okX10_isPart npX10_isPart rfl rfl) (kX10_isPart hT (hz.s rfl) w0 (by omega)) ?_
      refine TGo.ifb_ne 50 dX10_century_40 (by decide) (fun h40 => ?_) (fun h40 => ?_)
      · refine TGo.al0 dX10_century_50 rfl ?_
        refine TGo.il1 dX10_century_51 rfl ?_
        refine TGo.i2l dX10_century_52 (by omega) ?_
        refine TGo.putJ (t := 18) 71 71 (hT 0 (by decide)) rfl fpX10_604_10 dX10_century_53 rfl rfl rfl ?_
        refine TGo.al0 dX10_century_56 rfl ?_
        refine TGo.ic1 dX10_century_57 ?_
        refine TGo.putZ (t := 18) 75 75 (hT 0 (by decide)) rfl fpX10_613_10 dX10_century_58 rfl ⟨rfl, (by first | exact Or.inl rfl | exact Or.inr rfl | exact bZ_or _ | assumption)⟩ rfl ?_
        refine TGo.al0 dX10_century_61 rfl ?_
        refine TGo.al0 dX10_century_62 rfl ?_
        refine TGo.getS (t := 18) 3 3 (T + 2) (hT 0 (by decide)) rfl fgX10_13_10 dX10_century_63 rfl rfl rfl ?_
        refine TGo.ic1 dX10_century_66 ?_
        refine TGo.iald dX10_century_67 (hT 2 (by decide)) (by omega) rfl ?_
        refine TGo.toz _ ((u2_n (Or.inl (by omega))).trans ((u2_n (Or.inl (by omega))).trans (hz.2.1 3 (by decide) _))) ?_
        refine TGo.putI (t := 18) 74 74 (hT 0 (by decide)) rfl fpX10_616_10 dX10_century_68 rfl rfl rfl ?_
        refine TGo.ic0 dX10_century_71 ?_
        refine TGo.is dX10_century_72 rfl rfl ?_
        refine (TGo.seq [some (.ref T), some (.int (iI sd)), some (.int (iI a)), some (.int (iI ((n.toNat : Nat) : Int))), some (.int (iI (((0) : Nat) : Int))), none, none, none] [] _ (by rw [show ((n.toNat : Nat) : Int) = n by omega]; rfl) rfl rfl (dX10_century (m := n.toNat) hT W WL h15 (by omega) (by omega) (by omega) 37 0 _ (by omega) (by omega) (PE.eq ((((hz.s rfl).lf trivial).i rfl).i rfl) (zC_0.trans (congrArg (fun d => zC z d (z.2 73)) (zif_0 (g := fun i => z.2 3 (22 + 36 * a + i))).symm))) u2_s)).mono ?_
        rintro o sh' nn' V' ⟨ho, hs, hn, hp⟩
        rw [show ((n.toNat : Nat) : Int) = n by omega] at ho hp
        unfold zp_century
        rw [if_neg (by omega), if_neg (by omega)]
        exact ⟨ho, hs, hn, hp⟩
      · refine TGo.al0 dX10_century_43 rfl ?_
        refine TGo.bip (-2) dX10_century_44 (by decide) ?_
        refine TGo.cS (csV1 (y2 := mX10_tell) (t := 18) 1 rfl (hT 0 (by decide)) rfl rfl dX10_century_46 q2035 q2037 qs39 okX10_tell npX10_tell rfl rfl) (kX10_tell hT (hz.s rfl) (by omega)) (fun v46 V46 h46 => ?_)
        obtain ⟨rfl, hz46⟩ := h46
        refine TGo.iret dX10_century_49 rfl ?_
        first
        | (exfalso; omega)
        | (refine leafZ hz46 ?_
           unfold zp_century
           (repeat (first | rw [if_pos (by first | rfl | assumption | omega)] | rw [if_neg (by first | decide | assumption | omega)]))
           (try first | rfl | rw [bZ_t (by first | assumption | omega)] | rw [bZ_f (by first | assumption | omega)]))
    · refine TGo.al0 dX10_century_29 rfl ?_
      refine TGo.icm1 dX10_century_30 ?_
      refine TGo.cS (csV1 (y2 := mX10_tell) (t := 18) 1 rfl (hT 0 (by decide)) rfl rfl dX10_century_31 q2035 q2037 qs39 okX10_tell npX10_tell rfl rfl) (kX10_tell hT (hz.s rfl) (by omega)) (fun v31 V31 h31 => ?_)
      obtain ⟨rfl, hz31⟩ := h31
      refine TGo.iret dX10_century_34 rfl ?_
      first
      | (exfalso; omega)
      | (refine leafZ hz31 ?_
         unfold zp_century
         (repeat (first | rw [if_pos (by first | rfl | assumption | omega)] | rw [if_neg (by first | decide | assumption | omega)]))
         (try first | rfl | rw [bZ_t (by first | assumption | omega)] | rw [bZ_f (by first | assumption | omega)]))
