/-! THE MODEL: the fewest states, all ways -/
set_option maxRecDepth 100000
/-- the state behind the r1-th row; what could be said in the first s states -/
def s1Z (f o : Int → Int) (n : Nat) (N S : Int → Int) (r1 : Int) : Nat → Int
  | 0 => 0
  | k + 1 => if f (o (k : Int)) = r1 ∧ laL f o n (k : Int) then N (6 * S (k : Int) + f (o (k : Int) + 1)) else s1Z f o n N S r1 k
def wbZ (W : Int → Int) (cu s1 b : Int) : Nat → Int
  | 0 => b
  | s + 1 => if s1 ≠ -1 ∧ s1 ≠ (s : Int) then wbZ W cu s1 b s else if W (6 * (s : Int) + cu) = -1 then 1023 else obZ (wbZ W cu s1 b s) (W (6 * (s : Int) + cu))
theorem wbZ_in {W : Int → Int} {cu s1 b : Int} (hcu : 0 ≤ cu ∧ cu < 6) (hW : ∀ i, 0 ≤ i → i < 18 → -1 ≤ W i ∧ W i ≤ 9) (hb : 0 ≤ b ∧ b < 1024) : ∀ s : Nat, s ≤ 3 → 0 ≤ wbZ W cu s1 b s ∧ wbZ W cu s1 b s < 1024 := by
  intro s
  induction s with
  | zero => intro _; exact hb
  | succ s ih =>
    intro hs
    have h1 := ih (by omega)
    have h2 := hW (6 * (s : Int) + cu) (by omega) (by omega)
    rw [wbZ]
    split
    · exact h1
    · split
      · omega
      · exact (iI_ob h1 (by omega)).2
def meZ (f o : Int → Int) (n : Nat) (mo : Nat) (r1 cu : Int) (W N S : Int → Int) (A : Int × Int) : Int × Int := (A.1 + 1, wbZ W cu (s1Z f o n N S r1 n) A.2 mo)
theorem s1Z_in {f o : Int → Int} {n : Nat} {N S : Int → Int} {r1 mo : Int} (hmo : 1 ≤ mo ∧ mo ≤ 3) (hof : OF f o n) (hN : ∀ i, 0 ≤ i → i < 18 → -1 ≤ N i ∧ N i < mo) (hS : ∀ i, 0 ≤ i → i < (n : Int) → 0 ≤ S i ∧ S i < mo) : ∀ k : Nat, k ≤ n → -1 ≤ s1Z f o n N S r1 k ∧ s1Z f o n N S r1 k < mo := by
  intro k
  induction k with
  | zero => intro _; show -1 ≤ (0 : Int) ∧ (0 : Int) < mo; omega
  | succ k ih =>
    intro hk
    rw [s1Z]
    split
    · have h1 := hof (k : Int) (by omega) (by omega)
      have h2 := hS (k : Int) (by omega) (by omega)
      exact hN _ (by omega) (by omega)
    · exact ih (by omega)
set_option maxHeartbeats 4000000 in
theorem jX10_meet {E : ET} {sh : SHT} {nn : Nat × Nat} {T : Nat} {z : ZT} {n1 mo : Nat} {o : Int → Int} {r1 cu : Int} {Wd Nx Sa : Int → Int} {A : Int × Int} {V0 : VT} (hT : MSh T sh) (hn1 : z.2 3 6 = (n1 : Int)) (hn12 : n1 ≤ 12) (hof : OF (z.2 3) o n1) (hov : ∀ i, 0 ≤ i → i < (n1 : Int) → V0.1 (T + 32) i = o i) (hmo : 1 ≤ mo ∧ mo ≤ 3) (hcu : 0 ≤ cu ∧ cu < 6) (hr1 : 0 ≤ r1 ∧ r1 < 4) (hl : LSV T V0 Wd Nx) (hr : RGZ Wd Nx mo) (hsa : ∀ i, 0 ≤ i → i < (n1 : Int) → V0.1 (T + 33) i = Sa i) (hsr : ∀ i, 0 ≤ i → i < (n1 : Int) → 0 ≤ Sa i ∧ Sa i < mo) (hA : (0 ≤ A.1 ∧ A.1 ≤ 1000000) ∧ 0 ≤ A.2 ∧ A.2 < 1024) : ∀ (n j : Nat) (V : VT) (x6 : Option Value), mo - j < n → j ≤ mo → PE T V z → (Fr [T] V0 V ∧ V.1 T 69 = A.1 + 1 ∧ V.1 T 70 = (wbZ Wd cu (s1Z (z.2 3) o n1 Nx Sa r1 (n1)) A.2 (j))) → TGo E mX10_meet 2 94 [some (.ref T), some (.int (iI (mo : Int))), some (.int (iI r1)), some (.int (iI cu)), some (.int (iI (s1Z (z.2 3) o n1 Nx Sa r1 (n1)))), some (.int (iI (((j) : Nat) : Int))), x6] [] sh nn V (fun o' sh' nn' V' => o' = .inl none ∧ sh' = sh ∧ nn' = nn ∧ PE T V' z ∧ Fr [T] V0 V' ∧ V'.1 T 69 = (meZ (z.2 3) o n1 mo r1 cu Wd Nx Sa A).1 ∧ V'.1 T 70 = (meZ (z.2 3) o n1 mo r1 cu Wd Nx Sa A).2) := by
  intro n
  induction n with
  | zero => intro j V x6 h; omega
  | succ n ih =>
    intro j V x6 hn hj hz hx
    obtain ⟨hf, h69, h70⟩ := hx
    have hs1 := s1Z_in (r1 := r1) (show 1 ≤ (mo : Int) ∧ (mo : Int) ≤ 3 by omega) hof hr.2 hsr n1 (Nat.le_refl _)
    have hwb := wbZ_in (s1 := (s1Z (z.2 3) o n1 Nx Sa r1 (n1))) hcu hr.1 hA.2 j (by omega)
    refine TGo.il dX10_meet_94 rfl ?_
    refine TGo.il1 dX10_meet_96 rfl ?_
    refine TGo.icmp_ge 162 dX10_meet_97 (by decide) (by omega) (fun h97 => ?_) (fun h97 => ?_)
    · refine TGo.vret dX10_meet_162 rfl ?_
      obtain rfl : j = mo := by omega
      exact ⟨rfl, rfl, rfl, hz, hf, h69, h70⟩
    · have hW := hr.1 (6 * (j : Int) + cu) (by omega) (by omega)
      refine TGo.al0 dX10_meet_100 rfl ?_
      refine TGo.getS (t := 18) 63 63 (T + 34) (hT 0 (by decide)) rfl fgX10_139_10 dX10_meet_101 rfl rfl rfl ?_
      refine TGo.bip 6 dX10_meet_104 (by decide) ?_
      refine TGo.il dX10_meet_106 rfl ?_
      refine TGo.imul dX10_meet_108 ?_
      refine TGo.il3 dX10_meet_109 rfl ?_
      refine TGo.iadd dX10_meet_110 ?_
      refine TGo.iald dX10_meet_111 (hT 34 (by decide)) (by omega) rfl ?_
      refine TGo.toz (Wd (6 * (j : Int) + cu)) ((congrFun (hf.1 _ (by simp)) _).trans (hl.1 _ (by omega) (by omega))) ?_
      refine TGo.is dX10_meet_112 rfl rfl ?_
      refine TGo.al0 dX10_meet_114 rfl ?_
      refine TGo.dup dX10_meet_115 rfl ?_
      refine TGo.getI (t := 18) 70 70 (hT 0 (by decide)) rfl fgX10_583_10 dX10_meet_116 rfl rfl rfl ?_
      refine TGo.toz _ h70 ?_
      refine TGo.il dX10_meet_119 rfl ?_
      refine TGo.icm1 dX10_meet_121 ?_
      refine TGo.icmp_eq 136 dX10_meet_122 (by decide) (by omega) (fun h122 => ?_) (fun h122 => ?_)
      · refine TGo.il dX10_meet_136 rfl ?_
        refine TGo.icm1 dX10_meet_138 ?_
        refine TGo.icmp_ne 148 dX10_meet_139 (by decide) (by omega) (fun h139 => ?_) (fun h139 => ?_)
        · refine TGo.ic1 dX10_meet_148 ?_
          refine TGo.il dX10_meet_149 rfl ?_
          refine TGo.ishl dX10_meet_151 ?_
          refine TGo.ior dX10_meet_152 ?_
          first | (refine TGo.tos _ (iI_or0 _) ?_) | (refine TGo.tos _ (iI_oa hwb) ?_) | (refine TGo.tos _ (iI_ob hwb (by omega)).1 ?_)
          refine TGo.putI (t := 18) 70 70 (hT 0 (by decide)) rfl fpX10_583_10 dX10_meet_153 rfl rfl rfl ?_
          refine TGo.iinc dX10_meet_156 rfl rfl rfl ?_
          refine TGo.goto 94 dX10_meet_159 (by decide) ?_
          first | (exfalso; omega) | exact TGo.seq [some (.ref T), some (.int (iI (mo : Int))), some (.int (iI r1)), some (.int (iI cu)), some (.int (iI (s1Z (z.2 3) o n1 Nx Sa r1 (n1)))), some (.int (iI ((((j + 1)) : Nat) : Int))), _] [] _ (rfl) rfl rfl (ih (j + 1) _ _ (by omega) (by omega) (hz.s rfl) ⟨hf.i (by simp), (u2_n (Or.inr (by omega))).trans h69, u2_s.trans (by
            rw [wbZ]
            first
            | (rw [if_pos (by omega)])
            | (rw [if_neg (by omega), if_pos (by omega)])
            | (rw [if_neg (by omega), if_neg (by omega)]))⟩)
        · refine TGo.sip 1023 dX10_meet_142 (by decide) ?_
          refine TGo.goto 152 dX10_meet_145 (by decide) ?_
          refine TGo.ior dX10_meet_152 ?_
          first | (refine TGo.tos _ (iI_or0 _) ?_) | (refine TGo.tos _ (iI_oa hwb) ?_) | (refine TGo.tos _ (iI_ob hwb (by omega)).1 ?_)
          refine TGo.putI (t := 18) 70 70 (hT 0 (by decide)) rfl fpX10_583_10 dX10_meet_153 rfl rfl rfl ?_
          refine TGo.iinc dX10_meet_156 rfl rfl rfl ?_
          refine TGo.goto 94 dX10_meet_159 (by decide) ?_
          first | (exfalso; omega) | exact TGo.seq [some (.ref T), some (.int (iI (mo : Int))), some (.int (iI r1)), some (.int (iI cu)), some (.int (iI (s1Z (z.2 3) o n1 Nx Sa r1 (n1)))), some (.int (iI ((((j + 1)) : Nat) : Int))), _] [] _ (rfl) rfl rfl (ih (j + 1) _ _ (by omega) (by omega) (hz.s rfl) ⟨hf.i (by simp), (u2_n (Or.inr (by omega))).trans h69, u2_s.trans (by
            rw [wbZ]
            first
            | (rw [if_pos (by omega)])
            | (rw [if_neg (by omega), if_pos (by omega)])
            | (rw [if_neg (by omega), if_neg (by omega)]))⟩)
      · refine TGo.il dX10_meet_125 rfl ?_
        refine TGo.il dX10_meet_127 rfl ?_
        refine TGo.icmp_eq 136 dX10_meet_129 (by decide) (by omega) (fun h129 => ?_) (fun h129 => ?_)
        · refine TGo.il dX10_meet_136 rfl ?_
          refine TGo.icm1 dX10_meet_138 ?_
          refine TGo.icmp_ne 148 dX10_meet_139 (by decide) (by omega) (fun h139 => ?_) (fun h139 => ?_)
          · refine TGo.ic1 dX10_meet_148 ?_
            refine TGo.il dX10_meet_149 rfl ?_
            refine TGo.ishl dX10_meet_151 ?_
            refine TGo.ior dX10_meet_152 ?_
            first | (refine TGo.tos _ (iI_or0 _) ?_) | (refine TGo.tos _ (iI_oa hwb) ?_) | (refine TGo.tos _ (iI_ob hwb (by omega)).1 ?_)
            refine TGo.putI (t := 18) 70 70 (hT 0 (by decide)) rfl fpX10_583_10 dX10_meet_153 rfl rfl rfl ?_
            refine TGo.iinc dX10_meet_156 rfl rfl rfl ?_
            refine TGo.goto 94 dX10_meet_159 (by decide) ?_
            first | (exfalso; omega) | exact TGo.seq [some (.ref T), some (.int (iI (mo : Int))), some (.int (iI r1)), some (.int (iI cu)), some (.int (iI (s1Z (z.2 3) o n1 Nx Sa r1 (n1)))), some (.int (iI ((((j + 1)) : Nat) : Int))), _] [] _ (rfl) rfl rfl (ih (j + 1) _ _ (by omega) (by omega) (hz.s rfl) ⟨hf.i (by simp), (u2_n (Or.inr (by omega))).trans h69, u2_s.trans (by
              rw [wbZ]
              first
              | (rw [if_pos (by omega)])
              | (rw [if_neg (by omega), if_pos (by omega)])
              | (rw [if_neg (by omega), if_neg (by omega)]))⟩)
          · refine TGo.sip 1023 dX10_meet_142 (by decide) ?_
            refine TGo.goto 152 dX10_meet_145 (by decide) ?_
            refine TGo.ior dX10_meet_152 ?_
            first | (refine TGo.tos _ (iI_or0 _) ?_) | (refine TGo.tos _ (iI_oa hwb) ?_) | (refine TGo.tos _ (iI_ob hwb (by omega)).1 ?_)
            refine TGo.putI (t := 18) 70 70 (hT 0 (by decide)) rfl fpX10_583_10 dX10_meet_153 rfl rfl rfl ?_
            refine TGo.iinc dX10_meet_156 rfl rfl rfl ?_
            refine TGo.goto 94 dX10_meet_159 (by decide) ?_
            first | (exfalso; omega) | exact TGo.seq [some (.ref T), some (.int (iI (mo : Int))), some (.int (iI r1)), some (.int (iI cu)), some (.int (iI (s1Z (z.2 3) o n1 Nx Sa r1 (n1)))), some (.int (iI ((((j + 1)) : Nat) : Int))), _] [] _ (rfl) rfl rfl (ih (j + 1) _ _ (by omega) (by omega) (hz.s rfl) ⟨hf.i (by simp), (u2_n (Or.inr (by omega))).trans h69, u2_s.trans (by
              rw [wbZ]
              first
              | (rw [if_pos (by omega)])
              | (rw [if_neg (by omega), if_pos (by omega)])
              | (rw [if_neg (by omega), if_neg (by omega)]))⟩)
        · refine TGo.ic0 dX10_meet_132 ?_
          refine TGo.goto 152 dX10_meet_133 (by decide) ?_
          refine TGo.ior dX10_meet_152 ?_
          first | (refine TGo.tos _ (iI_or0 _) ?_) | (refine TGo.tos _ (iI_oa hwb) ?_) | (refine TGo.tos _ (iI_ob hwb (by omega)).1 ?_)
          refine TGo.putI (t := 18) 70 70 (hT 0 (by decide)) rfl fpX10_583_10 dX10_meet_153 rfl rfl rfl ?_
          refine TGo.iinc dX10_meet_156 rfl rfl rfl ?_
          refine TGo.goto 94 dX10_meet_159 (by decide) ?_
          first | (exfalso; omega) | exact TGo.seq [some (.ref T), some (.int (iI (mo : Int))), some (.int (iI r1)), some (.int (iI cu)), some (.int (iI (s1Z (z.2 3) o n1 Nx Sa r1 (n1)))), some (.int (iI ((((j + 1)) : Nat) : Int))), _] [] _ (rfl) rfl rfl (ih (j + 1) _ _ (by omega) (by omega) (hz.s rfl) ⟨hf.i (by simp), (u2_n (Or.inr (by omega))).trans h69, u2_s.trans (by
            rw [wbZ]
            first
            | (rw [if_pos (by omega)])
            | (rw [if_neg (by omega), if_pos (by omega)])
            | (rw [if_neg (by omega), if_neg (by omega)]))⟩)
set_option maxHeartbeats 4000000 in
theorem lX10_meet {E : ET} {sh : SHT} {nn : Nat × Nat} {T : Nat} {z : ZT} {n1 mo : Nat} {o : Int → Int} {r1 cu : Int} {Wd Nx Sa : Int → Int} {A : Int × Int} {V0 : VT} (hT : MSh T sh) (hn1 : z.2 3 6 = (n1 : Int)) (hn12 : n1 ≤ 12) (hof : OF (z.2 3) o n1) (hov : ∀ i, 0 ≤ i → i < (n1 : Int) → V0.1 (T + 32) i = o i) (hmo : 1 ≤ mo ∧ mo ≤ 3) (hcu : 0 ≤ cu ∧ cu < 6) (hr1 : 0 ≤ r1 ∧ r1 < 4) (hl : LSV T V0 Wd Nx) (hr : RGZ Wd Nx mo) (hsa : ∀ i, 0 ≤ i → i < (n1 : Int) → V0.1 (T + 33) i = Sa i) (hsr : ∀ i, 0 ≤ i → i < (n1 : Int) → 0 ≤ Sa i ∧ Sa i < mo) (hA : (0 ≤ A.1 ∧ A.1 ≤ 1000000) ∧ 0 ≤ A.2 ∧ A.2 < 1024) : ∀ (n j : Nat) (V : VT), n1 - j < n → j ≤ n1 → PE T V z → (Fr [T] V0 V ∧ V.1 T 69 = A.1 + 1 ∧ V.1 T 70 = A.2) → TGo E mX10_meet 2 16 [some (.ref T), some (.int (iI (mo : Int))), some (.int (iI r1)), some (.int (iI cu)), some (.int (iI (s1Z (z.2 3) o n1 Nx Sa r1 (j)))), some (.int (iI (((j) : Nat) : Int))), none] [] sh nn V (fun o' sh' nn' V' => o' = .inl none ∧ sh' = sh ∧ nn' = nn ∧ PE T V' z ∧ Fr [T] V0 V' ∧ V'.1 T 69 = (meZ (z.2 3) o n1 mo r1 cu Wd Nx Sa A).1 ∧ V'.1 T 70 = (meZ (z.2 3) o n1 mo r1 cu Wd Nx Sa A).2) := by
  intro n
  induction n with
  | zero => intro j V h; omega
  | succ n ih =>
    intro j V hn hj hz hx
    obtain ⟨hf, h69, h70⟩ := hx
    have hla := bZ_cs (laL (z.2 3) o n1 (j : Int))
    refine TGo.il dX10_meet_16 rfl ?_
    refine TGo.al0 dX10_meet_18 rfl ?_
    refine TGo.getS (t := 18) 3 3 (T + 2) (hT 0 (by decide)) rfl fgX10_13_10 dX10_meet_19 rfl rfl rfl ?_
    refine TGo.bip 6 dX10_meet_22 (by decide) ?_
    refine TGo.iald dX10_meet_24 (hT 2 (by decide)) (by omega) rfl ?_
    refine TGo.toz _ (hz.2.1 3 (by decide) _) ?_
    refine TGo.icmp_ge 91 dX10_meet_25 (by decide) (by omega) (fun h25 => ?_) (fun h25 => ?_)
    · obtain rfl : j = n1 := by omega
      refine TGo.ic0 dX10_meet_91 ?_
      refine TGo.is dX10_meet_92 rfl rfl ?_
      exact TGo.seq [some (.ref T), some (.int (iI (mo : Int))), some (.int (iI r1)), some (.int (iI cu)), some (.int (iI (s1Z (z.2 3) o j Nx Sa r1 (j)))), some (.int (iI (((0) : Nat) : Int))), none] [] _ rfl rfl rfl (jX10_meet hT hn1 hn12 hof hov hmo hcu hr1 hl hr hsa hsr hA (mo + 1) 0 _ _ (by omega) (by omega) hz ⟨hf, h69, h70⟩)
    · have hoj := hof (j : Int) (by omega) (by omega)
      have hsj := hsr (j : Int) (by omega) (by omega)
      refine TGo.al0 dX10_meet_28 rfl ?_
      refine TGo.getS (t := 18) 3 3 (T + 2) (hT 0 (by decide)) rfl fgX10_13_10 dX10_meet_29 rfl rfl rfl ?_
      refine TGo.al0 dX10_meet_32 rfl ?_
      refine TGo.getS (t := 18) 61 61 (T + 32) (hT 0 (by decide)) rfl fgX10_133_10 dX10_meet_33 rfl rfl rfl ?_
      refine TGo.il dX10_meet_36 rfl ?_
      refine TGo.iald dX10_meet_38 (hT 32 (by decide)) (by omega) rfl ?_
      refine TGo.toz (o (j : Int)) ((congrFun (hf.1 _ (by simp)) _).trans (hov _ (by omega) (by omega))) ?_
      refine TGo.iald dX10_meet_39 (hT 2 (by decide)) (by omega) rfl ?_
      refine TGo.toz _ (hz.2.1 3 (by decide) _) ?_
      refine TGo.il2 dX10_meet_40 rfl ?_
      refine TGo.icmp_ne 85 dX10_meet_41 (by decide) (by omega) (fun h41 => ?_) (fun h41 => ?_)
      · refine TGo.iinc dX10_meet_85 rfl rfl rfl ?_
        refine TGo.goto 16 dX10_meet_88 (by decide) ?_
        first | (exfalso; omega) | exact TGo.seq [some (.ref T), some (.int (iI (mo : Int))), some (.int (iI r1)), some (.int (iI cu)), some (.int (iI (s1Z (z.2 3) o n1 Nx Sa r1 ((j + 1))))), some (.int (iI ((((j + 1)) : Nat) : Int))), none] [] _ (by rw [s1Z]; first | (rw [if_pos (by omega)]; rfl) | (rw [if_neg (by omega)]; rfl)) rfl rfl (ih (j + 1) _ (by omega) (by omega) hz ⟨hf, h69, h70⟩)
      · refine TGo.al0 dX10_meet_44 rfl ?_
        refine TGo.il dX10_meet_45 rfl ?_
        refine TGo.cF (csV1 (y2 := mX10_isLast) (t := 18) 1 rfl (hT 0 (by decide)) rfl rfl dX10_meet_47 q2544 q2546 qs107 okX10_isLast npX10_isLast rfl rfl) (kX10_isLast hT hz hn1 hn12 hof (fun i h0 h1 => (congrFun (hf.1 _ (by simp)) _).trans (hov i h0 h1)) (by omega)) ?_
        refine TGo.ifb_eq 85 dX10_meet_50 (by decide) (fun h50 => ?_) (fun h50 => ?_)
        · refine TGo.iinc dX10_meet_85 rfl rfl rfl ?_
          refine TGo.goto 16 dX10_meet_88 (by decide) ?_
          first | (exfalso; omega) | exact TGo.seq [some (.ref T), some (.int (iI (mo : Int))), some (.int (iI r1)), some (.int (iI cu)), some (.int (iI (s1Z (z.2 3) o n1 Nx Sa r1 ((j + 1))))), some (.int (iI ((((j + 1)) : Nat) : Int))), none] [] _ (by rw [s1Z]; first | (rw [if_pos (by omega)]; rfl) | (rw [if_neg (by omega)]; rfl)) rfl rfl (ih (j + 1) _ (by omega) (by omega) hz ⟨hf, h69, h70⟩)
        · refine TGo.al0 dX10_meet_53 rfl ?_
          refine TGo.getS (t := 18) 64 64 (T + 35) (hT 0 (by decide)) rfl fgX10_142_10 dX10_meet_54 rfl rfl rfl ?_
          refine TGo.bip 6 dX10_meet_57 (by decide) ?_
          refine TGo.al0 dX10_meet_59 rfl ?_
          refine TGo.getS (t := 18) 62 62 (T + 33) (hT 0 (by decide)) rfl fgX10_136_10 dX10_meet_60 rfl rfl rfl ?_
          refine TGo.il dX10_meet_63 rfl ?_
          refine TGo.iald dX10_meet_65 (hT 33 (by decide)) (by omega) rfl ?_
          refine TGo.toz (Sa (j : Int)) ((congrFun (hf.1 _ (by simp)) _).trans (hsa _ (by omega) (by omega))) ?_
          refine TGo.imul dX10_meet_66 ?_
          refine TGo.al0 dX10_meet_67 rfl ?_
          refine TGo.getS (t := 18) 3 3 (T + 2) (hT 0 (by decide)) rfl fgX10_13_10 dX10_meet_68 rfl rfl rfl ?_
          refine TGo.al0 dX10_meet_71 rfl ?_
          refine TGo.getS (t := 18) 61 61 (T + 32) (hT 0 (by decide)) rfl fgX10_133_10 dX10_meet_72 rfl rfl rfl ?_
          refine TGo.il dX10_meet_75 rfl ?_
          refine TGo.iald dX10_meet_77 (hT 32 (by decide)) (by omega) rfl ?_
          refine TGo.toz (o (j : Int)) ((congrFun (hf.1 _ (by simp)) _).trans (hov _ (by omega) (by omega))) ?_
          refine TGo.ic1 dX10_meet_78 ?_
          refine TGo.iadd dX10_meet_79 ?_
          refine TGo.iald dX10_meet_80 (hT 2 (by decide)) (by omega) rfl ?_
          refine TGo.toz _ (hz.2.1 3 (by decide) _) ?_
          refine TGo.iadd dX10_meet_81 ?_
          refine TGo.iald dX10_meet_82 (hT 35 (by decide)) (by omega) rfl ?_
          refine TGo.toz (Nx (6 * Sa (j : Int) + z.2 3 (o (j : Int) + 1))) ((congrFun (hf.1 _ (by simp)) _).trans (hl.2 _ (by omega) (by omega))) ?_
          refine TGo.is dX10_meet_83 rfl rfl ?_
          refine TGo.iinc dX10_meet_85 rfl rfl rfl ?_
          refine TGo.goto 16 dX10_meet_88 (by decide) ?_
          first | (exfalso; omega) | exact TGo.seq [some (.ref T), some (.int (iI (mo : Int))), some (.int (iI r1)), some (.int (iI cu)), some (.int (iI (s1Z (z.2 3) o n1 Nx Sa r1 ((j + 1))))), some (.int (iI ((((j + 1)) : Nat) : Int))), none] [] _ (by rw [s1Z]; first | (rw [if_pos (by omega)]; rfl) | (rw [if_neg (by omega)]; rfl)) rfl rfl (ih (j + 1) _ (by omega) (by omega) hz ⟨hf, h69, h70⟩)
set_option maxHeartbeats 4000000 in
theorem kX10_meet {E : ET} {sh : SHT} {nn : Nat × Nat} {V : VT} {T : Nat} {z : ZT} {n1 mo : Nat} {o : Int → Int} {Wd Nx Sa : Int → Int} {A : Int × Int} {r1 cu : Int} (hT : MSh T sh) (hz : PE T V z) (hn1 : z.2 3 6 = (n1 : Int)) (hn12 : n1 ≤ 12) (hof : OF (z.2 3) o n1) (hov : ∀ i, 0 ≤ i → i < (n1 : Int) → V.1 (T + 32) i = o i) (hmo : 1 ≤ mo ∧ mo ≤ 3) (hcu : 0 ≤ cu ∧ cu < 6) (hr1 : 0 ≤ r1 ∧ r1 < 4) (hl : LSV T V Wd Nx) (hr : RGZ Wd Nx mo) (hsa : ∀ i, 0 ≤ i → i < (n1 : Int) → V.1 (T + 33) i = Sa i) (hsr : ∀ i, 0 ≤ i → i < (n1 : Int) → 0 ≤ Sa i ∧ Sa i < mo) (hA : (0 ≤ A.1 ∧ A.1 ≤ 1000000) ∧ 0 ≤ A.2 ∧ A.2 < 1024) (h69 : V.1 T 69 = A.1) (h70 : V.1 T 70 = A.2) : TN E mX10_meet 2 [.ref T, .int (iI (mo : Int)), .int (iI r1), .int (iI cu)] sh nn V (fun V' => PE T V' z ∧ Fr [T] V V' ∧ V'.1 T 69 = (meZ (z.2 3) o n1 mo r1 cu Wd Nx Sa A).1 ∧ V'.1 T 70 = (meZ (z.2 3) o n1 mo r1 cu Wd Nx Sa A).2) := by
  refine TC.intro [some (.ref T), some (.int (iI (mo : Int))), some (.int (iI r1)), some (.int (iI cu)), none, none, none] rfl ?_
  refine TGo.al0 dX10_meet_0 rfl ?_
  refine TGo.dup dX10_meet_1 rfl ?_
  refine TGo.getI (t := 18) 69 69 (hT 0 (by decide)) rfl fgX10_580_10 dX10_meet_2 rfl rfl rfl ?_
  refine TGo.toz _ h69 ?_
  refine TGo.ic1 dX10_meet_5 ?_
  refine TGo.iadd dX10_meet_6 ?_
  refine TGo.putI (t := 18) 69 69 (hT 0 (by decide)) rfl fpX10_580_10 dX10_meet_7 rfl rfl rfl ?_
  refine TGo.ic0 dX10_meet_10 ?_
  refine TGo.is dX10_meet_11 rfl rfl ?_
  refine TGo.ic0 dX10_meet_13 ?_
  refine TGo.is dX10_meet_14 rfl rfl ?_
  exact lX10_meet (V0 := V) hT hn1 hn12 hof hov hmo hcu hr1 hl hr hsa hsr hA (n1 + 1) 0 _ (by omega) (by omega) (hz.s rfl) ⟨Fr.rf.i (by simp), u2_s, (u2_n (Or.inr (by omega))).trans h70⟩
abbrev cnL (f o : Int → Int) (W S : Int → Int) (k : Nat) : Prop := W (6 * S (k : Int) + f (o (k : Int) + 1)) ≠ -1 ∧ W (6 * S (k : Int) + f (o (k : Int) + 1)) ≠ f (o (k : Int) + 2)
abbrev fnL (f o : Int → Int) (n : Nat) (N S : Int → Int) (k : Nat) : Prop := N (6 * S (k : Int) + f (o (k : Int) + 1)) = -1 ∧ ¬ laL f o n (k : Int)
abbrev nnL (f o : Int → Int) (n : Nat) (N S : Int → Int) (k : Nat) (t : Int) : Int → Int := if (N (6 * S (k : Int) + f (o (k : Int) + 1)) = -1 ∧ ¬ laL f o n (k : Int)) then zu N (6 * S (k : Int) + f (o (k : Int) + 1)) t else N
/-- all ways from the k-th deed on -/
def lsT (f o : Int → Int) (n mo : Nat) (r1 cu : Int) : Nat → Nat → (Int → Int) → (Int → Int) → (Int → Int) → Int → Int × Int → Int × Int
  | 0, _, W, N, S, _, A => meZ f o n mo r1 cu W N S A
  | r + 1, k, W, N, S, met, A => if cnL f o W S k then A else fdZ (fun t A => lsT f o n mo r1 cu r (k + 1) (zu W (6 * S (k : Int) + f (o (k : Int) + 1)) (f (o (k : Int) + 2))) (nnL f o n N S k t) (zu S ((k : Int) + 1) (if laL f o n (k : Int) then 0 else nnL f o n N S k t (6 * S (k : Int) + f (o (k : Int) + 1)))) (if fnL f o n N S k ∧ t = met then met + 1 else met) A) (tyL (fnL f o n N S k) met mo).toNat A
def lgZ (f o : Int → Int) (n mo : Nat) (r1 cu : Int) (r k : Nat) (W N S : Int → Int) (met : Int) : Int → Int × Int → Int × Int := fun t A => lsT f o n mo r1 cu r (k + 1) (zu W (6 * S (k : Int) + f (o (k : Int) + 1)) (f (o (k : Int) + 2))) (nnL f o n N S k t) (zu S ((k : Int) + 1) (if laL f o n (k : Int) then 0 else nnL f o n N S k t (6 * S (k : Int) + f (o (k : Int) + 1)))) (if fnL f o n N S k ∧ t = met then met + 1 else met) A
def AB (B : Int) (A : Int × Int) : Prop := (0 ≤ A.1 ∧ A.1 ≤ B) ∧ 0 ≤ A.2 ∧ A.2 < 1024
theorem AB.le {A : Int × Int} {B C : Int} (h : AB B A) (hb : B ≤ C) : AB C A := ⟨⟨h.1.1, by have := h.1.2; omega⟩, h.2⟩
theorem fd_ab {g : Int → Int × Int → Int × Int} {c : Int} (hc : 0 ≤ c) (hg : ∀ t A B, AB B A → AB (B + c) (g t A)) {A : Int × Int} {B : Int} (h : AB B A) : ∀ j : Nat, AB (B + j * c) (fdZ g j A) := by
  intro j
  induction j with
  | zero => exact h.le (by omega)
  | succ j ih =>
    rw [fdZ, show ((j + 1 : Nat) : Int) * c = j * c + c by rw [Int.natCast_add, Int.add_mul]; simp]
    exact (hg _ _ _ ih).le (by omega)
theorem ty_in {fr : Prop} [Decidable fr] {met mo : Int} (h : 1 ≤ met ∧ met ≤ mo) : 1 ≤ tyL fr met mo ∧ tyL fr met mo ≤ mo := by
  unfold tyL
  (repeat' split) <;> omega
def WRZ (W : Int → Int) : Prop := ∀ i, 0 ≤ i → i < 18 → -1 ≤ W i ∧ W i ≤ 9
theorem WRZ.u {W : Int → Int} {j v : Int} (h : WRZ W) (hv : -1 ≤ v ∧ v ≤ 9) : WRZ (zu W j v) := fun i h0 h1 => by
  unfold zu
  split
  · exact hv
  · exact h i h0 h1
theorem lsT_b {f o : Int → Int} {n mo : Nat} {r1 cu : Int} (hof : OF f o n) (hmo : 1 ≤ mo ∧ mo ≤ 3) (hcu : 0 ≤ cu ∧ cu < 6) : ∀ (r k : Nat) (W N S : Int → Int) (met : Int) (A : Int × Int) (B : Int), k + r = n → WRZ W → 1 ≤ met ∧ met ≤ mo → AB B A → AB (B + ((3 ^ r : Nat) : Int)) (lsT f o n mo r1 cu r k W N S met A) := by
  intro r
  induction r with
  | zero =>
    intro k W N S met A B hk hW hm h
    refine ⟨⟨?_, ?_⟩, wbZ_in hcu hW h.2 mo (by omega)⟩
    · have := h.1; show 0 ≤ A.1 + 1; omega
    · have := h.1; show A.1 + 1 ≤ B + ((3 ^ 0 : Nat) : Int); simp; omega
  | succ r ih =>
    intro k W N S met A B hk hW hm h
    have h0 : (0 : Int) ≤ ((3 ^ r : Nat) : Int) := Int.natCast_nonneg _
    have h1 : ((3 ^ (r + 1) : Nat) : Int) = 3 * ((3 ^ r : Nat) : Int) := by rw [Nat.pow_succ]; omega
    rw [lsT]
    split
    · exact h.le (by omega)
    · have hk0 := hof (k : Int) (by omega) (by omega)
      have ht := ty_in (fr := fnL f o n N S k) hm
      have h3 : ((tyL (fnL f o n N S k) met mo).toNat : Int) * ((3 ^ r : Nat) : Int) ≤ 3 * ((3 ^ r : Nat) : Int) := Int.mul_le_mul_of_nonneg_right (by omega) h0
      have key : ∀ t : Int, t < mo → ∀ A B, AB B A → AB (B + ((3 ^ r : Nat) : Int)) (lgZ f o n mo r1 cu r k W N S met t A) := fun t htm A B hA => by
        refine ih _ _ _ _ _ _ _ (by omega) (hW.u (by omega)) ?_ hA
        split <;> omega
      have fd : ∀ j : Nat, j ≤ (tyL (fnL f o n N S k) met mo).toNat → AB (B + j * ((3 ^ r : Nat) : Int)) (fdZ (lgZ f o n mo r1 cu r k W N S met) j A) := by
        intro j
        induction j with
        | zero => intro _; exact h.le (by omega)
        | succ j ihj =>
          intro hj
          rw [fdZ, show ((j + 1 : Nat) : Int) * ((3 ^ r : Nat) : Int) = j * ((3 ^ r : Nat) : Int) + ((3 ^ r : Nat) : Int) by rw [Int.natCast_add, Int.add_mul]; simp]
          exact (key (j : Int) (by omega) _ _ (ihj (by omega))).le (by omega)
      exact (fd _ (Nat.le_refl _)).le (by omega)
theorem lg_fd {f o : Int → Int} {n mo : Nat} {r1 cu : Int} (hof : OF f o n) (hmo : 1 ≤ mo ∧ mo ≤ 3) (hcu : 0 ≤ cu ∧ cu < 6) {r k : Nat} {W N S : Int → Int} {met : Int} {A : Int × Int} {B : Int} (hk : k + r + 1 = n) (hW : WRZ W) (hm : 1 ≤ met ∧ met ≤ mo) (h : AB B A) : ∀ j : Nat, (j : Int) ≤ tyL (fnL f o n N S k) met mo → AB (B + j * ((3 ^ r : Nat) : Int)) (fdZ (lgZ f o n mo r1 cu r k W N S met) j A) := by
  have h0 : (0 : Int) ≤ ((3 ^ r : Nat) : Int) := Int.natCast_nonneg _
  have hk0 := hof (k : Int) (by omega) (by omega)
  have ht := ty_in (fr := fnL f o n N S k) hm
  intro j
  induction j with
  | zero => intro _; exact h.le (by omega)
  | succ j ihj =>
    intro hj
    rw [fdZ, show ((j + 1 : Nat) : Int) * ((3 ^ r : Nat) : Int) = j * ((3 ^ r : Nat) : Int) + ((3 ^ r : Nat) : Int) by rw [Int.natCast_add, Int.add_mul]; simp]
    have q : AB (B + j * ((3 ^ r : Nat) : Int) + ((3 ^ r : Nat) : Int)) (lgZ f o n mo r1 cu r k W N S met (j : Int) (fdZ (lgZ f o n mo r1 cu r k W N S met) j A)) := by
      refine lsT_b hof hmo hcu r (k + 1) _ _ _ _ _ _ (by omega) (hW.u (by omega)) ?_ (ihj (by omega))
      have := hm
      split <;> omega
    exact q.le (by omega)
def FrW (T : Nat) (k : Int) (V V' : VT) : Prop := (∀ c i, c ≠ T → c ≠ T + 34 → c ≠ T + 35 → ((c = T + 36 ∨ c = T + 37 ∨ c = T + 39) → i < k) → ((c = T + 33 ∨ c = T + 38) → i ≤ k) → V'.1 c i = V.1 c i) ∧ V'.2 = V.2
theorem FrW.rf {T : Nat} {k : Int} {V : VT} : FrW T k V V := ⟨fun _ _ _ _ _ _ _ => rfl, rfl⟩
theorem FrW.tr {T : Nat} {k j : Int} {A B C : VT} (h : FrW T k A B) (h2 : FrW T j B C) (hj : k ≤ j) : FrW T k A C := ⟨fun c i q1 q2 q3 q4 q5 => (h2.1 c i q1 q2 q3 (by omega) (by omega)).trans (h.1 c i q1 q2 q3 q4 q5), h2.2.trans h.2⟩
theorem FrB.w {T : Nat} {k : Int} {V V' : VT} (h : FrB T k V V') : FrW T k V V' := ⟨fun c i _ q2 q3 q4 _ => h.1 c i q2 q3 (by omega), h.2⟩
theorem FrG.w {T : Nat} {k : Int} {V V' : VT} (h : FrG T k V V') : FrW T k V V' := ⟨fun c i _ q2 q3 q4 q5 => h.1 c i q2 q3 (by omega) (by omega), h.2⟩
theorem Fr.w {T : Nat} {k : Int} {V V' : VT} (h : Fr [T] V V') : FrW T k V V' := ⟨fun c i q1 _ _ _ _ => congrFun (h.1 c (by simpa using q1)) i, h.2⟩
theorem FrW.i {T : Nat} {k : Int} {V V' : VT} {a : Nat} {j v : Int} (h : FrW T k V V') (ha : (a = T + 39 ∧ k ≤ j)) : FrW T k V (vI V' a j v) := ⟨fun c i q1 q2 q3 q4 q5 => (u2_n (by omega)).trans (h.1 c i q1 q2 q3 q4 q5), h.2⟩
/-- what is set may be taken back to W, N -/
def BKZ (T : Nat) (V : VT) (k mo : Int) (ru : Int) (W N : Int → Int) : Prop := ∃ W1 N1 : Int → Int, ∃ a b : Int, LSV T V W1 N1 ∧ RGZ W1 N1 mo ∧ V.1 (T + 36) k = a ∧ V.1 (T + 37) k = b ∧ (a = 0 ∨ a = 1) ∧ (b = 0 ∨ b = 1) ∧ (∀ i, 0 ≤ i → i < 18 → (if a = 0 then W1 else zu W1 ru (-1)) i = W i) ∧ ∀ i, 0 ≤ i → i < 18 → (if b = 0 then N1 else zu N1 ru (-1)) i = N i
theorem LSV.c {T : Nat} {V : VT} {W N W1 N1 : Int → Int} (h : LSV T V W N) (h1 : ∀ i, 0 ≤ i → i < 18 → W i = W1 i) (h2 : ∀ i, 0 ≤ i → i < 18 → N i = N1 i) : LSV T V W1 N1 := ⟨fun i q0 q1 => (h.1 i q0 q1).trans (h1 i q0 q1), fun i q0 q1 => (h.2 i q0 q1).trans (h2 i q0 q1)⟩
set_option maxHeartbeats 4000000 in
theorem vX10_findWays {E : ET} {sh : SHT} {nn : Nat × Nat} {T : Nat} {z : ZT} {n1 mo k r : Nat} {o : Int → Int} {r1 cu met B : Int} {W N S : Int → Int} {A : Int × Int} {V0 : VT} {Q : AO → SHT → Nat × Nat → VT → Prop} (hT : MSh T sh) (hn1 : z.2 3 6 = (n1 : Int)) (hn12 : n1 ≤ 12) (hof : OF (z.2 3) o n1) (hov : ∀ i, 0 ≤ i → i < (n1 : Int) → V0.1 (T + 32) i = o i) (hmo : 1 ≤ mo ∧ mo ≤ 3) (hcu : 0 ≤ cu ∧ cu < 6) (hr1 : 0 ≤ r1 ∧ r1 < 4) (hkr : k + r + 1 = n1) (hrg : RGZ W N mo) (hsa : ∀ i, 0 ≤ i → i ≤ (k : Int) → V0.1 (T + 33) i = S i) (hsr : ∀ i, 0 ≤ i → i ≤ (k : Int) → 0 ≤ S i ∧ S i < mo) (hsh : V0.1 (T + 38) (k : Int) = met) (hmet : 1 ≤ met ∧ met ≤ mo) (hA : AB B A) (hB : B + 3 * ((3 ^ r : Nat) : Int) ≤ 1000000) (D : ∀ r' : Nat, r = r' + 1 → ∀ (W1 N1 S1 : Int → Int) (met1 : Int) (A1 : Int × Int) (B1 : Int) (V1 : VT), (∀ i, 0 ≤ i → i < (n1 : Int) → V1.1 (T + 32) i = o i) → RGZ W1 N1 mo → (∀ i, 0 ≤ i → i ≤ (k : Int) + 1 → V1.1 (T + 33) i = S1 i) → (∀ i, 0 ≤ i → i ≤ (k : Int) + 1 → 0 ≤ S1 i ∧ S1 i < mo) → V1.1 (T + 38) ((k : Int) + 1) = met1 → (1 ≤ met1 ∧ met1 ≤ mo) → AB B1 A1 → B1 + 3 * ((3 ^ r' : Nat) : Int) ≤ 1000000 → PE T V1 z → LSV T V1 W1 N1 → (∀ i, (k : Int) + 1 ≤ i → i < 12 → V1.1 (T + 36) i = 0 ∧ V1.1 (T + 37) i = 0) → V1.1 (T + 39) ((k : Int) + 1) = -1 → V1.1 T 69 = A1.1 → V1.1 T 70 = A1.2 → (∀ V2 : VT, PE T V2 z → FrW T ((k : Int) + 1) V1 V2 → LSV T V2 W1 N1 → (∀ i, ((k : Int) + 1) ≤ i → i < 12 → V2.1 (T + 36) i = 0 ∧ V2.1 (T + 37) i = 0) → V2.1 T 69 = (lsT (z.2 3) o n1 mo r1 cu (r' + 1) (k + 1) W1 N1 S1 met1 A1).1 → V2.1 T 70 = (lsT (z.2 3) o n1 mo r1 cu (r' + 1) (k + 1) W1 N1 S1 met1 A1).2 → TGo E mX10_findWays 3 120 [some (.ref T), some (.int (iI (mo : Int))), some (.int (iI r1)), some (.int (iI cu)), some (.int (iI (z.2 3 6))), some (.int (iI ((k : Int))))] [] sh nn V2 Q) → TGo E mX10_findWays 3 120 [some (.ref T), some (.int (iI (mo : Int))), some (.int (iI r1)), some (.int (iI cu)), some (.int (iI (z.2 3 6))), some (.int (iI ((k : Int) + 1)))] [] sh nn V1 Q) (K : (∀ V1 : VT, PE T V1 z → FrW T (k : Int) V0 V1 → LSV T V1 W N → (∀ i, (k : Int) ≤ i → i < 12 → V1.1 (T + 36) i = 0 ∧ V1.1 (T + 37) i = 0) → V1.1 T 69 = (lsT (z.2 3) o n1 mo r1 cu (r + 1) k W N S met A).1 → V1.1 T 70 = (lsT (z.2 3) o n1 mo r1 cu (r + 1) k W N S met A).2 → TGo E mX10_findWays 3 120 [some (.ref T), some (.int (iI (mo : Int))), some (.int (iI r1)), some (.int (iI cu)), some (.int (iI (z.2 3 6))), some (.int (iI ((k : Int) + -1)))] [] sh nn V1 Q)) (ty : Nat) (hty : (ty : Int) = (tyL (fnL (z.2 3) o n1 N S k) met mo)) : ∀ (n j : Nat) (V : VT), ty - j < n → j ≤ ty → PE T V z → (FrW T (k : Int) V0 V ∧ BKZ T V (k : Int) mo (6 * S (k : Int) + z.2 3 (o (k : Int) + 1)) W N ∧ (∀ i, (k : Int) + 1 ≤ i → i < 12 → V.1 (T + 36) i = 0 ∧ V.1 (T + 37) i = 0) ∧ V.1 (T + 39) (k : Int) = (j : Int) - 1 ∧ V.1 T 69 = (if (cnL (z.2 3) o W S k) then A else fdZ (lgZ (z.2 3) o n1 mo r1 cu r k W N S met) j A).1 ∧ V.1 T 70 = (if (cnL (z.2 3) o W S k) then A else fdZ (lgZ (z.2 3) o n1 mo r1 cu r k W N S met) j A).2) → TGo E mX10_findWays 3 120 [some (.ref T), some (.int (iI (mo : Int))), some (.int (iI r1)), some (.int (iI cu)), some (.int (iI (z.2 3 6))), some (.int (iI ((k : Int))))] [] sh nn V Q := by
  intro n
  induction n with
  | zero => intro j V h; omega
  | succ n ih =>
    intro j V hn hj hz hx
    obtain ⟨hf, ⟨W2, N2, a2, b2, hbk1, hbk2, hbk3, hbk4, hbk5, hbk6, hbk7, hbk8⟩, hx3, hx4, hx5, hx6⟩ := hx
    have hk0 := hof (k : Int) (by omega) (by omega)
    have hs0 := hsr (k : Int) (by omega) (by omega)
    have hty1 := ty_in (fr := (fnL (z.2 3) o n1 N S k)) hmet
    have hov1 : ∀ i, 0 ≤ i → i < (n1 : Int) → V.1 (T + 32) i = o i := fun i h0 h1 => (hf.1 _ _ (by omega) (by omega) (by omega) (by omega) (by omega)).trans (hov i h0 h1)
    have hsa1 : V.1 (T + 33) (k : Int) = S (k : Int) := (hf.1 _ _ (by omega) (by omega) (by omega) (by omega) (by omega)).trans (hsa _ (by omega) (by omega))
    have hsh1 : V.1 (T + 38) (k : Int) = met := (hf.1 _ _ (by omega) (by omega) (by omega) (by omega) (by omega)).trans hsh
    have hab := lg_fd (f := z.2 3) (o := o) (n := n1) (r1 := r1) (cu := cu) (r := r) (k := k) (N := N) (S := S) hof (by omega) hcu hkr hrg.1 hmet hA j (by omega)
    have h38 : (0 : Int) ≤ ((3 ^ r : Nat) : Int) := Int.natCast_nonneg _
    refine TGo.il dX10_findWays_120 rfl ?_
    refine TGo.if_lt 180 dX10_findWays_122 (by decide) (by omega) (fun h122 => ?_) (fun h122 => ?_)
    · refine TGo.vret dX10_findWays_180 rfl ?_
      exfalso; omega
    · refine TGo.al0 dX10_findWays_125 rfl ?_
      refine TGo.il dX10_findWays_126 rfl ?_
      refine TGo.cN (csV1 (y2 := mX10_takeBack) (t := 18) 1 rfl (hT 0 (by decide)) rfl rfl dX10_findWays_128 q2548 q2550 qs108 okX10_takeBack npX10_takeBack rfl rfl) (kX10_takeBack (mo := mo) (oq := o (k : Int)) (at0 := S (k : Int)) hT hz (by omega) (by omega) ⟨hk0.1, hk0.2.2.1⟩ (hov1 _ (by omega) (by omega)) hsa1 (by omega) hbk1 hbk2 hbk3 hbk4 hbk5 hbk6) (fun V128 h128 => ?_)
      obtain ⟨hz128, hl0, hzz, hfb⟩ := h128
      have hl128 : LSV T V128 W N := hl0.c hbk7 hbk8
      have hf128 : FrW T (k : Int) V0 V128 := hf.tr hfb.w (Int.le_refl _)
      refine TGo.al0 dX10_findWays_131 rfl ?_
      refine TGo.il dX10_findWays_132 rfl ?_
      refine TGo.il1 dX10_findWays_134 rfl ?_
      refine TGo.cS (csV2 (y2 := mX10_goesOn) (t := 18) 2 rfl (hT 0 (by decide)) rfl rfl dX10_findWays_135 q2552 q2554 qs109 okX10_goesOn npX10_goesOn rfl rfl) (kX10_goesOn (o := o) (t := (j : Int)) (met := met) hT hz128 hn1 hn12 hof (fun i h0 h1 => (hfb.1 _ _ (by omega) (by omega) (by omega)).trans (hov1 i h0 h1)) (by omega) (by omega) ((hfb.1 _ _ (by omega) (by omega) (by omega)).trans hsa1) (by omega) hl128 hrg hzz.1 hzz.2 ((hfb.1 _ _ (by omega) (by omega) (by omega)).trans hx4) (by omega) ((hfb.1 _ _ (by omega) (by omega) (by omega)).trans hsh1) hmet) (fun v135 V135 h135 => ?_)
      obtain ⟨hz135, hfg, h135⟩ := h135
      have hf135 : FrW T (k : Int) V0 V135 := hf128.tr hfg.w (Int.le_refl _)
      have hze : ∀ i, (k : Int) < i → i < 12 → V135.1 (T + 36) i = 0 ∧ V135.1 (T + 37) i = 0 := fun i h0 h1 => by
        have q := hx3 i (by omega) h1
        exact ⟨(hfg.1 _ _ (by omega) (by omega) (by omega) (by omega)).trans ((hfb.1 _ _ (by omega) (by omega) (by omega)).trans q.1), (hfg.1 _ _ (by omega) (by omega) (by omega) (by omega)).trans ((hfb.1 _ _ (by omega) (by omega) (by omega)).trans q.2)⟩
      have h69 : V135.1 T 69 = (if (cnL (z.2 3) o W S k) then A else fdZ (lgZ (z.2 3) o n1 mo r1 cu r k W N S met) j A).1 := (hfg.1 _ _ (by omega) (by omega) (by omega) (by omega)).trans ((hfb.1 _ _ (by omega) (by omega) (by omega)).trans hx5)
      have h70 : V135.1 T 70 = (if (cnL (z.2 3) o W S k) then A else fdZ (lgZ (z.2 3) o n1 mo r1 cu r k W N S met) j A).2 := (hfg.1 _ _ (by omega) (by omega) (by omega) (by omega)).trans ((hfb.1 _ _ (by omega) (by omega) (by omega)).trans hx6)
      have eAJ : ((cnL (z.2 3) o W S k) ∨ (tyL (fnL (z.2 3) o n1 N S k) met mo) ≤ (j : Int)) → (if (cnL (z.2 3) o W S k) then A else fdZ (lgZ (z.2 3) o n1 mo r1 cu r k W N S met) j A) = lsT (z.2 3) o n1 mo r1 cu (r + 1) k W N S met A := fun hcon => by
        rw [lsT]
        by_cases hc : (cnL (z.2 3) o W S k)
        · rw [if_pos hc, if_pos hc]
        · rw [if_neg hc, if_neg hc]
          have ej : (tyL (fnL (z.2 3) o n1 N S k) met mo).toNat = j := by
            rcases hcon with q | q
            · exact absurd q hc
            · omega
          rw [ej]; rfl
      rcases h135 with ⟨rfl, hcon, hl135, hs135, hn135⟩ | ⟨rfl, hcon, htt, hl135, htr135, hsw135, hsn135, hsa135, hsh135⟩
      · refine TGo.if_eq 174 dX10_findWays_138 (by decide) (by decide) (fun _ => ?_) (fun h => absurd rfl h)
        refine TGo.iinc dX10_findWays_174 rfl rfl rfl ?_
        refine TGo.goto 120 dX10_findWays_177 (by decide) ?_
        refine TGo.seq [some (.ref T), some (.int (iI (mo : Int))), some (.int (iI r1)), some (.int (iI cu)), some (.int (iI (z.2 3 6))), some (.int (iI ((k : Int) + -1)))] [] _ rfl rfl rfl (K V135 hz135 hf135 hl135 (fun i h0 h1 => ?_) ?_ ?_)
        · by_cases e : i = (k : Int)
          · rw [e]; exact ⟨hs135, hn135⟩
          · exact hze i (by omega) h1
        · rw [h69]; exact congrArg Prod.fst (eAJ hcon)
        · rw [h70]; exact congrArg Prod.snd (eAJ hcon)
      have eA : (if (cnL (z.2 3) o W S k) then A else fdZ (lgZ (z.2 3) o n1 mo r1 cu r k W N S met) j A) = fdZ (lgZ (z.2 3) o n1 mo r1 cu r k W N S met) j A := if_neg hcon
      rw [eA] at h69 h70
      refine TGo.if_eq 174 dX10_findWays_138 (by decide) (by decide) (fun h => absurd h (by decide)) (fun _ => ?_)
      have htt : (j : Int) < (tyL (fnL (z.2 3) o n1 N S k) met mo) := htt
      have hjt : (j : Int) < (ty : Int) := Int.lt_of_lt_of_le htt (Int.le_of_eq hty.symm)
      have hWk := hrg.1 (6 * S (k : Int) + z.2 3 (o (k : Int) + 1)) (by omega) (by omega)
      have hNk := hrg.2 (6 * S (k : Int) + z.2 3 (o (k : Int) + 1)) (by omega) (by omega)
      obtain ⟨Wn, eW⟩ : ∃ x : Int → Int, x = (zu W (6 * S (k : Int) + z.2 3 (o (k : Int) + 1)) (z.2 3 (o (k : Int) + 2))) := ⟨_, rfl⟩
      obtain ⟨Nn, eN⟩ : ∃ x : Int → Int, x = (nnL (z.2 3) o n1 N S k (j : Int)) := ⟨_, rfl⟩
      obtain ⟨na, ena⟩ : ∃ x : Int, x = (if laL (z.2 3) o n1 (k : Int) then 0 else (nnL (z.2 3) o n1 N S k (j : Int)) (6 * S (k : Int) + z.2 3 (o (k : Int) + 1))) := ⟨_, rfl⟩
      obtain ⟨Mn, eM⟩ : ∃ x : Int, x = (if (fnL (z.2 3) o n1 N S k) ∧ (j : Int) = met then met + 1 else met) := ⟨_, rfl⟩
      obtain ⟨sw, esw⟩ : ∃ x : Int, x = bZ (W (6 * S (k : Int) + z.2 3 (o (k : Int) + 1)) = -1) := ⟨_, rfl⟩
      obtain ⟨sn, esn⟩ : ∃ x : Int, x = bZ (fnL (z.2 3) o n1 N S k) := ⟨_, rfl⟩
      have hlB : LSV T V135 Wn Nn := by rw [eW, eN]; exact hl135
      have hsaB : V135.1 (T + 33) ((k : Int) + 1) = na := by rw [ena]; exact hsa135
      have hshB : V135.1 (T + 38) ((k : Int) + 1) = Mn := by rw [eM]; exact hsh135
      have hswB : V135.1 (T + 36) (k : Int) = sw := by rw [esw]; exact hsw135
      have hsnB : V135.1 (T + 37) (k : Int) = sn := by rw [esn]; exact hsn135
      have hsw01 : sw = 0 ∨ sw = 1 := by rw [esw]; exact bZ_or _
      have hsn01 : sn = 0 ∨ sn = 1 := by rw [esn]; exact bZ_or _
      have eA1 : (if (cnL (z.2 3) o W S k) then A else fdZ (lgZ (z.2 3) o n1 mo r1 cu r k W N S met) (j + 1) A) = lsT (z.2 3) o n1 mo r1 cu r (k + 1) Wn Nn (zu S ((k : Int) + 1) na) Mn (fdZ (lgZ (z.2 3) o n1 mo r1 cu r k W N S met) j A) := by rw [eW, eN, ena, eM]; exact if_neg hcon
      have hc2 : W (6 * S (k : Int) + z.2 3 (o (k : Int) + 1)) = -1 ∨ W (6 * S (k : Int) + z.2 3 (o (k : Int) + 1)) = z.2 3 (o (k : Int) + 2) := by
        by_cases q : W (6 * S (k : Int) + z.2 3 (o (k : Int) + 1)) = -1
        · exact Or.inl q
        · exact Or.inr (Decidable.byContradiction fun q2 => hcon ⟨q, q2⟩)
      clear hl135 hsa135 hsh135 hsw135 hsn135 hcon hx5 hx6 eA hbk7 hbk8
      have hrg1 : WRZ Wn := by rw [eW]; exact WRZ.u hrg.1 (by omega)
      have hrg2 : ∀ i, 0 ≤ i → i < 18 → -1 ≤ Nn i ∧ Nn i < mo := fun i h0 h1 => by
        rw [eN]
        by_cases q : (fnL (z.2 3) o n1 N S k)
        · rw [show (nnL (z.2 3) o n1 N S k (j : Int)) = zu N (6 * S (k : Int) + z.2 3 (o (k : Int) + 1)) (j : Int) from if_pos q]
          unfold zu
          split
          · omega
          · exact hrg.2 i h0 h1
        · rw [show (nnL (z.2 3) o n1 N S k (j : Int)) = N from if_neg q]; exact hrg.2 i h0 h1
      have hna : 0 ≤ na ∧ na < mo := by
        by_cases q : laL (z.2 3) o n1 (k : Int)
        · rw [ena, if_pos q]; omega
        · rw [ena, if_neg q]
          by_cases q2 : N (6 * S (k : Int) + z.2 3 (o (k : Int) + 1)) = -1
          · rw [show (nnL (z.2 3) o n1 N S k (j : Int)) = zu N (6 * S (k : Int) + z.2 3 (o (k : Int) + 1)) (j : Int) from if_pos ⟨q2, q⟩, zu_s]; clear ena eM; omega
          · rw [show (nnL (z.2 3) o n1 N S k (j : Int)) = N from if_neg (fun h => q2 h.1)]; clear ena eM; omega
      have hM1 : 1 ≤ Mn ∧ Mn ≤ mo := by
        rw [eM]
        by_cases q : (fnL (z.2 3) o n1 N S k) ∧ (j : Int) = met
        · rw [if_pos q]
          have h1 : (j : Int) < (tyL (fnL (z.2 3) o n1 N S k) met mo) := htt
          unfold tyL at h1
          rw [if_pos q.1] at h1
          clear ena eM eA1
          split at h1 <;> omega
        · rw [if_neg q]; exact hmet
      have hb1 : ∀ i, 0 ≤ i → i < 18 → (if sw = 0 then Wn else zu Wn (6 * S (k : Int) + z.2 3 (o (k : Int) + 1)) (-1)) i = W i := fun i h0 h1 => by
        rw [esw, eW]
        by_cases q : W (6 * S (k : Int) + z.2 3 (o (k : Int) + 1)) = -1
        · rw [bZ_t q, if_neg (by decide), zu_u]
          by_cases e : i = (6 * S (k : Int) + z.2 3 (o (k : Int) + 1))
          · rw [e, zu_s, q]
          · rw [zu_n e]
        · rw [bZ_f q, if_pos rfl]
          by_cases e : i = (6 * S (k : Int) + z.2 3 (o (k : Int) + 1))
          · rw [e, zu_s]; exact ((hc2.resolve_left q)).symm
          · rw [zu_n e]
      have hb2 : ∀ i, 0 ≤ i → i < 18 → (if sn = 0 then Nn else zu Nn (6 * S (k : Int) + z.2 3 (o (k : Int) + 1)) (-1)) i = N i := fun i h0 h1 => by
        rw [esn, eN]
        by_cases q : (fnL (z.2 3) o n1 N S k)
        · rw [bZ_t q, if_neg (by decide), show (nnL (z.2 3) o n1 N S k (j : Int)) = zu N (6 * S (k : Int) + z.2 3 (o (k : Int) + 1)) (j : Int) from if_pos q, zu_u]
          by_cases e : i = (6 * S (k : Int) + z.2 3 (o (k : Int) + 1))
          · rw [e, zu_s, q.1]
          · rw [zu_n e]
        · rw [bZ_f q, if_pos rfl, show (nnL (z.2 3) o n1 N S k (j : Int)) = N from if_neg q]
      clear eW eN ena eM esw esn htt
      have hsaS : ∀ i, 0 ≤ i → i ≤ (k : Int) + 1 → V135.1 (T + 33) i = (zu S ((k : Int) + 1) na) i := fun i h0 h1 => by
        by_cases e : i = (k : Int) + 1
        · rw [e, zu_s]; exact hsaB
        · rw [zu_n e]; exact (hf135.1 _ _ (by omega) (by omega) (by omega) (by omega) (by omega)).trans (hsa i h0 (by omega))
      have hsrS : ∀ i, 0 ≤ i → i ≤ (k : Int) + 1 → 0 ≤ (zu S ((k : Int) + 1) na) i ∧ (zu S ((k : Int) + 1) na) i < mo := fun i h0 h1 => by
        by_cases e : i = (k : Int) + 1
        · rw [e, zu_s]; exact hna
        · rw [zu_n e]; exact hsr i h0 (by omega)
      have hov135 : ∀ i, 0 ≤ i → i < (n1 : Int) → V135.1 (T + 32) i = o i := fun i h0 h1 => (hf135.1 _ _ (by omega) (by omega) (by omega) (by omega) (by omega)).trans (hov i h0 h1)
      obtain ⟨Aj, eAj⟩ : ∃ x, x = fdZ (lgZ (z.2 3) o n1 mo r1 cu r k W N S met) j A := ⟨_, rfl⟩
      have h3j : ((j : Int) + 1) * ((3 ^ r : Nat) : Int) ≤ 3 * ((3 ^ r : Nat) : Int) := Int.mul_le_mul_of_nonneg_right (by omega) h38
      rw [Int.add_mul] at h3j
      obtain ⟨jr, ejr⟩ : ∃ x : Int, x = (j : Int) * ((3 ^ r : Nat) : Int) := ⟨_, rfl⟩
      have habj : AB (B + jr) Aj := by rw [ejr, eAj]; exact hab
      rw [← ejr] at h3j
      rw [← eAj] at h69 h70 eA1
      clear hab eAj ejr
      refine TGo.il dX10_findWays_141 rfl ?_
      refine TGo.il dX10_findWays_143 rfl ?_
      refine TGo.ic1 dX10_findWays_145 ?_
      refine TGo.isub dX10_findWays_146 ?_
      refine TGo.icmp_ne 160 dX10_findWays_147 (by decide) (by omega) (fun h147 => ?_) (fun h147 => ?_)
      · refine TGo.iinc dX10_findWays_160 rfl rfl rfl ?_
        refine TGo.al0 dX10_findWays_163 rfl ?_
        refine TGo.getS (t := 18) 68 68 (T + 39) (hT 0 (by decide)) rfl fgX10_154_10 dX10_findWays_164 rfl rfl rfl ?_
        refine TGo.il dX10_findWays_167 rfl ?_
        refine TGo.icm1 dX10_findWays_169 ?_
        refine TGo.iast dX10_findWays_170 (hT 39 (by decide)) (by omega) rfl ?_
        obtain ⟨r', rfl⟩ : ∃ r', r = r' + 1 := ⟨r - 1, by omega⟩
        have hp3 : ((3 ^ (r' + 1) : Nat) : Int) = 3 * ((3 ^ r' : Nat) : Int) := by rw [Nat.pow_succ]; omega
        have hBj : B + jr + 3 * ((3 ^ r' : Nat) : Int) ≤ 1000000 := by omega
        refine TGo.goto 120 dX10_findWays_171 (by decide) ?_
        refine TGo.seq [some (.ref T), some (.int (iI (mo : Int))), some (.int (iI r1)), some (.int (iI cu)), some (.int (iI (z.2 3 6))), some (.int (iI ((k : Int) + 1)))] [] _ rfl rfl rfl (D r' rfl Wn Nn (zu S ((k : Int) + 1) na) Mn Aj (B + jr) _ (fun i h0 h1 => (u2_n (Or.inl (by omega))).trans (hov135 i h0 h1)) ⟨hrg1, hrg2⟩ (fun i h0 h1 => (u2_n (Or.inl (by omega))).trans (hsaS i h0 h1)) hsrS ((u2_n (Or.inl (by omega))).trans hshB) hM1 habj hBj (hz135.t 39 rfl) ⟨fun i h0 h1 => (u2_n (Or.inl (by omega))).trans (hlB.1 i h0 h1), fun i h0 h1 => (u2_n (Or.inl (by omega))).trans (hlB.2 i h0 h1)⟩ (fun i h0 h1 => ⟨(u2_n (Or.inl (by omega))).trans (hze i (by omega) h1).1, (u2_n (Or.inl (by omega))).trans (hze i (by omega) h1).2⟩) u2_s ((u2_n (Or.inl (by omega))).trans h69) ((u2_n (Or.inl (by omega))).trans h70) (fun V2 hz2 hf2 hl2 hz02 h692 h702 => ?_))
        have g : ∀ c, c ≠ T → c ≠ T + 34 → c ≠ T + 35 → c ≠ T + 33 → c ≠ T + 38 → V2.1 c (k : Int) = V135.1 c (k : Int) := fun c q1 q2 q3 q4 q5 => (hf2.1 c (k : Int) q1 q2 q3 (by omega) (by omega)).trans (u2_n (by omega))
        refine ih (j + 1) V2 (by omega) (by omega) hz2 ⟨(hf135.i ⟨rfl, by omega⟩).tr hf2 (by omega), ⟨Wn, Nn, _, _, hl2, ⟨hrg1, hrg2⟩, (g _ (by omega) (by omega) (by omega) (by omega) (by omega)).trans hswB, (g _ (by omega) (by omega) (by omega) (by omega) (by omega)).trans hsnB, hsw01, hsn01, hb1, hb2⟩, fun i h0 h1 => hz02 i h0 h1, ((g _ (by omega) (by omega) (by omega) (by omega) (by omega)).trans htr135).trans (by omega), ?_, ?_⟩
        · rw [eA1]; exact h692
        · rw [eA1]; exact h702
      · refine TGo.al0 dX10_findWays_150 rfl ?_
        refine TGo.il1 dX10_findWays_151 rfl ?_
        refine TGo.il2 dX10_findWays_152 rfl ?_
        refine TGo.il3 dX10_findWays_153 rfl ?_
        refine TGo.cN (csV3 (y2 := mX10_meet) (t := 18) 2 rfl (hT 0 (by decide)) rfl rfl dX10_findWays_154 q2540 q2542 qs106 okX10_meet npX10_meet rfl rfl) (kX10_meet (o := o) (Wd := Wn) (Nx := Nn) (Sa := zu S ((k : Int) + 1) na) (A := Aj) hT hz135 hn1 hn12 hof hov135 hmo hcu hr1 hlB ⟨hrg1, hrg2⟩ (fun i h0 h1 => hsaS i h0 (by omega)) (fun i h0 h1 => hsrS i h0 (by omega)) ⟨⟨habj.1.1, by have := habj.1.2; omega⟩, habj.2⟩ h69 h70) (fun V154 h154 => ?_)
        
        obtain rfl : r = 0 := by omega
        obtain ⟨hz154, hf154, h691, h701⟩ := h154
        have c154 : ∀ c i, c ≠ T → V154.1 c i = V135.1 c i := fun c i hc => congrFun (hf154.1 c (by simpa using hc)) i
        refine TGo.goto 120 dX10_findWays_157 (by decide) ?_
        refine TGo.seq [some (.ref T), some (.int (iI (mo : Int))), some (.int (iI r1)), some (.int (iI cu)), some (.int (iI (z.2 3 6))), some (.int (iI ((k : Int))))] [] _ rfl rfl rfl (ih (j + 1) _ (by omega) (by omega) hz154 ⟨hf135.tr hf154.w (Int.le_refl _), ⟨Wn, Nn, _, _, ⟨fun i h0 h1 => (c154 _ _ (by omega)).trans (hlB.1 i h0 h1), fun i h0 h1 => (c154 _ _ (by omega)).trans (hlB.2 i h0 h1)⟩, ⟨hrg1, hrg2⟩, (c154 _ _ (by omega)).trans hswB, (c154 _ _ (by omega)).trans hsnB, hsw01, hsn01, hb1, hb2⟩, fun i h0 h1 => ⟨(c154 _ _ (by omega)).trans (hze i (by omega) h1).1, (c154 _ _ (by omega)).trans (hze i (by omega) h1).2⟩, ((c154 _ _ (by omega)).trans htr135).trans (by omega), ?_, ?_⟩)
        · rw [eA1]; exact h691
        · rw [eA1]; exact h701
theorem tX10_findWays {E : ET} {sh : SHT} {nn : Nat × Nat} {T : Nat} {z : ZT} {n1 mo : Nat} {o : Int → Int} {r1 cu : Int} {Q : AO → SHT → Nat × Nat → VT → Prop} (hT : MSh T sh) (hn1 : z.2 3 6 = (n1 : Int)) (hn12 : n1 ≤ 12) (hof : OF (z.2 3) o n1) (hmo : 1 ≤ mo ∧ mo ≤ 3) (hcu : 0 ≤ cu ∧ cu < 6) (hr1 : 0 ≤ r1 ∧ r1 < 4) : ∀ (r k : Nat) (W N S : Int → Int) (met : Int) (A : Int × Int) (B : Int) (V0 : VT), k + r + 1 = n1 → (∀ i, 0 ≤ i → i < (n1 : Int) → V0.1 (T + 32) i = o i) → RGZ W N mo → (∀ i, 0 ≤ i → i ≤ (k : Int) → V0.1 (T + 33) i = S i) → (∀ i, 0 ≤ i → i ≤ (k : Int) → 0 ≤ S i ∧ S i < mo) → V0.1 (T + 38) (k : Int) = met → (1 ≤ met ∧ met ≤ mo) → AB B A → B + 3 * ((3 ^ r : Nat) : Int) ≤ 1000000 → PE T V0 z → LSV T V0 W N → (∀ i, (k : Int) ≤ i → i < 12 → V0.1 (T + 36) i = 0 ∧ V0.1 (T + 37) i = 0) → V0.1 (T + 39) (k : Int) = -1 → V0.1 T 69 = A.1 → V0.1 T 70 = A.2 → (∀ V1 : VT, PE T V1 z → FrW T (k : Int) V0 V1 → LSV T V1 W N → (∀ i, (k : Int) ≤ i → i < 12 → V1.1 (T + 36) i = 0 ∧ V1.1 (T + 37) i = 0) → V1.1 T 69 = (lsT (z.2 3) o n1 mo r1 cu (r + 1) k W N S met A).1 → V1.1 T 70 = (lsT (z.2 3) o n1 mo r1 cu (r + 1) k W N S met A).2 → TGo E mX10_findWays 3 120 [some (.ref T), some (.int (iI (mo : Int))), some (.int (iI r1)), some (.int (iI cu)), some (.int (iI (z.2 3 6))), some (.int (iI ((k : Int) + -1)))] [] sh nn V1 Q) → TGo E mX10_findWays 3 120 [some (.ref T), some (.int (iI (mo : Int))), some (.int (iI r1)), some (.int (iI cu)), some (.int (iI (z.2 3 6))), some (.int (iI ((k : Int))))] [] sh nn V0 Q := by
  intro r
  induction r with
  | zero =>
    intro k W N S met A B V0 hkr hov hrg hsa hsr hsh hmet hA hB hz hl hze htr h69 h70 K
    have h1 := ty_in (fr := fnL (z.2 3) o n1 N S k) hmet
    have h0 := hze (k : Int) (by omega) (by omega)
    exact vX10_findWays (r := 0) hT hn1 hn12 hof hov hmo hcu hr1 hkr hrg hsa hsr hsh hmet hA hB (fun r' hr => by omega) K (tyL (fnL (z.2 3) o n1 N S k) met mo).toNat (by omega) ((tyL (fnL (z.2 3) o n1 N S k) met mo).toNat + 1) 0 V0 (by omega) (by omega) hz ⟨FrW.rf, ⟨W, N, 0, 0, hl, hrg, h0.1, h0.2, Or.inl rfl, Or.inl rfl, fun i _ _ => by rw [if_pos rfl], fun i _ _ => by rw [if_pos rfl]⟩, fun i q0 q1 => hze i (by omega) q1, by rw [htr]; rfl, by rw [h69]; split <;> rfl, by rw [h70]; split <;> rfl⟩
  | succ r ih =>
    intro k W N S met A B V0 hkr hov hrg hsa hsr hsh hmet hA hB hz hl hze htr h69 h70 K
    have h1 := ty_in (fr := fnL (z.2 3) o n1 N S k) hmet
    have h0 := hze (k : Int) (by omega) (by omega)
    refine vX10_findWays (r := r + 1) hT hn1 hn12 hof hov hmo hcu hr1 hkr hrg hsa hsr hsh hmet hA hB (fun r' hr W1 N1 S1 met1 A1 B1 V1 q1 q2 q3 q4 q5 q6 q7 q8 q9 p1 p2 p3 p4 p5 K1 => ?_) K (tyL (fnL (z.2 3) o n1 N S k) met mo).toNat (by omega) ((tyL (fnL (z.2 3) o n1 N S k) met mo).toNat + 1) 0 V0 (by omega) (by omega) hz ⟨FrW.rf, ⟨W, N, 0, 0, hl, hrg, h0.1, h0.2, Or.inl rfl, Or.inl rfl, fun i _ _ => by rw [if_pos rfl], fun i _ _ => by rw [if_pos rfl]⟩, fun i q0 q1 => hze i (by omega) q1, by rw [htr]; rfl, by rw [h69]; split <;> rfl, by rw [h70]; split <;> rfl⟩
    obtain rfl : r' = r := by omega
    have e : ((k + 1 : Nat) : Int) = (k : Int) + 1 := by omega
    have h := ih (k + 1) W1 N1 S1 met1 A1 B1 V1 (by omega) q1 q2 (by rw [e]; exact q3) (by rw [e]; exact q4) (by rw [e]; exact q5) q6 q7 q8 q9 p1 (by rw [e]; exact p2) (by rw [e]; exact p3) p4 p5 (fun V2 x1 x2 x3 x4 x5 x6 => by
      rw [show ((k + 1 : Nat) : Int) + -1 = (k : Int) by omega]
      rw [e] at x2 x4
      exact K1 V2 x1 x2 x3 x4 x5 x6)
    rw [e] at h
    exact h
set_option maxHeartbeats 4000000 in
theorem jX10_findWays {E : ET} {sh : SHT} {nn : Nat × Nat} {T : Nat} {z : ZT} {n1 mo : Nat} {o : Int → Int} {r1 cu : Int} {V0 : VT} (hT : MSh T sh) (hn1 : z.2 3 6 = (n1 : Int)) (hn12 : n1 ≤ 12) (hof : OF (z.2 3) o n1) (hov : ∀ i, 0 ≤ i → i < (n1 : Int) → V0.1 (T + 32) i = o i) (hmo : 1 ≤ mo ∧ mo ≤ 3) (hcu : 0 ≤ cu ∧ cu < 6) (hr1 : 0 ≤ r1 ∧ r1 < 4) : ∀ (n j : Nat) (V : VT), 12 - j < n → j ≤ 12 → PE T V z → (Fr [T, T + 34, T + 35, T + 36, T + 37] V0 V ∧ V.1 T 69 = 0 ∧ V.1 T 70 = 0 ∧ LSV T V (fun _ => -1) (fun _ => -1) ∧ ∀ i, 0 ≤ i → i < (j : Int) → V.1 (T + 36) i = 0 ∧ V.1 (T + 37) i = 0) → TGo E mX10_findWays 3 54 [some (.ref T), some (.int (iI (mo : Int))), some (.int (iI r1)), some (.int (iI cu)), some (.int (iI (z.2 3 6))), some (.int (iI ((((j) : Nat) : Int))))] [] sh nn V (fun o' sh' nn' V' => o' = .inl none ∧ sh' = sh ∧ nn' = nn ∧ PE T V' z ∧ (∀ i, V'.1 (T + 32) i = V0.1 (T + 32) i) ∧ V'.1 T 69 = (lsT (z.2 3) o n1 mo r1 cu n1 0 (fun _ => -1) (fun _ => -1) (fun _ => 0) 1 (0, 0)).1 ∧ V'.1 T 70 = (lsT (z.2 3) o n1 mo r1 cu n1 0 (fun _ => -1) (fun _ => -1) (fun _ => 0) 1 (0, 0)).2) := by
  intro n
  induction n with
  | zero => intro j V h; omega
  | succ n ih =>
    intro j V hn hj hz hx
    obtain ⟨hf, h69, h70, hl, hx⟩ := hx
    refine TGo.il dX10_findWays_54 rfl ?_
    refine TGo.bip 12 dX10_findWays_56 (by decide) ?_
    refine TGo.icmp_ge 83 dX10_findWays_58 (by decide) (by omega) (fun h58 => ?_) (fun h58 => ?_)
    · refine TGo.al0 dX10_findWays_83 rfl ?_
      refine TGo.getS (t := 18) 62 62 (T + 33) (hT 0 (by decide)) rfl fgX10_136_10 dX10_findWays_84 rfl rfl rfl ?_
      refine TGo.ic0 dX10_findWays_87 ?_
      refine TGo.ic0 dX10_findWays_88 ?_
      refine TGo.iast dX10_findWays_89 (hT 33 (by decide)) (by omega) rfl ?_
      refine TGo.al0 dX10_findWays_90 rfl ?_
      refine TGo.getS (t := 18) 67 67 (T + 38) (hT 0 (by decide)) rfl fgX10_151_10 dX10_findWays_91 rfl rfl rfl ?_
      refine TGo.ic0 dX10_findWays_94 ?_
      refine TGo.ic1 dX10_findWays_95 ?_
      refine TGo.iast dX10_findWays_96 (hT 38 (by decide)) (by omega) rfl ?_
      refine TGo.il dX10_findWays_97 rfl ?_
      refine TGo.if_ne 110 dX10_findWays_99 (by decide) (by omega) (fun h99 => ?_) (fun h99 => ?_)
      · refine TGo.ic0 dX10_findWays_110 ?_
        refine TGo.is dX10_findWays_111 rfl rfl ?_
        refine TGo.al0 dX10_findWays_113 rfl ?_
        refine TGo.getS (t := 18) 68 68 (T + 39) (hT 0 (by decide)) rfl fgX10_154_10 dX10_findWays_114 rfl rfl rfl ?_
        refine TGo.ic0 dX10_findWays_117 ?_
        refine TGo.icm1 dX10_findWays_118 ?_
        refine TGo.iast dX10_findWays_119 (hT 39 (by decide)) (by omega) rfl ?_
        obtain rfl : j = 12 := by omega
        refine TGo.seq [some (.ref T), some (.int (iI (mo : Int))), some (.int (iI r1)), some (.int (iI cu)), some (.int (iI (z.2 3 6))), some (.int (iI (((0 : Nat) : Int))))] [] _ rfl rfl rfl (tX10_findWays (o := o) (W := fun _ => -1) (N := fun _ => -1) (S := fun _ => 0) (met := 1) (A := (0, 0)) (B := 0) hT hn1 hn12 hof hmo hcu hr1 (n1 - 1) 0 _ (by omega) (fun i h0 h1 => (u2_n (Or.inl (by omega))).trans ((u2_n (Or.inl (by omega))).trans ((u2_n (Or.inl (by omega))).trans ((congrFun (hf.1 _ (by simp)) _).trans (hov i h0 h1))))) ⟨fun i _ _ => ⟨Int.le_refl _, by show (-1 : Int) ≤ 9; decide⟩, fun i _ _ => ⟨Int.le_refl _, by show (-1 : Int) < mo; omega⟩⟩ (fun i h0 h1 => ?_) (fun i _ _ => by omega) ?_ (by omega) ⟨⟨by decide, by decide⟩, by decide, by decide⟩ ?_ (((hz.t 33 rfl).t 38 rfl).t 39 rfl) ⟨fun i h0 h1 => (u2_n (Or.inl (by omega))).trans ((u2_n (Or.inl (by omega))).trans ((u2_n (Or.inl (by omega))).trans (hl.1 i h0 h1))), fun i h0 h1 => (u2_n (Or.inl (by omega))).trans ((u2_n (Or.inl (by omega))).trans ((u2_n (Or.inl (by omega))).trans (hl.2 i h0 h1)))⟩ (fun i h0 h1 => ⟨(u2_n (Or.inl (by omega))).trans ((u2_n (Or.inl (by omega))).trans ((u2_n (Or.inl (by omega))).trans ((hx i h0 h1).1))), (u2_n (Or.inl (by omega))).trans ((u2_n (Or.inl (by omega))).trans ((u2_n (Or.inl (by omega))).trans ((hx i h0 h1).2)))⟩) u2_s ((u2_n (Or.inl (by omega))).trans ((u2_n (Or.inl (by omega))).trans ((u2_n (Or.inl (by omega))).trans (h69)))) ((u2_n (Or.inl (by omega))).trans ((u2_n (Or.inl (by omega))).trans ((u2_n (Or.inl (by omega))).trans (h70)))) (fun V1 hz1 hf1 _ _ h691 h701 => ?_))
        · obtain rfl : i = 0 := by omega
          exact (u2_n (Or.inl (by omega))).trans ((u2_n (Or.inl (by omega))).trans (u2_s))
        · exact (u2_n (Or.inl (by omega))).trans (u2_s)
        · have hp := Nat.pow_le_pow_right (n := 3) (by decide) (show n1 - 1 ≤ 11 by omega)
          have hp2 : ((3 ^ (n1 - 1) : Nat) : Int) ≤ 177147 := Int.ofNat_le.mpr hp
          omega
        · have e : n1 - 1 + 1 = n1 := by omega
          rw [e] at h691 h701
          refine TGo.il dX10_findWays_120 rfl ?_
          refine TGo.if_lt 180 dX10_findWays_122 (by decide) (by omega) (fun h122 => ?_) (fun h122 => absurd h122 (by omega))
          exact TGo.vret dX10_findWays_180 rfl ⟨rfl, rfl, rfl, hz1, fun i => (hf1.1 _ _ (by omega) (by omega) (by omega) (by omega) (by omega)).trans ((u2_n (Or.inl (by omega))).trans ((u2_n (Or.inl (by omega))).trans ((u2_n (Or.inl (by omega))).trans (congrFun (hf.1 _ (by simp)) _)))), h691, h701⟩
      · refine TGo.al0 dX10_findWays_102 rfl ?_
        refine TGo.il1 dX10_findWays_103 rfl ?_
        refine TGo.il2 dX10_findWays_104 rfl ?_
        refine TGo.il3 dX10_findWays_105 rfl ?_
        refine TGo.cN (csV3 (y2 := mX10_meet) (t := 18) 2 rfl (hT 0 (by decide)) rfl rfl dX10_findWays_106 q2540 q2542 qs106 okX10_meet npX10_meet rfl rfl) (kX10_meet (o := o) (Wd := fun _ => -1) (Nx := fun _ => -1) (Sa := fun _ => 0) (A := (0, 0)) hT ((hz.t 33 rfl).t 38 rfl) hn1 hn12 hof (fun i h0 h1 => (u2_n (Or.inl (by omega))).trans ((u2_n (Or.inl (by omega))).trans ((congrFun (hf.1 _ (by simp)) _).trans (hov i h0 h1)))) hmo hcu hr1 ⟨fun i h0 h1 => (u2_n (Or.inl (by omega))).trans ((u2_n (Or.inl (by omega))).trans (hl.1 i h0 h1)), fun i h0 h1 => (u2_n (Or.inl (by omega))).trans ((u2_n (Or.inl (by omega))).trans (hl.2 i h0 h1))⟩ ⟨fun i _ _ => ⟨Int.le_refl _, by show (-1 : Int) ≤ 9; decide⟩, fun i _ _ => ⟨Int.le_refl _, by show (-1 : Int) < mo; omega⟩⟩ (fun i h0 h1 => absurd h1 (by omega)) (fun i h0 h1 => absurd h1 (by omega)) ⟨⟨by decide, by decide⟩, by decide, by decide⟩ ((u2_n (Or.inl (by omega))).trans ((u2_n (Or.inl (by omega))).trans (h69))) ((u2_n (Or.inl (by omega))).trans ((u2_n (Or.inl (by omega))).trans (h70)))) (fun V106 h106 => ?_)
        obtain ⟨hz106, hf106, h691, h701⟩ := h106
        refine TGo.vret dX10_findWays_109 rfl ?_
        obtain rfl : n1 = 0 := by omega
        exact ⟨rfl, rfl, rfl, hz106, fun i => (congrFun (hf106.1 _ (by simp)) _).trans ((u2_n (Or.inl (by omega))).trans ((u2_n (Or.inl (by omega))).trans (congrFun (hf.1 _ (by simp)) _))), h691, h701⟩
    · refine TGo.al0 dX10_findWays_61 rfl ?_
      refine TGo.getS (t := 18) 65 65 (T + 36) (hT 0 (by decide)) rfl fgX10_145_10 dX10_findWays_62 rfl rfl rfl ?_
      refine TGo.il dX10_findWays_65 rfl ?_
      refine TGo.ic0 dX10_findWays_67 ?_
      refine TGo.zast dX10_findWays_68 (hT 36 (by decide)) (by omega) rfl (by first | exact Or.inl rfl | exact Or.inr rfl | exact bZ_or _ | assumption) ?_
      refine TGo.al0 dX10_findWays_69 rfl ?_
      refine TGo.getS (t := 18) 66 66 (T + 37) (hT 0 (by decide)) rfl fgX10_148_10 dX10_findWays_70 rfl rfl rfl ?_
      refine TGo.il dX10_findWays_73 rfl ?_
      refine TGo.ic0 dX10_findWays_75 ?_
      refine TGo.zast dX10_findWays_76 (hT 37 (by decide)) (by omega) rfl (by first | exact Or.inl rfl | exact Or.inr rfl | exact bZ_or _ | assumption) ?_
      refine TGo.iinc dX10_findWays_77 rfl rfl rfl ?_
      refine TGo.goto 54 dX10_findWays_80 (by decide) ?_
      exact TGo.seq [some (.ref T), some (.int (iI (mo : Int))), some (.int (iI r1)), some (.int (iI cu)), some (.int (iI (z.2 3 6))), some (.int (iI (((((j + 1)) : Nat) : Int))))] [] _ (rfl) rfl rfl (ih (j + 1) _ (by omega) (by omega) ((hz.t 36 rfl).t 37 rfl) ⟨(hf.i (by simp)).i (by simp), (u2_n (Or.inl (by omega))).trans ((u2_n (Or.inl (by omega))).trans h69), (u2_n (Or.inl (by omega))).trans ((u2_n (Or.inl (by omega))).trans h70), ⟨fun i h0 h1 => (u2_n (Or.inl (by omega))).trans ((u2_n (Or.inl (by omega))).trans (hl.1 i h0 h1)), fun i h0 h1 => (u2_n (Or.inl (by omega))).trans ((u2_n (Or.inl (by omega))).trans (hl.2 i h0 h1))⟩, fun i h0 h1 => by
        by_cases e : i = (j : Int)
        · rw [e]; exact ⟨(u2_n (Or.inl (by omega))).trans u2_s, u2_s⟩
        · exact ⟨(u2_n (Or.inl (by omega))).trans ((u2_n (Or.inr e)).trans (hx i h0 (by omega)).1), (u2_n (Or.inr e)).trans ((u2_n (Or.inl (by omega))).trans (hx i h0 (by omega)).2)⟩⟩)
set_option maxHeartbeats 4000000 in
theorem lX10_findWays {E : ET} {sh : SHT} {nn : Nat × Nat} {T : Nat} {z : ZT} {n1 mo : Nat} {o : Int → Int} {r1 cu : Int} {V0 : VT} (hT : MSh T sh) (hn1 : z.2 3 6 = (n1 : Int)) (hn12 : n1 ≤ 12) (hof : OF (z.2 3) o n1) (hov : ∀ i, 0 ≤ i → i < (n1 : Int) → V0.1 (T + 32) i = o i) (hmo : 1 ≤ mo ∧ mo ≤ 3) (hcu : 0 ≤ cu ∧ cu < 6) (hr1 : 0 ≤ r1 ∧ r1 < 4) : ∀ (n j : Nat) (V : VT), 18 - j < n → j ≤ 18 → PE T V z → (Fr [T, T + 34, T + 35, T + 36, T + 37] V0 V ∧ V.1 T 69 = 0 ∧ V.1 T 70 = 0 ∧ ∀ i, 0 ≤ i → i < (j : Int) → V.1 (T + 34) i = -1 ∧ V.1 (T + 35) i = -1) → TGo E mX10_findWays 3 22 [some (.ref T), some (.int (iI (mo : Int))), some (.int (iI r1)), some (.int (iI cu)), some (.int (iI (z.2 3 6))), some (.int (iI ((((j) : Nat) : Int))))] [] sh nn V (fun o' sh' nn' V' => o' = .inl none ∧ sh' = sh ∧ nn' = nn ∧ PE T V' z ∧ (∀ i, V'.1 (T + 32) i = V0.1 (T + 32) i) ∧ V'.1 T 69 = (lsT (z.2 3) o n1 mo r1 cu n1 0 (fun _ => -1) (fun _ => -1) (fun _ => 0) 1 (0, 0)).1 ∧ V'.1 T 70 = (lsT (z.2 3) o n1 mo r1 cu n1 0 (fun _ => -1) (fun _ => -1) (fun _ => 0) 1 (0, 0)).2) := by
  intro n
  induction n with
  | zero => intro j V h; omega
  | succ n ih =>
    intro j V hn hj hz hx
    obtain ⟨hf, h69, h70, hx⟩ := hx
    refine TGo.il dX10_findWays_22 rfl ?_
    refine TGo.bip 18 dX10_findWays_24 (by decide) ?_
    refine TGo.icmp_ge 51 dX10_findWays_26 (by decide) (by omega) (fun h26 => ?_) (fun h26 => ?_)
    · refine TGo.ic0 dX10_findWays_51 ?_
      refine TGo.is dX10_findWays_52 rfl rfl ?_
      obtain rfl : j = 18 := by omega
      exact TGo.seq [some (.ref T), some (.int (iI (mo : Int))), some (.int (iI r1)), some (.int (iI cu)), some (.int (iI (z.2 3 6))), some (.int (iI (((0 : Nat) : Int))))] [] _ rfl rfl rfl (jX10_findWays hT hn1 hn12 hof hov hmo hcu hr1 13 0 _ (by omega) (by omega) hz ⟨hf, h69, h70, ⟨fun i h0 h1 => (hx i h0 h1).1, fun i h0 h1 => (hx i h0 h1).2⟩, fun i h0 h1 => absurd h1 (by omega)⟩)
    · refine TGo.al0 dX10_findWays_29 rfl ?_
      refine TGo.getS (t := 18) 63 63 (T + 34) (hT 0 (by decide)) rfl fgX10_139_10 dX10_findWays_30 rfl rfl rfl ?_
      refine TGo.il dX10_findWays_33 rfl ?_
      refine TGo.icm1 dX10_findWays_35 ?_
      refine TGo.iast dX10_findWays_36 (hT 34 (by decide)) (by omega) rfl ?_
      refine TGo.al0 dX10_findWays_37 rfl ?_
      refine TGo.getS (t := 18) 64 64 (T + 35) (hT 0 (by decide)) rfl fgX10_142_10 dX10_findWays_38 rfl rfl rfl ?_
      refine TGo.il dX10_findWays_41 rfl ?_
      refine TGo.icm1 dX10_findWays_43 ?_
      refine TGo.iast dX10_findWays_44 (hT 35 (by decide)) (by omega) rfl ?_
      refine TGo.iinc dX10_findWays_45 rfl rfl rfl ?_
      refine TGo.goto 22 dX10_findWays_48 (by decide) ?_
      exact TGo.seq [some (.ref T), some (.int (iI (mo : Int))), some (.int (iI r1)), some (.int (iI cu)), some (.int (iI (z.2 3 6))), some (.int (iI (((((j + 1)) : Nat) : Int))))] [] _ (rfl) rfl rfl (ih (j + 1) _ (by omega) (by omega) ((hz.t 34 rfl).t 35 rfl) ⟨(hf.i (by simp)).i (by simp), (u2_n (Or.inl (by omega))).trans ((u2_n (Or.inl (by omega))).trans h69), (u2_n (Or.inl (by omega))).trans ((u2_n (Or.inl (by omega))).trans h70), fun i h0 h1 => by
        by_cases e : i = (j : Int)
        · rw [e]; exact ⟨(u2_n (Or.inl (by omega))).trans u2_s, u2_s⟩
        · exact ⟨(u2_n (Or.inl (by omega))).trans ((u2_n (Or.inr e)).trans (hx i h0 (by omega)).1), (u2_n (Or.inr e)).trans ((u2_n (Or.inl (by omega))).trans (hx i h0 (by omega)).2)⟩⟩)
set_option maxHeartbeats 4000000 in
theorem kX10_findWays {E : ET} {sh : SHT} {nn : Nat × Nat} {V : VT} {T : Nat} {z : ZT} {n1 mo : Nat} {o : Int → Int} {r1 cu : Int} (hT : MSh T sh) (hz : PE T V z) (hn1 : z.2 3 6 = (n1 : Int)) (hn12 : n1 ≤ 12) (hof : OF (z.2 3) o n1) (hov : ∀ i, 0 ≤ i → i < (n1 : Int) → V.1 (T + 32) i = o i) (hmo : 1 ≤ mo ∧ mo ≤ 3) (hcu : 0 ≤ cu ∧ cu < 6) (hr1 : 0 ≤ r1 ∧ r1 < 4) : TN E mX10_findWays 3 [.ref T, .int (iI (mo : Int)), .int (iI r1), .int (iI cu)] sh nn V (fun V' => PE T V' z ∧ (∀ i, V'.1 (T + 32) i = V.1 (T + 32) i) ∧ V'.1 T 69 = (lsT (z.2 3) o n1 mo r1 cu n1 0 (fun _ => -1) (fun _ => -1) (fun _ => 0) 1 (0, 0)).1 ∧ V'.1 T 70 = (lsT (z.2 3) o n1 mo r1 cu n1 0 (fun _ => -1) (fun _ => -1) (fun _ => 0) 1 (0, 0)).2) := by
  refine TC.intro [some (.ref T), some (.int (iI (mo : Int))), some (.int (iI r1)), some (.int (iI cu)), none, none] rfl ?_
  refine TGo.al0 dX10_findWays_0 rfl ?_
  refine TGo.getS (t := 18) 3 3 (T + 2) (hT 0 (by decide)) rfl fgX10_13_10 dX10_findWays_1 rfl rfl rfl ?_
  refine TGo.bip 6 dX10_findWays_4 (by decide) ?_
  refine TGo.iald dX10_findWays_6 (hT 2 (by decide)) (by omega) rfl ?_
  refine TGo.toz _ (hz.2.1 3 (by decide) _) ?_
  refine TGo.is dX10_findWays_7 rfl rfl ?_
  refine TGo.al0 dX10_findWays_9 rfl ?_
  refine TGo.ic0 dX10_findWays_10 ?_
  refine TGo.putI (t := 18) 69 69 (hT 0 (by decide)) rfl fpX10_580_10 dX10_findWays_11 rfl rfl rfl ?_
  refine TGo.al0 dX10_findWays_14 rfl ?_
  refine TGo.ic0 dX10_findWays_15 ?_
  refine TGo.putI (t := 18) 70 70 (hT 0 (by decide)) rfl fpX10_583_10 dX10_findWays_16 rfl rfl rfl ?_
  refine TGo.ic0 dX10_findWays_19 ?_
  refine TGo.is dX10_findWays_20 rfl rfl ?_
  exact lX10_findWays (V0 := V) hT hn1 hn12 hof hov hmo hcu hr1 19 0 _ (by omega) (by omega) ((hz.s rfl).s rfl) ⟨(Fr.rf.i (by simp)).i (by simp), (u2_n (Or.inr (by omega))).trans u2_s, u2_s, fun i h0 h1 => absurd h1 (by omega)⟩
def leR (f : Int → Int) (r1 cu : Int) (s : Nat) : Int × Int := lsT f (odZ f) (f 6).toNat s r1 cu (f 6).toNat 0 (fun _ => -1) (fun _ => -1) (fun _ => 0) 1 (0, 0)
theorem leR_b {f : Int → Int} (W : RWZ f) {r1 cu : Int} (hcu : 0 ≤ cu ∧ cu < 6) {s : Nat} (hs : 1 ≤ s ∧ s ≤ 3) : AB 1000000 (leR f r1 cu s) := by
  have w6 := W.1.2.2.2.2.2.2.1
  have hp := Nat.pow_le_pow_right (n := 3) (by decide) (show (f 6).toNat ≤ 12 by omega)
  have hp2 : ((3 ^ (f 6).toNat : Nat) : Int) ≤ 531441 := Int.ofNat_le.mpr hp
  exact (lsT_b (r1 := r1) (odZ_ok W).2 hs hcu (f 6).toNat 0 _ _ _ 1 (0, 0) 0 (by omega) (fun i _ _ => ⟨Int.le_refl _, by show (-1 : Int) ≤ 9; decide⟩) (by omega) ⟨⟨by decide, by decide⟩, by decide, by decide⟩).le (by omega)
def lfZ (f : Int → Int) (r1 cu : Int) : Int × (Int × Int) := if 0 < (leR f r1 cu 1).1 then (1, leR f r1 cu 1) else if 0 < (leR f r1 cu 2).1 then (2, leR f r1 cu 2) else if 0 < (leR f r1 cu 3).1 then (3, leR f r1 cu 3) else (-1, leR f r1 cu 3)
theorem lfZ_s {f : Int → Int} {r1 cu : Int} {s : Nat} (hs : s < 3) (h : ∀ k : Nat, k < s → (leR f r1 cu (k + 1)).1 ≤ 0) (h1 : 0 < (leR f r1 cu (s + 1)).1) : lfZ f r1 cu = ((s : Int) + 1, leR f r1 cu (s + 1)) := by
  have hs : s = 0 ∨ s = 1 ∨ s = 2 := by omega
  unfold lfZ
  rcases hs with rfl | rfl | rfl
  · rw [if_pos h1]; rfl
  · have q := h 0 (by omega)
    rw [if_neg (by simp at q; omega), if_pos h1]; rfl
  · have q := h 0 (by omega)
    have q1 := h 1 (by omega)
    rw [if_neg (by simp at q; omega), if_neg (by simp at q1; omega), if_pos h1]; rfl
theorem lfZ_n {f : Int → Int} {r1 cu : Int} (h : ∀ k : Nat, k < 3 → (leR f r1 cu (k + 1)).1 ≤ 0) : lfZ f r1 cu = (-1, leR f r1 cu 3) := by
  have q := h 0 (by omega)
  have q1 := h 1 (by omega)
  have q2 := h 2 (by omega)
  unfold lfZ
  rw [if_neg (by simp at q; omega), if_neg (by simp at q1; omega), if_neg (by simp at q2; omega)]
set_option maxHeartbeats 4000000 in
theorem lX10_findLeast {E : ET} {sh : SHT} {nn : Nat × Nat} {T : Nat} {z : ZT} {n1 : Nat} {r1 cu : Int} (hT : MSh T sh) (W : RWZ (z.2 3)) (hn1 : z.2 3 6 = (n1 : Int)) (hcu : 0 ≤ cu ∧ cu < 6) (hr1 : 0 ≤ r1 ∧ r1 < 4) : ∀ (n j : Nat) (V : VT), 3 - j < n → j ≤ 3 → PE T V z → ((∀ i, 0 ≤ i → i < (n1 : Int) → V.1 (T + 32) i = odZ (z.2 3) i) ∧ (∀ k : Nat, k < j → (leR (z.2 3) r1 cu (k + 1)).1 ≤ 0) ∧ (j = 3 → V.1 T 69 = (leR (z.2 3) r1 cu 3).1 ∧ V.1 T 70 = (leR (z.2 3) r1 cu 3).2)) → TGo E mX10_findLeast 4 6 [some (.ref T), some (.int (iI r1)), some (.int (iI cu)), some (.int (iI (((j) : Nat) + 1 : Int)))] [] sh nn V (fun o' sh' nn' V' => ∃ v, o' = .inl (some v) ∧ sh' = sh ∧ nn' = nn ∧ v = .int (iI (lfZ (z.2 3) r1 cu).1) ∧ PE T V' z ∧ V'.1 T 69 = (lfZ (z.2 3) r1 cu).2.1 ∧ V'.1 T 70 = (lfZ (z.2 3) r1 cu).2.2) := by
  intro n
  induction n with
  | zero => intro j V h; omega
  | succ n ih =>
    intro j V hn hj hz hx
    have w6 := W.1.2.2.2.2.2.2.1
    obtain ⟨ho, hx1, hx2⟩ := hx
    have en : (z.2 3 6).toNat = n1 := by omega
    have hok := (odZ_ok W).2
    rw [en] at hok
    refine TGo.il3 dX10_findLeast_6 rfl ?_
    refine TGo.ic4 dX10_findLeast_7 ?_
    refine TGo.icmp_ge 33 dX10_findLeast_8 (by decide) (by omega) (fun h8 => ?_) (fun h8 => ?_)
    · refine TGo.icm1 dX10_findLeast_33 ?_
      refine TGo.iret dX10_findLeast_34 rfl ?_
      obtain rfl : j = 3 := by omega
      have e := lfZ_n hx1
      exact ⟨_, rfl, rfl, rfl, by rw [e], hz, by rw [e]; exact (hx2 rfl).1, by rw [e]; exact (hx2 rfl).2⟩
    · have hlb := leR_b W (r1 := r1) hcu (show 1 ≤ j + 1 ∧ j + 1 ≤ 3 by omega)
      have hlb1 := hlb.1
      refine TGo.al0 dX10_findLeast_11 rfl ?_
      refine TGo.il3 dX10_findLeast_12 rfl ?_
      refine TGo.il1 dX10_findLeast_13 rfl ?_
      refine TGo.il2 dX10_findLeast_14 rfl ?_
      refine TGo.cN (csV3 (y2 := mX10_findWays) (t := 18) 3 rfl (hT 0 (by decide)) rfl rfl dX10_findLeast_15 q2536 q2538 qs105 okX10_findWays npX10_findWays rfl rfl) (kX10_findWays (n1 := n1) (mo := j + 1) (o := odZ (z.2 3)) hT hz hn1 (by omega) hok ho (by omega) hcu hr1) (fun V15 h15 => ?_)
      obtain ⟨hz15, ho15, h691, h701⟩ := h15
      have h691 : V15.1 T 69 = (leR (z.2 3) r1 cu (j + 1)).1 := by unfold leR; rw [en]; exact h691
      have h701 : V15.1 T 70 = (leR (z.2 3) r1 cu (j + 1)).2 := by unfold leR; rw [en]; exact h701
      refine TGo.al0 dX10_findLeast_18 rfl ?_
      refine TGo.getI (t := 18) 69 69 (hT 0 (by decide)) rfl fgX10_580_10 dX10_findLeast_19 rfl rfl rfl ?_
      refine TGo.toz _ h691 ?_
      refine TGo.if_le 27 dX10_findLeast_22 (by decide) (by omega) (fun h22 => ?_) (fun h22 => ?_)
      · refine TGo.iinc dX10_findLeast_27 rfl rfl rfl ?_
        refine TGo.goto 6 dX10_findLeast_30 (by decide) ?_
        first | (exfalso; omega) | exact TGo.seq [some (.ref T), some (.int (iI r1)), some (.int (iI cu)), some (.int (iI ((((j + 1)) : Nat) + 1 : Int)))] [] _ (rfl) rfl rfl (ih (j + 1) _ (by omega) (by omega) hz15 ⟨fun i h0 h1 => (ho15 i).trans (ho i h0 h1), fun k hk => by
          rcases Nat.lt_or_ge k j with e | e
          · exact hx1 k e
          · obtain rfl : k = j := by omega
            omega, fun e => by
          obtain rfl : j = 2 := by omega
          exact ⟨h691, h701⟩⟩)
      · refine TGo.il3 dX10_findLeast_25 rfl ?_
        refine TGo.iret dX10_findLeast_26 rfl ?_
        have e := lfZ_s (s := j) (by omega) hx1 (by omega)
        exact ⟨_, rfl, rfl, rfl, by rw [e], hz15, by rw [e]; exact h691, by rw [e]; exact h701⟩
set_option maxHeartbeats 4000000 in
theorem kX10_findLeast {E : ET} {sh : SHT} {nn : Nat × Nat} {V : VT} {T : Nat} {z : ZT} {r1 cu : Int} (hT : MSh T sh) (hz : PE T V z) (W : RWZ (z.2 3)) (hcu : 0 ≤ cu ∧ cu < 6) (hr1 : 0 ≤ r1 ∧ r1 < 4) : TS E mX10_findLeast 4 [.ref T, .int (iI r1), .int (iI cu)] sh nn V (fun v V' => v = .int (iI (lfZ (z.2 3) r1 cu).1) ∧ PE T V' z ∧ V'.1 T 69 = (lfZ (z.2 3) r1 cu).2.1 ∧ V'.1 T 70 = (lfZ (z.2 3) r1 cu).2.2) := by
  have w6 := W.1.2.2.2.2.2.2.1
  refine TC.intro [some (.ref T), some (.int (iI r1)), some (.int (iI cu)), none] rfl ?_
  refine TGo.al0 dX10_findLeast_0 rfl ?_
  refine TGo.cN (csV0 (y2 := mX10_findOrder) (t := 18) 1 rfl (hT 0 (by decide)) rfl rfl dX10_findLeast_1 q2532 q2534 qs104 okX10_findOrder npX10_findOrder rfl rfl) (kX10_findOrder (n1 := (z.2 3 6).toNat) hT hz W (by omega)) (fun V1 h1 => ?_)
  obtain ⟨hz1, hf1, ho1⟩ := h1
  refine TGo.ic1 dX10_findLeast_4 ?_
  refine TGo.is3 dX10_findLeast_5 rfl rfl ?_
  exact lX10_findLeast (n1 := (z.2 3 6).toNat) hT W (by omega) hcu hr1 4 0 _ (by omega) (by omega) hz1 ⟨ho1, fun k hk => absurd hk (by omega), fun e => absurd e (by decide)⟩
theorem lfZ_b {f : Int → Int} (W : RWZ f) {r1 cu : Int} (hcu : 0 ≤ cu ∧ cu < 6) : (-1 ≤ (lfZ f r1 cu).1 ∧ (lfZ f r1 cu).1 ≤ 3) ∧ AB 1000000 (lfZ f r1 cu).2 := by
  unfold lfZ
  split
  · exact ⟨⟨by simp only; omega, by simp only; omega⟩, leR_b W hcu (by omega)⟩
  · split
    · exact ⟨⟨by simp only; omega, by simp only; omega⟩, leR_b W hcu (by omega)⟩
    · split
      · exact ⟨⟨by simp only; omega, by simp only; omega⟩, leR_b W hcu (by omega)⟩
      · exact ⟨⟨by simp only; omega, by simp only; omega⟩, leR_b W hcu (by omega)⟩
def zp_least (z : ZT) (w : Int) : Int × ZT :=
  if ¬ (0 ≤ w ∧ w ≤ 1) then (-1, z) else if w = 0 then ((lfZ (z.2 3) 0 0).1, z) else ((lfZ (z.2 3) 0 0).2.1, z)
set_option maxHeartbeats 4000000 in
theorem kX10_least {E : ET} {sh : SHT} {nn : Nat × Nat} {V : VT} {T : Nat} {z : ZT} {w : Int} (hT : MSh T sh) (hz : PE T V z) (W : RWZ (z.2 3)) (rw : R32 w) : TC E mX10_least 5 [.ref T, .int (iI w)] sh nn V (ZP T sh nn (zp_least z w)) := by
  have w6 := W.1.2.2.2.2.2.2.1
  refine TC.intro [some (.ref T), some (.int (iI w)), none] rfl ?_
  refine TGo.al0 dX10_least_0 rfl ?_
  refine TGo.ic0 dX10_least_1 ?_
  refine TGo.putI (t := 18) 0 0 (hT 0 (by decide)) rfl fpX10_163_10 dX10_least_2 rfl rfl rfl ?_
  refine TGo.il1 dX10_least_5 rfl ?_
  refine TGo.i2l dX10_least_6 (by omega) ?_
  refine TGo.lc0 dX10_least_7 ?_
  refine TGo.lc1 dX10_least_8 ?_
  refine TGo.cF (csS3 (y2 := mX10_in) 1 rfl dX10_least_9 q2032 q2033 okX10_in npX10_in rfl rfl) (kX10_in (by omega) (by omega) (by omega)) ?_
  refine TGo.ifb_ne 17 dX10_least_12 (by decide) (fun h12 => ?_) (fun h12 => ?_)
  · refine TGo.al0 dX10_least_17 rfl ?_
    refine TGo.ic0 dX10_least_18 ?_
    refine TGo.ic0 dX10_least_19 ?_
    refine TGo.cS (csV2 (y2 := mX10_findLeast) (t := 18) 4 rfl (hT 0 (by decide)) rfl rfl dX10_least_20 q2528 q2530 qs103 okX10_findLeast npX10_findLeast rfl rfl) (kX10_findLeast hT (hz.s rfl) W (by omega) (by omega)) (fun v20 V20 h20 => ?_)
    obtain ⟨rfl, hz20, h69, h70⟩ := h20
    refine TGo.is2 dX10_least_23 rfl rfl ?_
    refine TGo.il1 dX10_least_24 rfl ?_
    refine TGo.if_ne 32 dX10_least_25 (by decide) (by omega) (fun h25 => ?_) (fun h25 => ?_)
    · refine TGo.al0 dX10_least_32 rfl ?_
      refine TGo.getI (t := 18) 69 69 (hT 0 (by decide)) rfl fgX10_580_10 dX10_least_33 rfl rfl rfl ?_
      first | refine TGo.toz (lfZ (z.2 3) 0 0).2.1 h69 ?_ | skip
      refine TGo.iret dX10_least_36 rfl ?_
      first
      | (exfalso; omega)
      | (refine leafZ hz20 ?_
         unfold zp_least
         (repeat (first | rw [if_pos (by first | rfl | assumption | omega)] | rw [if_neg (by first | decide | assumption | omega)]))
         (try first | rfl | rw [bZ_t (by first | assumption | omega)] | rw [bZ_f (by first | assumption | omega)]))
    · refine TGo.il2 dX10_least_28 rfl ?_
      refine TGo.goto 36 dX10_least_29 (by decide) ?_
      first | refine TGo.toz (lfZ (z.2 3) 0 0).2.1 h69 ?_ | skip
      refine TGo.iret dX10_least_36 rfl ?_
      first
      | (exfalso; omega)
      | (refine leafZ hz20 ?_
         unfold zp_least
         (repeat (first | rw [if_pos (by first | rfl | assumption | omega)] | rw [if_neg (by first | decide | assumption | omega)]))
         (try first | rfl | rw [bZ_t (by first | assumption | omega)] | rw [bZ_f (by first | assumption | omega)]))
  · refine TGo.icm1 dX10_least_15 ?_
    refine TGo.iret dX10_least_16 rfl ?_
    first
    | (exfalso; omega)
    | (refine leafZ (hz.s rfl) ?_
       unfold zp_least
       (repeat (first | rw [if_pos (by first | rfl | assumption | omega)] | rw [if_neg (by first | decide | assumption | omega)]))
       (try first | rfl | rw [bZ_t (by first | assumption | omega)] | rw [bZ_f (by first | assumption | omega)]))
def zp_would (z : ZT) (r c : Int) : Int × ZT :=
  if ¬ ((0 ≤ r ∧ r ≤ 3) ∧ 0 ≤ c ∧ c ≤ 5) then (-1, z) else if (lfZ (z.2 3) r c).1 = -1 then (-1, z) else ((lfZ (z.2 3) r c).2.2, z)
set_option maxHeartbeats 4000000 in
theorem kX10_would {E : ET} {sh : SHT} {nn : Nat × Nat} {V : VT} {T : Nat} {z : ZT} {r c : Int} (hT : MSh T sh) (hz : PE T V z) (W : RWZ (z.2 3)) (rr : R32 r) (rc : R32 c) : TC E mX10_would 5 [.ref T, .int (iI r), .int (iI c)] sh nn V (ZP T sh nn (zp_would z r c)) := by
  have w6 := W.1.2.2.2.2.2.2.1
  refine TC.intro [some (.ref T), some (.int (iI r)), some (.int (iI c))] rfl ?_
  refine TGo.al0 dX10_would_0 rfl ?_
  refine TGo.ic0 dX10_would_1 ?_
  refine TGo.putI (t := 18) 0 0 (hT 0 (by decide)) rfl fpX10_163_10 dX10_would_2 rfl rfl rfl ?_
  refine TGo.il1 dX10_would_5 rfl ?_
  refine TGo.i2l dX10_would_6 (by omega) ?_
  refine TGo.lc0 dX10_would_7 ?_
  refine TGo.ldc2 3 dX10_would_8 q2094 (by decide) ?_
  refine TGo.cF (csS3 (y2 := mX10_in) 1 rfl dX10_would_11 q2032 q2033 okX10_in npX10_in rfl rfl) (kX10_in (by omega) (by omega) (by omega)) ?_
  refine TGo.ifb_eq 29 dX10_would_14 (by decide) (fun h14 => ?_) (fun h14 => ?_)
  · refine TGo.icm1 dX10_would_29 ?_
    refine TGo.iret dX10_would_30 rfl ?_
    first
    | (exfalso; omega)
    | (refine leafZ (hz.s rfl) ?_
       unfold zp_would
       (repeat (first | rw [if_pos (by first | rfl | assumption | omega)] | rw [if_neg (by first | decide | assumption | omega)]))
       (try first | rfl | rw [bZ_t (by first | assumption | omega)] | rw [bZ_f (by first | assumption | omega)]))
  · refine TGo.il2 dX10_would_17 rfl ?_
    refine TGo.i2l dX10_would_18 (by omega) ?_
    refine TGo.lc0 dX10_would_19 ?_
    refine TGo.ldc2 5 dX10_would_20 q2056 (by decide) ?_
    refine TGo.cF (csS3 (y2 := mX10_in) 1 rfl dX10_would_23 q2032 q2033 okX10_in npX10_in rfl rfl) (kX10_in (by omega) (by omega) (by omega)) ?_
    refine TGo.ifb_ne 31 dX10_would_26 (by decide) (fun h26 => ?_) (fun h26 => ?_)
    · have hlf := lfZ_b W (r1 := r) (cu := c) (by omega)
      have hlf1 := hlf.1
      refine TGo.al0 dX10_would_31 rfl ?_
      refine TGo.il1 dX10_would_32 rfl ?_
      refine TGo.il2 dX10_would_33 rfl ?_
      refine TGo.cS (csV2 (y2 := mX10_findLeast) (t := 18) 4 rfl (hT 0 (by decide)) rfl rfl dX10_would_34 q2528 q2530 qs103 okX10_findLeast npX10_findLeast rfl rfl) (kX10_findLeast hT (hz.s rfl) W (by omega) (by omega)) (fun v34 V34 h34 => ?_)
      obtain ⟨rfl, hz34, h69, h70⟩ := h34
      refine TGo.icm1 dX10_would_37 ?_
      refine TGo.icmp_ne 45 dX10_would_38 (by decide) (by omega) (fun h38 => ?_) (fun h38 => ?_)
      · refine TGo.al0 dX10_would_45 rfl ?_
        refine TGo.getI (t := 18) 70 70 (hT 0 (by decide)) rfl fgX10_583_10 dX10_would_46 rfl rfl rfl ?_
        first | refine TGo.toz (lfZ (z.2 3) r c).2.2 h70 ?_ | skip
        refine TGo.iret dX10_would_49 rfl ?_
        first
        | (exfalso; omega)
        | (refine leafZ hz34 ?_
           unfold zp_would
           (repeat (first | rw [if_pos (by first | rfl | assumption | omega)] | rw [if_neg (by first | decide | assumption | omega)]))
           (try first | rfl | rw [bZ_t (by first | assumption | omega)] | rw [bZ_f (by first | assumption | omega)]))
      · refine TGo.icm1 dX10_would_41 ?_
        refine TGo.goto 49 dX10_would_42 (by decide) ?_
        first | refine TGo.toz (lfZ (z.2 3) r c).2.2 h70 ?_ | skip
        refine TGo.iret dX10_would_49 rfl ?_
        first
        | (exfalso; omega)
        | (refine leafZ hz34 ?_
           unfold zp_would
           (repeat (first | rw [if_pos (by first | rfl | assumption | omega)] | rw [if_neg (by first | decide | assumption | omega)]))
           (try first | rfl | rw [bZ_t (by first | assumption | omega)] | rw [bZ_f (by first | assumption | omega)]))
    · refine TGo.icm1 dX10_would_29 ?_
      refine TGo.iret dX10_would_30 rfl ?_
      first
      | (exfalso; omega)
      | (refine leafZ (hz.s rfl) ?_
         unfold zp_would
         (repeat (first | rw [if_pos (by first | rfl | assumption | omega)] | rw [if_neg (by first | decide | assumption | omega)]))
         (try first | rfl | rw [bZ_t (by first | assumption | omega)] | rw [bZ_f (by first | assumption | omega)]))
