/-! THE MODEL: talk, mends -/
set_option maxRecDepth 100000
/-- two scripts that answer one another: both states and the cue ahead of the n-th word -/
def tkA (f g : Int → Int) (c0 : Int) : Nat → Int × Int × Int
  | 0 => (0, 0, c0)
  | n + 1 => if n % 2 = 0 then (nZ (f (6 * (tkA f g c0 n).1 + (tkA f g c0 n).2.2)), (tkA f g c0 n).2.1, wZ (f (6 * (tkA f g c0 n).1 + (tkA f g c0 n).2.2)) % 6)
    else ((tkA f g c0 n).1, nZ (g (6 * (tkA f g c0 n).2.1 + (tkA f g c0 n).2.2)), wZ (g (6 * (tkA f g c0 n).2.1 + (tkA f g c0 n).2.2)) % 6)
def tkP (f g : Int → Int) (c0 : Int) (n : Nat) : Int := if n % 2 = 0 then 6 * (tkA f g c0 n).1 + (tkA f g c0 n).2.2 else 6 * (tkA f g c0 n).2.1 + (tkA f g c0 n).2.2
def tkR (f g : Int → Int) (c0 : Int) (n : Nat) : Int := if n % 2 = 0 then f (tkP f g c0 n) else g (tkP f g c0 n)
def tkI (f g : Int → Int) (c0 : Int) (n : Nat) : Int := (((tkA f g c0 n).1 * 6 + (tkA f g c0 n).2.1) * 2 + (n : Int) % 2) * 6 + (tkA f g c0 n).2.2
/-- where one was when first -/
def whZ (f g : Int → Int) (c0 : Int) : Nat → (Int → Int)
  | 0 => fun _ => -1
  | n + 1 => zu (whZ f g c0 n) (tkI f g c0 n) (n : Int)
/-- it is over: one was there already, or nothing is said -/
def tkD (f g : Int → Int) (c0 : Int) (n : Nat) : Prop := whZ f g c0 n (tkI f g c0 n) ≠ -1 ∨ tkR f g c0 n = -1
noncomputable def tkF (f g : Int → Int) (c0 : Int) : Nat → Nat → Nat
  | 0, n => n
  | k + 1, n => haveI := Classical.propDecidable (tkD f g c0 n); if tkD f g c0 n then n else tkF f g c0 k (n + 1)
noncomputable def tkN (f g : Int → Int) (c0 : Int) : Nat := tkF f g c0 433 0
theorem tkF_eq {f g : Int → Int} {c0 : Int} : ∀ (k n m : Nat), n ≤ m → m < n + k → (∀ i, n ≤ i → i < m → ¬ tkD f g c0 i) → tkD f g c0 m → tkF f g c0 k n = m := by
  intro k
  induction k with
  | zero => intro n m h1 h2; omega
  | succ k ih =>
    intro n m h1 h2 h3 h4
    rw [tkF]
    rcases Nat.eq_or_lt_of_le h1 with e | e
    · subst e; rw [if_pos h4]
    · rw [if_neg (h3 n (Nat.le_refl _) e)]
      exact ih (n + 1) m e (by omega) (fun i h5 h6 => h3 i (by omega) h6) h4
theorem tkA_r {f g : Int → Int} {c0 : Int} (hf : ∀ r, 0 ≤ r → r < 36 → cOK (f r)) (hg : ∀ r, 0 ≤ r → r < 36 → cOK (g r)) (hc : 0 ≤ c0 ∧ c0 < 6) : ∀ n : Nat, (∀ i, i < n → ¬ tkD f g c0 i) → (0 ≤ (tkA f g c0 n).1 ∧ (tkA f g c0 n).1 < 6) ∧ (0 ≤ (tkA f g c0 n).2.1 ∧ (tkA f g c0 n).2.1 < 6) ∧ 0 ≤ (tkA f g c0 n).2.2 ∧ (tkA f g c0 n).2.2 < 6 := by
  intro n
  induction n with
  | zero => intro _; exact ⟨⟨Int.le_refl _, by show (0 : Int) < 6; omega⟩, ⟨Int.le_refl _, by show (0 : Int) < 6; omega⟩, hc⟩
  | succ n ih =>
    intro h
    have h1 := ih (fun i hi => h i (by omega))
    have h2 : tkR f g c0 n ≠ -1 := fun e => h n (by omega) (Or.inr e)
    unfold tkR tkP at h2
    rw [tkA]
    by_cases e : n % 2 = 0
    · rw [if_pos e, if_pos e] at h2
      rw [if_pos e]
      have h3 := hf (6 * (tkA f g c0 n).1 + (tkA f g c0 n).2.2) (by omega) (by omega)
      have h4 := wZ_r h3
      have h5 := nZ_r h3
      exact ⟨by simp only; omega, by simp only; omega, by simp only; omega⟩
    · rw [if_neg e, if_neg e] at h2
      rw [if_neg e]
      have h3 := hg (6 * (tkA f g c0 n).2.1 + (tkA f g c0 n).2.2) (by omega) (by omega)
      have h4 := wZ_r h3
      have h5 := nZ_r h3
      exact ⟨by simp only; omega, by simp only; omega, by simp only; omega⟩
theorem tkI_r {f g : Int → Int} {c0 : Int} {n : Nat} (h : (0 ≤ (tkA f g c0 n).1 ∧ (tkA f g c0 n).1 < 6) ∧ (0 ≤ (tkA f g c0 n).2.1 ∧ (tkA f g c0 n).2.1 < 6) ∧ 0 ≤ (tkA f g c0 n).2.2 ∧ (tkA f g c0 n).2.2 < 6) : 0 ≤ tkI f g c0 n ∧ tkI f g c0 n < 432 := by unfold tkI; omega
theorem mkZ_none : ∀ k : Nat, mkZ (fun _ => -1) k = 0 := by
  intro k
  induction k with
  | zero => rfl
  | succ k ih => rw [mkZ, ih, if_pos rfl]; rfl
theorem whZ_mk {f g : Int → Int} {c0 : Int} (hf : ∀ r, 0 ≤ r → r < 36 → cOK (f r)) (hg : ∀ r, 0 ≤ r → r < 36 → cOK (g r)) (hc : 0 ≤ c0 ∧ c0 < 6) : ∀ n : Nat, (∀ i, i < n → ¬ tkD f g c0 i) → mkZ (whZ f g c0 n) 432 = n := by
  intro n
  induction n with
  | zero => intro _; exact mkZ_none 432
  | succ n ih =>
    intro h
    have h1 := ih (fun i hi => h i (by omega))
    have h2 := tkI_r (tkA_r hf hg hc n (fun i hi => h i (by omega)))
    have h3 : whZ f g c0 n (tkI f g c0 n) = -1 := Classical.byContradiction fun q => h n (by omega) (Or.inl q)
    rw [whZ, mkZ_in h2.1 h3 (by omega) 432 (by omega), h1]; rfl
theorem whZ_r (f g : Int → Int) (c0 : Int) : ∀ (n : Nat) (x : Int), -1 ≤ whZ f g c0 n x ∧ whZ f g c0 n x < n := by
  intro n
  induction n with
  | zero => intro x; show -1 ≤ (-1 : Int) ∧ (-1 : Int) < 0; omega
  | succ n ih =>
    intro x
    have := ih x
    rw [whZ]
    unfold zu
    split <;> omega
/-- how a talk ends -/
def tkE (T : Nat) (V : VT) (f g : Int → Int) (a b c0 : Int) (n : Nat) : Prop :=
  (∀ i : Nat, i < n → V.1 (T + 23) i = wZ (tkR f g c0 i)) ∧ ((whZ f g c0 n (tkI f g c0 n) ≠ -1 ∧ V.1 T 45 = -1 ∧ V.1 T 46 = whZ f g c0 n (tkI f g c0 n) ∧ V.1 T 47 = n - whZ f g c0 n (tkI f g c0 n)) ∨ (whZ f g c0 n (tkI f g c0 n) = -1 ∧ tkR f g c0 n = -1 ∧ V.1 T 45 = n ∧ V.1 T 46 = -1 ∧ V.1 T 47 = -1 ∧ V.1 T 49 = (if n % 2 = 0 then a else b) ∧ V.1 T 48 = tkP f g c0 n))
theorem tkN_end {f g : Int → Int} {c0 : Int} {m : Nat} (h : ∀ i, i < m → ¬ tkD f g c0 i) (hd : tkD f g c0 m) (hm : m ≤ 432) : tkN f g c0 = m := tkF_eq 433 0 m (by omega) (by omega) (fun i _ hi => h i hi) hd
theorem eX10_findTalk {E : ET} {sh : SHT} {nn : Nat × Nat} {V : VT} {T : Nat} {ls : LV} {Q : AO → SHT → Nat × Nat → VT → Prop} (hT : MSh T sh) (h0 : ls[0]? = some (some (.ref T))) {p q : Int} (e45 : V.1 T 45 = p) (e47 : V.1 T 47 = q) (hr : (-1 ≤ p ∧ p ≤ 1000) ∧ -1 ≤ q ∧ q ≤ 1000) (h : p ≠ -1 ∨ q ≠ -1) (hQ : Q (.inl none) sh nn V) : TGo E mX10_findTalk 2 52 ls [] sh nn V Q := by
  refine TGo.al0 dX10_findTalk_52 h0 ?_
  refine TGo.getI (t := 18) 45 45 (hT 0 (by decide)) rfl fgX10_502_10 dX10_findTalk_53 rfl rfl rfl ?_
  refine TGo.toz _ e45 ?_
  refine TGo.icm1 dX10_findTalk_56 ?_
  refine TGo.icmp_ne 280 dX10_findTalk_57 (by decide) (by omega) (fun h57 => ?_) (fun h57 => ?_)
  · refine TGo.vret dX10_findTalk_280 rfl ?_
    exact hQ
  · refine TGo.al0 dX10_findTalk_60 h0 ?_
    refine TGo.getI (t := 18) 47 47 (hT 0 (by decide)) rfl fgX10_508_10 dX10_findTalk_61 rfl rfl rfl ?_
    refine TGo.toz _ e47 ?_
    refine TGo.icm1 dX10_findTalk_64 ?_
    refine TGo.icmp_ne 280 dX10_findTalk_65 (by decide) (by omega) (fun h65 => ?_) (fun h65 => ?_)
    · refine TGo.vret dX10_findTalk_280 rfl ?_
      exact hQ
    · omega
set_option maxHeartbeats 4000000 in
theorem lX10_findTalk {E : ET} {sh : SHT} {nn : Nat × Nat} {T : Nat} {z : ZT} {f g : Int → Int} {a b c0 : Int} {V0 : VT} (hT : MSh T sh) (ha : 0 ≤ a ∧ a < 12) (hb : 0 ≤ b ∧ b < 12) (hc0 : 0 ≤ c0 ∧ c0 < 6) (hf : ∀ r, z.2 3 (298 + 36 * a + r) = f r) (hg : ∀ r, z.2 3 (298 + 36 * b + r) = g r) (hcf : ∀ r, 0 ≤ r → r < 36 → cOK (f r)) (hcg : ∀ r, 0 ≤ r → r < 36 → cOK (g r)) : ∀ (n j : Nat) (V : VT) (y8 y9 y10 : Option Value), 432 - j < n → j ≤ 432 → PE T V z → (Fr [T, T + 22, T + 23] V0 V ∧ (∀ i, i < j → ¬ tkD f g c0 i) ∧ (∀ x, 0 ≤ x → x < 432 → V.1 (T + 22) x = whZ f g c0 j x) ∧ (∀ i : Nat, i < j → V.1 (T + 23) i = wZ (tkR f g c0 i)) ∧ V.1 T 45 = -1 ∧ V.1 T 46 = -1 ∧ V.1 T 47 = -1) → TGo E mX10_findTalk 2 52 [some (.ref T), some (.int (iI a)), some (.int (iI b)), some (.int (iI c0)), some (.int (iI (tkA f g c0 (j)).1)), some (.int (iI (tkA f g c0 (j)).2.1)), some (.int (iI (tkA f g c0 (j)).2.2)), some (.int (iI (((j) : Nat) : Int))), y8, y9, y10] [] sh nn V (fun o sh' nn' V' => o = .inl none ∧ sh' = sh ∧ nn' = nn ∧ (fun V' => PE T V' z ∧ Fr [T, T + 22, T + 23] V0 V' ∧ tkE T V' f g a b c0 (tkN f g c0)) V') := by
  intro n
  induction n with
  | zero => intro j V y8 y9 y10 h; omega
  | succ n ih =>
    intro j V y8 y9 y10 hn hj hz hx
    obtain ⟨hfr, hd, hw, hv, h45, h46, h47⟩ := hx
    have hA := tkA_r hcf hcg hc0 j hd
    have hI := tkI_r hA
    have hmk := whZ_mk hcf hcg hc0 j hd
    have hwr := whZ_r f g c0 j (tkI f g c0 j)
    have hp2 : j % 2 = 0 ∨ j % 2 = 1 := by omega
    refine TGo.al0 dX10_findTalk_52 rfl ?_
    refine TGo.getI (t := 18) 45 45 (hT 0 (by decide)) rfl fgX10_502_10 dX10_findTalk_53 rfl rfl rfl ?_
    refine TGo.toz _ h45 ?_
    refine TGo.icm1 dX10_findTalk_56 ?_
    refine TGo.icmp_ne 280 dX10_findTalk_57 (by decide) (by omega) (fun h57 => ?_) (fun h57 => ?_)
    · refine TGo.vret dX10_findTalk_280 rfl ?_
      exfalso; omega
    · refine TGo.al0 dX10_findTalk_60 rfl ?_
      refine TGo.getI (t := 18) 47 47 (hT 0 (by decide)) rfl fgX10_508_10 dX10_findTalk_61 rfl rfl rfl ?_
      refine TGo.toz _ h47 ?_
      refine TGo.icm1 dX10_findTalk_64 ?_
      refine TGo.icmp_ne 280 dX10_findTalk_65 (by decide) (by omega) (fun h65 => ?_) (fun h65 => ?_)
      · refine TGo.vret dX10_findTalk_280 rfl ?_
        exfalso; omega
      · refine TGo.il dX10_findTalk_68 rfl ?_
        refine TGo.ic2 dX10_findTalk_70 ?_
        refine TGo.irem dX10_findTalk_71 (by omega) ?_
        refine TGo.if_ne 79 dX10_findTalk_72 (by decide) (by omega) (fun h72 => ?_) (fun h72 => ?_)
        · refine TGo.ic0 dX10_findTalk_79 ?_
          refine TGo.is dX10_findTalk_80 rfl rfl ?_
          refine TGo.il dX10_findTalk_82 rfl ?_
          refine TGo.bip 6 dX10_findTalk_84 (by decide) ?_
          refine TGo.imul dX10_findTalk_86 ?_
          refine TGo.il dX10_findTalk_87 rfl ?_
          refine TGo.iadd dX10_findTalk_89 ?_
          refine TGo.ic2 dX10_findTalk_90 ?_
          refine TGo.imul dX10_findTalk_91 ?_
          refine TGo.il dX10_findTalk_92 rfl ?_
          refine TGo.ic2 dX10_findTalk_94 ?_
          refine TGo.irem dX10_findTalk_95 (by omega) ?_
          refine TGo.iadd dX10_findTalk_96 ?_
          refine TGo.bip 6 dX10_findTalk_97 (by decide) ?_
          refine TGo.imul dX10_findTalk_99 ?_
          refine TGo.il dX10_findTalk_100 rfl ?_
          refine TGo.iadd dX10_findTalk_102 ?_
          refine TGo.toz (tkI f g c0 j) rfl ?_
          refine TGo.is dX10_findTalk_103 rfl rfl ?_
          refine TGo.al0 dX10_findTalk_105 rfl ?_
          refine TGo.getS (t := 18) 43 43 (T + 22) (hT 0 (by decide)) rfl fgX10_103_10 dX10_findTalk_106 rfl rfl rfl ?_
          refine TGo.il dX10_findTalk_109 rfl ?_
          refine TGo.iald dX10_findTalk_111 (hT 22 (by decide)) (by omega) rfl ?_
          refine TGo.toz _ (hw _ hI.1 hI.2) ?_
          refine TGo.icm1 dX10_findTalk_112 ?_
          refine TGo.icmp_eq 144 dX10_findTalk_113 (by decide) (by omega) (fun h113 => ?_) (fun h113 => ?_)
          · have hlt := mkZ_in (v := (j : Int)) hI.1 (show whZ f g c0 j (tkI f g c0 j) = -1 by omega) (by omega) 432 (by omega)
            have hl2 := mkZ_le (zu (whZ f g c0 j) (tkI f g c0 j) (j : Int)) 432
            refine TGo.al0 dX10_findTalk_144 rfl ?_
            refine TGo.getS (t := 18) 43 43 (T + 22) (hT 0 (by decide)) rfl fgX10_103_10 dX10_findTalk_145 rfl rfl rfl ?_
            refine TGo.il dX10_findTalk_148 rfl ?_
            refine TGo.il dX10_findTalk_150 rfl ?_
            refine TGo.iast dX10_findTalk_152 (hT 22 (by decide)) (by omega) rfl ?_
            refine TGo.al0 dX10_findTalk_153 rfl ?_
            refine TGo.il dX10_findTalk_154 rfl ?_
            refine TGo.if_eq 163 dX10_findTalk_156 (by decide) (by decide) (fun _ => ?_) (fun h => absurd h (by decide))
            refine TGo.il2 dX10_findTalk_163 rfl ?_
            refine TGo.putI (t := 18) 49 49 (hT 0 (by decide)) rfl fpX10_511_10 dX10_findTalk_164 rfl rfl rfl ?_
            refine TGo.al0 dX10_findTalk_167 rfl ?_
            refine TGo.bip 6 dX10_findTalk_168 (by decide) ?_
            refine TGo.il dX10_findTalk_170 rfl ?_
            refine TGo.if_eq 180 dX10_findTalk_172 (by decide) (by decide) (fun _ => ?_) (fun h => absurd h (by decide))
            refine TGo.il dX10_findTalk_180 rfl ?_
            refine TGo.imul dX10_findTalk_182 ?_
            refine TGo.il dX10_findTalk_183 rfl ?_
            refine TGo.iadd dX10_findTalk_185 ?_
            have ep : tkP f g c0 j = 6 * (if j % 2 = 0 then (tkA f g c0 j).1 else (tkA f g c0 j).2.1) + (tkA f g c0 j).2.2 := by unfold tkP; split <;> rfl
            first | (refine TGo.toz (tkP f g c0 j) (by rw [ep, if_pos (by omega)]) ?_) | (refine TGo.toz (tkP f g c0 j) (by rw [ep, if_neg (by omega)]) ?_)
            refine TGo.putI (t := 18) 48 48 (hT 0 (by decide)) rfl fpX10_514_10 dX10_findTalk_186 rfl rfl rfl ?_
            refine TGo.al0 dX10_findTalk_189 rfl ?_
            refine TGo.al0 dX10_findTalk_190 rfl ?_
            refine TGo.getI (t := 18) 49 49 (hT 0 (by decide)) rfl fgX10_511_10 dX10_findTalk_191 rfl rfl rfl ?_
            refine TGo.toz _ ((u2_n (Or.inr (by decide))).trans (u2_s)) ?_
            refine TGo.al0 dX10_findTalk_194 rfl ?_
            refine TGo.getI (t := 18) 48 48 (hT 0 (by decide)) rfl fgX10_514_10 dX10_findTalk_195 rfl rfl rfl ?_
            refine TGo.toz _ (u2_s) ?_
            refine TGo.cF (csV2 (y2 := mX10_ruleOf) (t := 18) 1 rfl (hT 0 (by decide)) rfl rfl dX10_findTalk_198 q2372 q2374 qs85 okX10_ruleOf npX10_ruleOf rfl rfl) (kX10_ruleOf hT (((hz.t 22 rfl).s rfl).s rfl) (by omega) (by omega)) ?_
            first | (refine TGo.toz (tkR f g c0 j) (by unfold tkR; rw [if_pos (by omega)]; exact hf _) ?_) | (refine TGo.toz (tkR f g c0 j) (by unfold tkR; rw [if_neg (by omega)]; exact hg _) ?_)
            refine TGo.is dX10_findTalk_201 rfl rfl ?_
            have hR : cOK (tkR f g c0 j) := by
              unfold tkR tkP
              first | (rw [if_pos (by omega), if_pos (by omega)]; exact hcf _ (by omega) (by omega)) | (rw [if_neg (by omega), if_neg (by omega)]; exact hcg _ (by omega) (by omega))
            have hR1 := wZ_r hR
            have hR2 := nZ_r hR
            refine TGo.il dX10_findTalk_203 rfl ?_
            refine TGo.icm1 dX10_findTalk_205 ?_
            refine TGo.icmp_ne 218 dX10_findTalk_206 (by decide) (by omega) (fun h206 => ?_) (fun h206 => ?_)
            · refine TGo.al0 dX10_findTalk_218 rfl ?_
              refine TGo.getS (t := 18) 44 44 (T + 23) (hT 0 (by decide)) rfl fgX10_106_10 dX10_findTalk_219 rfl rfl rfl ?_
              refine TGo.il dX10_findTalk_222 rfl ?_
              refine TGo.il dX10_findTalk_224 rfl ?_
              refine TGo.cF (csS1 (y2 := mX10_wordOf) 1 rfl dX10_findTalk_226 q2069 q2070 okX10_wordOf npX10_wordOf rfl rfl) (kX10_wordOf (by omega)) ?_
              refine TGo.iast dX10_findTalk_229 (hT 23 (by decide)) (by omega) rfl ?_
              refine TGo.il dX10_findTalk_230 rfl ?_
              refine TGo.if_eq 243 dX10_findTalk_232 (by decide) (by decide) (fun _ => ?_) (fun h => absurd h (by decide))
              refine TGo.il dX10_findTalk_243 rfl ?_
              refine TGo.is dX10_findTalk_245 rfl rfl ?_
              refine TGo.il dX10_findTalk_247 rfl ?_
              refine TGo.if_eq 257 dX10_findTalk_249 (by decide) (by decide) (fun _ => ?_) (fun h => absurd h (by decide))
              refine TGo.il dX10_findTalk_257 rfl ?_
              refine TGo.cF (csS1 (y2 := mX10_nextOf) 1 rfl dX10_findTalk_259 q2087 q2088 okX10_nextOf npX10_nextOf rfl rfl) (kX10_nextOf (by omega)) ?_
              refine TGo.is dX10_findTalk_262 rfl rfl ?_
              refine TGo.il dX10_findTalk_264 rfl ?_
              refine TGo.cF (csS1 (y2 := mX10_wordOf) 1 rfl dX10_findTalk_266 q2069 q2070 okX10_wordOf npX10_wordOf rfl rfl) (kX10_wordOf (by omega)) ?_
              refine TGo.bip 6 dX10_findTalk_269 (by decide) ?_
              refine TGo.irem dX10_findTalk_271 (by omega) ?_
              refine TGo.is dX10_findTalk_272 rfl rfl ?_
              refine TGo.iinc dX10_findTalk_274 rfl rfl rfl ?_
              refine TGo.goto 52 dX10_findTalk_277 (by decide) ?_
              first | (exfalso; omega) | exact TGo.seq [some (.ref T), some (.int (iI a)), some (.int (iI b)), some (.int (iI c0)), some (.int (iI (tkA f g c0 ((j + 1))).1)), some (.int (iI (tkA f g c0 ((j + 1))).2.1)), some (.int (iI (tkA f g c0 ((j + 1))).2.2)), some (.int (iI ((((j + 1)) : Nat) : Int))), _, _, _] [] _ (by
                have eR : tkR f g c0 j = (if j % 2 = 0 then f (6 * (tkA f g c0 j).1 + (tkA f g c0 j).2.2) else g (6 * (tkA f g c0 j).2.1 + (tkA f g c0 j).2.2)) := by unfold tkR tkP; split <;> rfl
                rw [eR, tkA]; first | (rw [if_pos (by omega), if_pos (by omega)]; rfl) | (rw [if_neg (by omega), if_neg (by omega)]; rfl)) rfl rfl (ih (j + 1) _ _ _ _ (by omega) (by omega) ((((hz.t 22 rfl).s rfl).s rfl).t 23 rfl) (by
                have hwn : whZ f g c0 j (tkI f g c0 j) = -1 := by omega
                have hdn : ¬ tkD f g c0 j := fun q => by rcases q with q | q <;> omega
                have hd1 : ∀ i, i < j + 1 → ¬ tkD f g c0 i := fun i hi => by
                  rcases Nat.lt_or_ge i j with e | e
                  · exact hd i e
                  · obtain rfl : i = j := by omega
                    exact hdn
                refine ⟨?_, hd1, fun x h0 h1 => ?_, fun i hi => ?_, ?_, ?_, ?_⟩
                · exact (((hfr.i (by simp)).i (by simp)).i (by simp)).i (by simp)
                · rw [whZ]
                  refine (u2_n (Or.inl (by omega))).trans ((u2_n (Or.inl (by omega))).trans ((u2_n (Or.inl (by omega))).trans ?_))
                  by_cases e : x = tkI f g c0 j
                  · rw [e, zu_s]; exact u2_s
                  · rw [zu_n e]; exact (u2_n (Or.inr e)).trans (hw x h0 h1)
                · rcases Nat.lt_or_ge i j with e | e
                  · exact (u2_n (Or.inr (by omega))).trans ((u2_n (Or.inl (by omega))).trans ((u2_n (Or.inl (by omega))).trans ((u2_n (Or.inl (by omega))).trans (hv i e))))
                  · obtain rfl : i = j := by omega
                    exact u2_s
                · exact (u2_n (Or.inl (by omega))).trans ((u2_n (Or.inr (by omega))).trans ((u2_n (Or.inr (by omega))).trans ((u2_n (Or.inl (by omega))).trans h45)))
                · exact (u2_n (Or.inl (by omega))).trans ((u2_n (Or.inr (by omega))).trans ((u2_n (Or.inr (by omega))).trans ((u2_n (Or.inl (by omega))).trans h46)))
                · exact (u2_n (Or.inl (by omega))).trans ((u2_n (Or.inr (by omega))).trans ((u2_n (Or.inr (by omega))).trans ((u2_n (Or.inl (by omega))).trans h47)))))
            · refine TGo.al0 dX10_findTalk_209 rfl ?_
              refine TGo.il dX10_findTalk_210 rfl ?_
              refine TGo.putI (t := 18) 45 45 (hT 0 (by decide)) rfl fpX10_502_10 dX10_findTalk_212 rfl rfl rfl ?_
              refine TGo.goto 277 dX10_findTalk_215 (by decide) ?_
              refine TGo.goto 52 dX10_findTalk_277 (by decide) ?_
              have hN := tkN_end hd (Or.inr (by omega) : tkD f g c0 j) hj
              exact eX10_findTalk hT rfl (p := (j : Int)) (q := -1) u2_s ((u2_n (Or.inr (by omega))).trans ((u2_n (Or.inr (by omega))).trans ((u2_n (Or.inr (by omega))).trans ((u2_n (Or.inl (by omega))).trans (h47))))) (by omega) (by omega) ⟨rfl, rfl, rfl, ((((hz.t 22 rfl).s rfl).s rfl).s rfl), (((hfr.i (by simp)).i (by simp)).i (by simp)).i (by simp), by rw [hN]; exact ⟨fun i hi => (u2_n (Or.inl (by omega))).trans ((u2_n (Or.inl (by omega))).trans ((u2_n (Or.inl (by omega))).trans ((u2_n (Or.inl (by omega))).trans (hv i hi)))), Or.inr ⟨by omega, by omega, u2_s, (u2_n (Or.inr (by omega))).trans ((u2_n (Or.inr (by omega))).trans ((u2_n (Or.inr (by omega))).trans ((u2_n (Or.inl (by omega))).trans (h46)))), (u2_n (Or.inr (by omega))).trans ((u2_n (Or.inr (by omega))).trans ((u2_n (Or.inr (by omega))).trans ((u2_n (Or.inl (by omega))).trans (h47)))), by first | (rw [if_pos (by omega)]; exact (u2_n (Or.inr (by omega))).trans ((u2_n (Or.inr (by omega))).trans (u2_s))) | (rw [if_neg (by omega)]; exact (u2_n (Or.inr (by omega))).trans ((u2_n (Or.inr (by omega))).trans (u2_s))), (u2_n (Or.inr (by omega))).trans (u2_s)⟩⟩⟩
          · refine TGo.al0 dX10_findTalk_116 rfl ?_
            refine TGo.al0 dX10_findTalk_117 rfl ?_
            refine TGo.getS (t := 18) 43 43 (T + 22) (hT 0 (by decide)) rfl fgX10_103_10 dX10_findTalk_118 rfl rfl rfl ?_
            refine TGo.il dX10_findTalk_121 rfl ?_
            refine TGo.iald dX10_findTalk_123 (hT 22 (by decide)) (by omega) rfl ?_
            refine TGo.toz _ (hw _ hI.1 hI.2) ?_
            refine TGo.putI (t := 18) 46 46 (hT 0 (by decide)) rfl fpX10_505_10 dX10_findTalk_124 rfl rfl rfl ?_
            refine TGo.al0 dX10_findTalk_127 rfl ?_
            refine TGo.il dX10_findTalk_128 rfl ?_
            refine TGo.al0 dX10_findTalk_130 rfl ?_
            refine TGo.getS (t := 18) 43 43 (T + 22) (hT 0 (by decide)) rfl fgX10_103_10 dX10_findTalk_131 rfl rfl rfl ?_
            refine TGo.il dX10_findTalk_134 rfl ?_
            refine TGo.iald dX10_findTalk_136 (hT 22 (by decide)) (by omega) rfl ?_
            refine TGo.toz _ ((u2_n (Or.inl (by omega))).trans (hw _ hI.1 hI.2)) ?_
            refine TGo.isub dX10_findTalk_137 ?_
            refine TGo.putI (t := 18) 47 47 (hT 0 (by decide)) rfl fpX10_508_10 dX10_findTalk_138 rfl rfl rfl ?_
            refine TGo.goto 277 dX10_findTalk_141 (by decide) ?_
            refine TGo.goto 52 dX10_findTalk_277 (by decide) ?_
            have hN := tkN_end hd (Or.inl (by omega) : tkD f g c0 j) hj
            exact eX10_findTalk hT rfl (p := -1) (q := (j : Int) - whZ f g c0 j (tkI f g c0 j)) ((u2_n (Or.inr (by omega))).trans ((u2_n (Or.inr (by omega))).trans (h45))) u2_s (by omega) (by omega) ⟨rfl, rfl, rfl, ((hz.s rfl).s rfl), (hfr.i (by simp)).i (by simp), by rw [hN]; exact ⟨fun i hi => (u2_n (Or.inl (by omega))).trans ((u2_n (Or.inl (by omega))).trans (hv i hi)), Or.inl ⟨by omega, (u2_n (Or.inr (by omega))).trans ((u2_n (Or.inr (by omega))).trans (h45)), (u2_n (Or.inr (by omega))).trans (u2_s), u2_s⟩⟩⟩
        · refine TGo.ic1 dX10_findTalk_75 ?_
          refine TGo.goto 80 dX10_findTalk_76 (by decide) ?_
          refine TGo.is dX10_findTalk_80 rfl rfl ?_
          refine TGo.il dX10_findTalk_82 rfl ?_
          refine TGo.bip 6 dX10_findTalk_84 (by decide) ?_
          refine TGo.imul dX10_findTalk_86 ?_
          refine TGo.il dX10_findTalk_87 rfl ?_
          refine TGo.iadd dX10_findTalk_89 ?_
          refine TGo.ic2 dX10_findTalk_90 ?_
          refine TGo.imul dX10_findTalk_91 ?_
          refine TGo.il dX10_findTalk_92 rfl ?_
          refine TGo.ic2 dX10_findTalk_94 ?_
          refine TGo.irem dX10_findTalk_95 (by omega) ?_
          refine TGo.iadd dX10_findTalk_96 ?_
          refine TGo.bip 6 dX10_findTalk_97 (by decide) ?_
          refine TGo.imul dX10_findTalk_99 ?_
          refine TGo.il dX10_findTalk_100 rfl ?_
          refine TGo.iadd dX10_findTalk_102 ?_
          refine TGo.toz (tkI f g c0 j) rfl ?_
          refine TGo.is dX10_findTalk_103 rfl rfl ?_
          refine TGo.al0 dX10_findTalk_105 rfl ?_
          refine TGo.getS (t := 18) 43 43 (T + 22) (hT 0 (by decide)) rfl fgX10_103_10 dX10_findTalk_106 rfl rfl rfl ?_
          refine TGo.il dX10_findTalk_109 rfl ?_
          refine TGo.iald dX10_findTalk_111 (hT 22 (by decide)) (by omega) rfl ?_
          refine TGo.toz _ (hw _ hI.1 hI.2) ?_
          refine TGo.icm1 dX10_findTalk_112 ?_
          refine TGo.icmp_eq 144 dX10_findTalk_113 (by decide) (by omega) (fun h113 => ?_) (fun h113 => ?_)
          · have hlt := mkZ_in (v := (j : Int)) hI.1 (show whZ f g c0 j (tkI f g c0 j) = -1 by omega) (by omega) 432 (by omega)
            have hl2 := mkZ_le (zu (whZ f g c0 j) (tkI f g c0 j) (j : Int)) 432
            refine TGo.al0 dX10_findTalk_144 rfl ?_
            refine TGo.getS (t := 18) 43 43 (T + 22) (hT 0 (by decide)) rfl fgX10_103_10 dX10_findTalk_145 rfl rfl rfl ?_
            refine TGo.il dX10_findTalk_148 rfl ?_
            refine TGo.il dX10_findTalk_150 rfl ?_
            refine TGo.iast dX10_findTalk_152 (hT 22 (by decide)) (by omega) rfl ?_
            refine TGo.al0 dX10_findTalk_153 rfl ?_
            refine TGo.il dX10_findTalk_154 rfl ?_
            refine TGo.if_eq 163 dX10_findTalk_156 (by decide) (by decide) (fun h => absurd h (by decide)) (fun _ => ?_)
            refine TGo.il1 dX10_findTalk_159 rfl ?_
            refine TGo.goto 164 dX10_findTalk_160 (by decide) ?_
            refine TGo.putI (t := 18) 49 49 (hT 0 (by decide)) rfl fpX10_511_10 dX10_findTalk_164 rfl rfl rfl ?_
            refine TGo.al0 dX10_findTalk_167 rfl ?_
            refine TGo.bip 6 dX10_findTalk_168 (by decide) ?_
            refine TGo.il dX10_findTalk_170 rfl ?_
            refine TGo.if_eq 180 dX10_findTalk_172 (by decide) (by decide) (fun h => absurd h (by decide)) (fun _ => ?_)
            refine TGo.il dX10_findTalk_175 rfl ?_
            refine TGo.goto 182 dX10_findTalk_177 (by decide) ?_
            refine TGo.imul dX10_findTalk_182 ?_
            refine TGo.il dX10_findTalk_183 rfl ?_
            refine TGo.iadd dX10_findTalk_185 ?_
            have ep : tkP f g c0 j = 6 * (if j % 2 = 0 then (tkA f g c0 j).1 else (tkA f g c0 j).2.1) + (tkA f g c0 j).2.2 := by unfold tkP; split <;> rfl
            first | (refine TGo.toz (tkP f g c0 j) (by rw [ep, if_pos (by omega)]) ?_) | (refine TGo.toz (tkP f g c0 j) (by rw [ep, if_neg (by omega)]) ?_)
            refine TGo.putI (t := 18) 48 48 (hT 0 (by decide)) rfl fpX10_514_10 dX10_findTalk_186 rfl rfl rfl ?_
            refine TGo.al0 dX10_findTalk_189 rfl ?_
            refine TGo.al0 dX10_findTalk_190 rfl ?_
            refine TGo.getI (t := 18) 49 49 (hT 0 (by decide)) rfl fgX10_511_10 dX10_findTalk_191 rfl rfl rfl ?_
            refine TGo.toz _ ((u2_n (Or.inr (by decide))).trans (u2_s)) ?_
            refine TGo.al0 dX10_findTalk_194 rfl ?_
            refine TGo.getI (t := 18) 48 48 (hT 0 (by decide)) rfl fgX10_514_10 dX10_findTalk_195 rfl rfl rfl ?_
            refine TGo.toz _ (u2_s) ?_
            refine TGo.cF (csV2 (y2 := mX10_ruleOf) (t := 18) 1 rfl (hT 0 (by decide)) rfl rfl dX10_findTalk_198 q2372 q2374 qs85 okX10_ruleOf npX10_ruleOf rfl rfl) (kX10_ruleOf hT (((hz.t 22 rfl).s rfl).s rfl) (by omega) (by omega)) ?_
            first | (refine TGo.toz (tkR f g c0 j) (by unfold tkR; rw [if_pos (by omega)]; exact hf _) ?_) | (refine TGo.toz (tkR f g c0 j) (by unfold tkR; rw [if_neg (by omega)]; exact hg _) ?_)
            refine TGo.is dX10_findTalk_201 rfl rfl ?_
            have hR : cOK (tkR f g c0 j) := by
              unfold tkR tkP
              first | (rw [if_pos (by omega), if_pos (by omega)]; exact hcf _ (by omega) (by omega)) | (rw [if_neg (by omega), if_neg (by omega)]; exact hcg _ (by omega) (by omega))
            have hR1 := wZ_r hR
            have hR2 := nZ_r hR
            refine TGo.il dX10_findTalk_203 rfl ?_
            refine TGo.icm1 dX10_findTalk_205 ?_
            refine TGo.icmp_ne 218 dX10_findTalk_206 (by decide) (by omega) (fun h206 => ?_) (fun h206 => ?_)
            · refine TGo.al0 dX10_findTalk_218 rfl ?_
              refine TGo.getS (t := 18) 44 44 (T + 23) (hT 0 (by decide)) rfl fgX10_106_10 dX10_findTalk_219 rfl rfl rfl ?_
              refine TGo.il dX10_findTalk_222 rfl ?_
              refine TGo.il dX10_findTalk_224 rfl ?_
              refine TGo.cF (csS1 (y2 := mX10_wordOf) 1 rfl dX10_findTalk_226 q2069 q2070 okX10_wordOf npX10_wordOf rfl rfl) (kX10_wordOf (by omega)) ?_
              refine TGo.iast dX10_findTalk_229 (hT 23 (by decide)) (by omega) rfl ?_
              refine TGo.il dX10_findTalk_230 rfl ?_
              refine TGo.if_eq 243 dX10_findTalk_232 (by decide) (by decide) (fun h => absurd h (by decide)) (fun _ => ?_)
              refine TGo.il dX10_findTalk_235 rfl ?_
              refine TGo.cF (csS1 (y2 := mX10_nextOf) 1 rfl dX10_findTalk_237 q2087 q2088 okX10_nextOf npX10_nextOf rfl rfl) (kX10_nextOf (by omega)) ?_
              refine TGo.goto 245 dX10_findTalk_240 (by decide) ?_
              refine TGo.is dX10_findTalk_245 rfl rfl ?_
              refine TGo.il dX10_findTalk_247 rfl ?_
              refine TGo.if_eq 257 dX10_findTalk_249 (by decide) (by decide) (fun h => absurd h (by decide)) (fun _ => ?_)
              refine TGo.il dX10_findTalk_252 rfl ?_
              refine TGo.goto 262 dX10_findTalk_254 (by decide) ?_
              refine TGo.is dX10_findTalk_262 rfl rfl ?_
              refine TGo.il dX10_findTalk_264 rfl ?_
              refine TGo.cF (csS1 (y2 := mX10_wordOf) 1 rfl dX10_findTalk_266 q2069 q2070 okX10_wordOf npX10_wordOf rfl rfl) (kX10_wordOf (by omega)) ?_
              refine TGo.bip 6 dX10_findTalk_269 (by decide) ?_
              refine TGo.irem dX10_findTalk_271 (by omega) ?_
              refine TGo.is dX10_findTalk_272 rfl rfl ?_
              refine TGo.iinc dX10_findTalk_274 rfl rfl rfl ?_
              refine TGo.goto 52 dX10_findTalk_277 (by decide) ?_
              first | (exfalso; omega) | exact TGo.seq [some (.ref T), some (.int (iI a)), some (.int (iI b)), some (.int (iI c0)), some (.int (iI (tkA f g c0 ((j + 1))).1)), some (.int (iI (tkA f g c0 ((j + 1))).2.1)), some (.int (iI (tkA f g c0 ((j + 1))).2.2)), some (.int (iI ((((j + 1)) : Nat) : Int))), _, _, _] [] _ (by
                have eR : tkR f g c0 j = (if j % 2 = 0 then f (6 * (tkA f g c0 j).1 + (tkA f g c0 j).2.2) else g (6 * (tkA f g c0 j).2.1 + (tkA f g c0 j).2.2)) := by unfold tkR tkP; split <;> rfl
                rw [eR, tkA]; first | (rw [if_pos (by omega), if_pos (by omega)]; rfl) | (rw [if_neg (by omega), if_neg (by omega)]; rfl)) rfl rfl (ih (j + 1) _ _ _ _ (by omega) (by omega) ((((hz.t 22 rfl).s rfl).s rfl).t 23 rfl) (by
                have hwn : whZ f g c0 j (tkI f g c0 j) = -1 := by omega
                have hdn : ¬ tkD f g c0 j := fun q => by rcases q with q | q <;> omega
                have hd1 : ∀ i, i < j + 1 → ¬ tkD f g c0 i := fun i hi => by
                  rcases Nat.lt_or_ge i j with e | e
                  · exact hd i e
                  · obtain rfl : i = j := by omega
                    exact hdn
                refine ⟨?_, hd1, fun x h0 h1 => ?_, fun i hi => ?_, ?_, ?_, ?_⟩
                · exact (((hfr.i (by simp)).i (by simp)).i (by simp)).i (by simp)
                · rw [whZ]
                  refine (u2_n (Or.inl (by omega))).trans ((u2_n (Or.inl (by omega))).trans ((u2_n (Or.inl (by omega))).trans ?_))
                  by_cases e : x = tkI f g c0 j
                  · rw [e, zu_s]; exact u2_s
                  · rw [zu_n e]; exact (u2_n (Or.inr e)).trans (hw x h0 h1)
                · rcases Nat.lt_or_ge i j with e | e
                  · exact (u2_n (Or.inr (by omega))).trans ((u2_n (Or.inl (by omega))).trans ((u2_n (Or.inl (by omega))).trans ((u2_n (Or.inl (by omega))).trans (hv i e))))
                  · obtain rfl : i = j := by omega
                    exact u2_s
                · exact (u2_n (Or.inl (by omega))).trans ((u2_n (Or.inr (by omega))).trans ((u2_n (Or.inr (by omega))).trans ((u2_n (Or.inl (by omega))).trans h45)))
                · exact (u2_n (Or.inl (by omega))).trans ((u2_n (Or.inr (by omega))).trans ((u2_n (Or.inr (by omega))).trans ((u2_n (Or.inl (by omega))).trans h46)))
                · exact (u2_n (Or.inl (by omega))).trans ((u2_n (Or.inr (by omega))).trans ((u2_n (Or.inr (by omega))).trans ((u2_n (Or.inl (by omega))).trans h47)))))
            · refine TGo.al0 dX10_findTalk_209 rfl ?_
              refine TGo.il dX10_findTalk_210 rfl ?_
              refine TGo.putI (t := 18) 45 45 (hT 0 (by decide)) rfl fpX10_502_10 dX10_findTalk_212 rfl rfl rfl ?_
              refine TGo.goto 277 dX10_findTalk_215 (by decide) ?_
              refine TGo.goto 52 dX10_findTalk_277 (by decide) ?_
              have hN := tkN_end hd (Or.inr (by omega) : tkD f g c0 j) hj
              exact eX10_findTalk hT rfl (p := (j : Int)) (q := -1) u2_s ((u2_n (Or.inr (by omega))).trans ((u2_n (Or.inr (by omega))).trans ((u2_n (Or.inr (by omega))).trans ((u2_n (Or.inl (by omega))).trans (h47))))) (by omega) (by omega) ⟨rfl, rfl, rfl, ((((hz.t 22 rfl).s rfl).s rfl).s rfl), (((hfr.i (by simp)).i (by simp)).i (by simp)).i (by simp), by rw [hN]; exact ⟨fun i hi => (u2_n (Or.inl (by omega))).trans ((u2_n (Or.inl (by omega))).trans ((u2_n (Or.inl (by omega))).trans ((u2_n (Or.inl (by omega))).trans (hv i hi)))), Or.inr ⟨by omega, by omega, u2_s, (u2_n (Or.inr (by omega))).trans ((u2_n (Or.inr (by omega))).trans ((u2_n (Or.inr (by omega))).trans ((u2_n (Or.inl (by omega))).trans (h46)))), (u2_n (Or.inr (by omega))).trans ((u2_n (Or.inr (by omega))).trans ((u2_n (Or.inr (by omega))).trans ((u2_n (Or.inl (by omega))).trans (h47)))), by first | (rw [if_pos (by omega)]; exact (u2_n (Or.inr (by omega))).trans ((u2_n (Or.inr (by omega))).trans (u2_s))) | (rw [if_neg (by omega)]; exact (u2_n (Or.inr (by omega))).trans ((u2_n (Or.inr (by omega))).trans (u2_s))), (u2_n (Or.inr (by omega))).trans (u2_s)⟩⟩⟩
          · refine TGo.al0 dX10_findTalk_116 rfl ?_
            refine TGo.al0 dX10_findTalk_117 rfl ?_
            refine TGo.getS (t := 18) 43 43 (T + 22) (hT 0 (by decide)) rfl fgX10_103_10 dX10_findTalk_118 rfl rfl rfl ?_
            refine TGo.il dX10_findTalk_121 rfl ?_
            refine TGo.iald dX10_findTalk_123 (hT 22 (by decide)) (by omega) rfl ?_
            refine TGo.toz _ (hw _ hI.1 hI.2) ?_
            refine TGo.putI (t := 18) 46 46 (hT 0 (by decide)) rfl fpX10_505_10 dX10_findTalk_124 rfl rfl rfl ?_
            refine TGo.al0 dX10_findTalk_127 rfl ?_
            refine TGo.il dX10_findTalk_128 rfl ?_
            refine TGo.al0 dX10_findTalk_130 rfl ?_
            refine TGo.getS (t := 18) 43 43 (T + 22) (hT 0 (by decide)) rfl fgX10_103_10 dX10_findTalk_131 rfl rfl rfl ?_
            refine TGo.il dX10_findTalk_134 rfl ?_
            refine TGo.iald dX10_findTalk_136 (hT 22 (by decide)) (by omega) rfl ?_
            refine TGo.toz _ ((u2_n (Or.inl (by omega))).trans (hw _ hI.1 hI.2)) ?_
            refine TGo.isub dX10_findTalk_137 ?_
            refine TGo.putI (t := 18) 47 47 (hT 0 (by decide)) rfl fpX10_508_10 dX10_findTalk_138 rfl rfl rfl ?_
            refine TGo.goto 277 dX10_findTalk_141 (by decide) ?_
            refine TGo.goto 52 dX10_findTalk_277 (by decide) ?_
            have hN := tkN_end hd (Or.inl (by omega) : tkD f g c0 j) hj
            exact eX10_findTalk hT rfl (p := -1) (q := (j : Int) - whZ f g c0 j (tkI f g c0 j)) ((u2_n (Or.inr (by omega))).trans ((u2_n (Or.inr (by omega))).trans (h45))) u2_s (by omega) (by omega) ⟨rfl, rfl, rfl, ((hz.s rfl).s rfl), (hfr.i (by simp)).i (by simp), by rw [hN]; exact ⟨fun i hi => (u2_n (Or.inl (by omega))).trans ((u2_n (Or.inl (by omega))).trans (hv i hi)), Or.inl ⟨by omega, (u2_n (Or.inr (by omega))).trans ((u2_n (Or.inr (by omega))).trans (h45)), (u2_n (Or.inr (by omega))).trans (u2_s), u2_s⟩⟩⟩
set_option maxHeartbeats 4000000 in
theorem zX10_findTalk {E : ET} {sh : SHT} {nn : Nat × Nat} {T : Nat} {z : ZT} {f g : Int → Int} {a b c0 : Int} {V0 : VT} (hT : MSh T sh) (ha : 0 ≤ a ∧ a < 12) (hb : 0 ≤ b ∧ b < 12) (hc0 : 0 ≤ c0 ∧ c0 < 6) (hf : ∀ r, z.2 3 (298 + 36 * a + r) = f r) (hg : ∀ r, z.2 3 (298 + 36 * b + r) = g r) (hcf : ∀ r, 0 ≤ r → r < 36 → cOK (f r)) (hcg : ∀ r, 0 ≤ r → r < 36 → cOK (g r)) : ∀ (n j : Nat) (V : VT), 432 - j < n → j ≤ 432 → PE T V z → (Fr [T, T + 22, T + 23] V0 V ∧ ∀ x, 0 ≤ x → x < (j : Int) → V.1 (T + 22) x = -1) → TGo E mX10_findTalk 2 3 [some (.ref T), some (.int (iI a)), some (.int (iI b)), some (.int (iI c0)), some (.int (iI (((j) : Nat) : Int))), none, none, none, none, none, none] [] sh nn V (fun o sh' nn' V' => o = .inl none ∧ sh' = sh ∧ nn' = nn ∧ (fun V' => PE T V' z ∧ Fr [T, T + 22, T + 23] V0 V' ∧ tkE T V' f g a b c0 (tkN f g c0)) V') := by
  intro n
  induction n with
  | zero => intro j V h; omega
  | succ n ih =>
    intro j V hn hj hz hx
    refine TGo.il dX10_findTalk_3 rfl ?_
    refine TGo.sip 432 dX10_findTalk_5 (by decide) ?_
    refine TGo.icmp_ge 25 dX10_findTalk_8 (by decide) (by omega) (fun h8 => ?_) (fun h8 => ?_)
    · refine TGo.ic0 dX10_findTalk_25 ?_
      refine TGo.is dX10_findTalk_26 rfl rfl ?_
      refine TGo.ic0 dX10_findTalk_28 ?_
      refine TGo.is dX10_findTalk_29 rfl rfl ?_
      refine TGo.il3 dX10_findTalk_31 rfl ?_
      refine TGo.is dX10_findTalk_32 rfl rfl ?_
      refine TGo.ic0 dX10_findTalk_34 ?_
      refine TGo.is dX10_findTalk_35 rfl rfl ?_
      refine TGo.al0 dX10_findTalk_37 rfl ?_
      refine TGo.icm1 dX10_findTalk_38 ?_
      refine TGo.putI (t := 18) 45 45 (hT 0 (by decide)) rfl fpX10_502_10 dX10_findTalk_39 rfl rfl rfl ?_
      refine TGo.al0 dX10_findTalk_42 rfl ?_
      refine TGo.icm1 dX10_findTalk_43 ?_
      refine TGo.putI (t := 18) 46 46 (hT 0 (by decide)) rfl fpX10_505_10 dX10_findTalk_44 rfl rfl rfl ?_
      refine TGo.al0 dX10_findTalk_47 rfl ?_
      refine TGo.icm1 dX10_findTalk_48 ?_
      refine TGo.putI (t := 18) 47 47 (hT 0 (by decide)) rfl fpX10_508_10 dX10_findTalk_49 rfl rfl rfl ?_
      obtain rfl : j = 432 := by omega
      exact TGo.seq [some (.ref T), some (.int (iI a)), some (.int (iI b)), some (.int (iI c0)), some (.int (iI (tkA f g c0 (0)).1)), some (.int (iI (tkA f g c0 (0)).2.1)), some (.int (iI (tkA f g c0 (0)).2.2)), some (.int (iI (((0) : Nat) : Int))), none, none, none] [] _ rfl rfl rfl (lX10_findTalk hT ha hb hc0 hf hg hcf hcg 433 0 _ _ _ _ (by omega) (by omega) (((hz.s rfl).s rfl).s rfl) ⟨((hx.1.i (by simp)).i (by simp)).i (by simp), fun i hi => by omega, fun x h0 h1 => (u2_n (Or.inl (by omega))).trans ((u2_n (Or.inl (by omega))).trans ((u2_n (Or.inl (by omega))).trans (hx.2 x h0 (by omega)))), fun i hi => by omega, (u2_n (Or.inr (by omega))).trans ((u2_n (Or.inr (by omega))).trans u2_s), (u2_n (Or.inr (by omega))).trans u2_s, u2_s⟩)
    · refine TGo.al0 dX10_findTalk_11 rfl ?_
      refine TGo.getS (t := 18) 43 43 (T + 22) (hT 0 (by decide)) rfl fgX10_103_10 dX10_findTalk_12 rfl rfl rfl ?_
      refine TGo.il dX10_findTalk_15 rfl ?_
      refine TGo.icm1 dX10_findTalk_17 ?_
      refine TGo.iast dX10_findTalk_18 (hT 22 (by decide)) (by omega) rfl ?_
      refine TGo.iinc dX10_findTalk_19 rfl rfl rfl ?_
      refine TGo.goto 3 dX10_findTalk_22 (by decide) ?_
      exact TGo.seq [some (.ref T), some (.int (iI a)), some (.int (iI b)), some (.int (iI c0)), some (.int (iI ((((j + 1)) : Nat) : Int))), none, none, none, none, none, none] [] _ (rfl) rfl rfl (ih (j + 1) _ (by omega) (by omega) (hz.t 22 rfl) ⟨hx.1.i (by simp), fun r h0 h1 => by
        by_cases e : r = (j : Int)
        · rw [e]; exact u2_s
        · exact (u2_n (Or.inr e)).trans (hx.2 r h0 (by omega))⟩)
set_option maxHeartbeats 4000000 in
theorem kX10_findTalk {E : ET} {sh : SHT} {nn : Nat × Nat} {V : VT} {T : Nat} {z : ZT} {f g : Int → Int} {a b c0 : Int} (hT : MSh T sh) (hz : PE T V z) (ha : 0 ≤ a ∧ a < 12) (hb : 0 ≤ b ∧ b < 12) (hc0 : 0 ≤ c0 ∧ c0 < 6) (hf : ∀ r, z.2 3 (298 + 36 * a + r) = f r) (hg : ∀ r, z.2 3 (298 + 36 * b + r) = g r) (hcf : ∀ r, 0 ≤ r → r < 36 → cOK (f r)) (hcg : ∀ r, 0 ≤ r → r < 36 → cOK (g r)) : TN E mX10_findTalk 2 [.ref T, .int (iI a), .int (iI b), .int (iI c0)] sh nn V (fun V' => PE T V' z ∧ Fr [T, T + 22, T + 23] V V' ∧ tkE T V' f g a b c0 (tkN f g c0)) := by
  refine TC.intro [some (.ref T), some (.int (iI a)), some (.int (iI b)), some (.int (iI c0)), none, none, none, none, none, none, none] rfl ?_
  refine TGo.ic0 dX10_findTalk_0 ?_
  refine TGo.is dX10_findTalk_1 rfl rfl ?_
  exact zX10_findTalk hT ha hb hc0 hf hg hcf hcg 433 0 _ (by omega) (by omega) hz ⟨Fr.rf, fun x h0 h1 => by omega⟩
set_option maxHeartbeats 4000000 in
theorem kX10_isTalk {E : ET} {sh : SHT} {nn : Nat × Nat} {V : VT} {T : Nat} {z : ZT} {a b c : Int} (hT : MSh T sh) (hz : PE T V z) (w2 : 0 ≤ z.2 3 2 ∧ z.2 3 2 ≤ 12) (ra : R32 a) (rb : R32 b) (rc : R32 c) : TF E mX10_isTalk 3 [.ref T, .int (iI a), .int (iI b), .int (iI c)] sh nn V (.int (iI (bZ ((0 ≤ a ∧ a < z.2 3 2) ∧ (0 ≤ b ∧ b < z.2 3 2) ∧ 0 ≤ c ∧ c ≤ 5)))) := by
  refine TC.intro [some (.ref T), some (.int (iI a)), some (.int (iI b)), some (.int (iI c))] rfl ?_
  refine TGo.al0 dX10_isTalk_0 rfl ?_
  refine TGo.il1 dX10_isTalk_1 rfl ?_
  refine TGo.cF (csV1 (y2 := mX10_isVersion) (t := 18) 2 rfl (hT 0 (by decide)) rfl rfl dX10_isTalk_2 q2364 q2366 qs83 okX10_isVersion npX10_isVersion rfl rfl) (kX10_isVersion hT hz w2 (by omega)) ?_
  refine TGo.ifb_eq 32 dX10_isTalk_5 (by decide) (fun h5 => ?_) (fun h5 => ?_)
  · refine TGo.ic0 dX10_isTalk_32 ?_
    refine TGo.zret dX10_isTalk_33 rfl (by first | exact Or.inl rfl | exact Or.inr rfl | exact bZ_or _ | assumption) ?_
    refine leafF ?_
    first | rfl | omega | exact (bZ_t (by omega)).symm | exact (bZ_f (by omega)).symm | exact bZ_iff (by omega)
  · refine TGo.al0 dX10_isTalk_8 rfl ?_
    refine TGo.il2 dX10_isTalk_9 rfl ?_
    refine TGo.cF (csV1 (y2 := mX10_isVersion) (t := 18) 2 rfl (hT 0 (by decide)) rfl rfl dX10_isTalk_10 q2364 q2366 qs83 okX10_isVersion npX10_isVersion rfl rfl) (kX10_isVersion hT hz w2 (by omega)) ?_
    refine TGo.ifb_eq 32 dX10_isTalk_13 (by decide) (fun h13 => ?_) (fun h13 => ?_)
    · refine TGo.ic0 dX10_isTalk_32 ?_
      refine TGo.zret dX10_isTalk_33 rfl (by first | exact Or.inl rfl | exact Or.inr rfl | exact bZ_or _ | assumption) ?_
      refine leafF ?_
      first | rfl | omega | exact (bZ_t (by omega)).symm | exact (bZ_f (by omega)).symm | exact bZ_iff (by omega)
    · refine TGo.il3 dX10_isTalk_16 rfl ?_
      refine TGo.i2l dX10_isTalk_17 (by omega) ?_
      refine TGo.lc0 dX10_isTalk_18 ?_
      refine TGo.ldc2 5 dX10_isTalk_19 q2056 (by decide) ?_
      refine TGo.cF (csS3 (y2 := mX10_in) 1 rfl dX10_isTalk_22 q2032 q2033 okX10_in npX10_in rfl rfl) (kX10_in (by omega) (by omega) (by omega)) ?_
      refine TGo.ifb_eq 32 dX10_isTalk_25 (by decide) (fun h25 => ?_) (fun h25 => ?_)
      · refine TGo.ic0 dX10_isTalk_32 ?_
        refine TGo.zret dX10_isTalk_33 rfl (by first | exact Or.inl rfl | exact Or.inr rfl | exact bZ_or _ | assumption) ?_
        refine leafF ?_
        first | rfl | omega | exact (bZ_t (by omega)).symm | exact (bZ_f (by omega)).symm | exact bZ_iff (by omega)
      · refine TGo.ic1 dX10_isTalk_28 ?_
        refine TGo.goto 33 dX10_isTalk_29 (by decide) ?_
        refine TGo.zret dX10_isTalk_33 rfl (by first | exact Or.inl rfl | exact Or.inr rfl | exact bZ_or _ | assumption) ?_
        refine leafF ?_
        first | rfl | omega | exact (bZ_t (by omega)).symm | exact (bZ_f (by omega)).symm | exact bZ_iff (by omega)
theorem tkN_ok {f g : Int → Int} {c0 : Int} (hf : ∀ r, 0 ≤ r → r < 36 → cOK (f r)) (hg : ∀ r, 0 ≤ r → r < 36 → cOK (g r)) (hc : 0 ≤ c0 ∧ c0 < 6) : (∀ i, i < tkN f g c0 → ¬ tkD f g c0 i) ∧ tkD f g c0 (tkN f g c0) ∧ tkN f g c0 ≤ 432 := by
  have key : ∀ k n : Nat, n + k = 433 → (∀ i, i < n → ¬ tkD f g c0 i) → ∃ m, n ≤ m ∧ m ≤ 432 ∧ (∀ i, i < m → ¬ tkD f g c0 i) ∧ tkD f g c0 m := by
    intro k
    induction k with
    | zero =>
      intro n hn h
      obtain rfl : n = 433 := by omega
      have h1 := whZ_mk hf hg hc 433 h
      have h2 := mkZ_le (whZ f g c0 433) 432
      omega
    | succ k ih =>
      intro n hn h
      by_cases e : tkD f g c0 n
      · exact ⟨n, Nat.le_refl _, by omega, h, e⟩
      · obtain ⟨m, q1, q2, q3, q4⟩ := ih (n + 1) (by omega) (fun i hi => by
          rcases Nat.lt_or_ge i n with e2 | e2
          · exact h i e2
          · obtain rfl : i = n := by omega
            exact e)
        exact ⟨m, by omega, q2, q3, q4⟩
  obtain ⟨m, q1, q2, q3, q4⟩ := key 433 0 rfl (fun i hi => by omega)
  have e := tkN_end q3 q4 q2
  rw [e]
  exact ⟨q3, q4, q2⟩
theorem tkR_ok {f g : Int → Int} {c0 : Int} (hf : ∀ r, 0 ≤ r → r < 36 → cOK (f r)) (hg : ∀ r, 0 ≤ r → r < 36 → cOK (g r)) (hc : 0 ≤ c0 ∧ c0 < 6) {n : Nat} (h : n ≤ tkN f g c0) : cOK (tkR f g c0 n) := by
  have h1 := tkA_r hf hg hc n (fun i hi => (tkN_ok hf hg hc).1 i (by omega))
  unfold tkR tkP
  split
  · exact hf _ (by omega) (by omega)
  · exact hg _ (by omega) (by omega)
/-- where a talk's round begins (-1: it stops) -/
noncomputable def tkW (f g : Int → Int) (c0 : Int) : Int := whZ f g c0 (tkN f g c0) (tkI f g c0 (tkN f g c0))
noncomputable def talkZ (f g : Int → Int) (c0 w : Int) : Int :=
  if w = 0 then (if tkW f g c0 = -1 then (tkN f g c0 : Int) else -1) else if w = 1 then tkW f g c0 else if w = 2 then (if tkW f g c0 = -1 then -1 else tkN f g c0 - tkW f g c0)
  else if tkW f g c0 = -1 then (if w - 10 < tkN f g c0 then wZ (tkR f g c0 (w - 10).toNat) else -1)
  else wZ (tkR f g c0 (if w - 10 < tkW f g c0 then w - 10 else tkW f g c0 + (w - 10 - tkW f g c0) % (tkN f g c0 - tkW f g c0)).toNat)
noncomputable def zp_talk (z : ZT) (a b c w : Int) : Int × ZT := if ¬ (((0 ≤ a ∧ a < z.2 3 2) ∧ (0 ≤ b ∧ b < z.2 3 2) ∧ 0 ≤ c ∧ c ≤ 5) ∧ ((0 ≤ w ∧ w ≤ 2) ∨ (10 ≤ w ∧ w ≤ 99))) then (-1, z) else (talkZ (fun r => z.2 3 (298 + 36 * a + r)) (fun r => z.2 3 (298 + 36 * b + r)) c w, z)
theorem talkZ_eq {T : Nat} {V : VT} {f g : Int → Int} {a b c0 : Int} (hE : tkE T V f g a b c0 (tkN f g c0)) (hn : tkN f g c0 ≤ 432) : ((-1 ≤ V.1 T 45 ∧ V.1 T 45 ≤ 432) ∧ (-1 ≤ V.1 T 46 ∧ V.1 T 46 ≤ 432) ∧ (-1 ≤ V.1 T 47 ∧ V.1 T 47 ≤ 432) ∧ (V.1 T 45 = -1 → 0 ≤ V.1 T 46 ∧ 1 ≤ V.1 T 47 ∧ V.1 T 46 + V.1 T 47 ≤ 432)) ∧ ∀ w, 0 ≤ w → (w ≤ 2 ∨ 10 ≤ w) →
  talkZ f g c0 w = (if w = 0 then V.1 T 45 else if w = 1 then V.1 T 46 else if w = 2 then V.1 T 47 else if V.1 T 45 ≠ -1 then (if w - 10 < V.1 T 45 then V.1 (T + 23) (w - 10) else -1) else V.1 (T + 23) (if w - 10 < V.1 T 46 then w - 10 else V.1 T 46 + (w - 10 - V.1 T 46) % V.1 T 47)) := by
  obtain ⟨hv, hE⟩ := hE
  have hwr := whZ_r f g c0 (tkN f g c0) (tkI f g c0 (tkN f g c0))
  have hW : whZ f g c0 (tkN f g c0) (tkI f g c0 (tkN f g c0)) = tkW f g c0 := rfl
  rw [hW] at hE hwr
  unfold talkZ
  generalize tkW f g c0 = W at *
  generalize tkN f g c0 = N at *
  rcases hE with ⟨q1, q2, q3, q4⟩ | ⟨q1, q2, q3, q4, q5, -⟩
  · refine ⟨by omega, fun w h0 h1 => ?_⟩
    rw [q2, q3, q4]
    by_cases e0 : w = 0
    · rw [if_pos e0, if_pos e0, if_neg q1]
    · rw [if_neg e0, if_neg e0]
      by_cases e1 : w = 1
      · rw [if_pos e1, if_pos e1]
      · rw [if_neg e1, if_neg e1]
        by_cases e2 : w = 2
        · rw [if_pos e2, if_pos e2, if_neg q1]
        · rw [if_neg e2, if_neg e2, if_neg q1, if_neg (show ¬ ((-1 : Int) ≠ -1) from fun q => q rfl)]
          by_cases e3 : w - 10 < W
          · rw [if_pos e3, ← hv _ (by omega), show (((w - 10).toNat : Nat) : Int) = w - 10 by omega]
          · rw [if_neg e3]
            have hm1 := Int.emod_nonneg (w - 10 - W) (show (N : Int) - W ≠ 0 by omega)
            have hm2 := Int.emod_lt_of_pos (w - 10 - W) (show 0 < (N : Int) - W by omega)
            generalize (w - 10 - W) % ((N : Int) - W) = M at *
            rw [← hv _ (by omega), show (((W + M).toNat : Nat) : Int) = W + M by omega]
  · refine ⟨by omega, fun w h0 h1 => ?_⟩
    rw [q3, q4, q5]
    by_cases e0 : w = 0
    · rw [if_pos e0, if_pos e0, if_pos q1]
    · rw [if_neg e0, if_neg e0]
      by_cases e1 : w = 1
      · rw [if_pos e1, if_pos e1, q1]
      · rw [if_neg e1, if_neg e1]
        by_cases e2 : w = 2
        · rw [if_pos e2, if_pos e2, if_pos q1]
        · rw [if_neg e2, if_neg e2, if_pos q1, if_pos (show ((N : Int) ≠ -1) by omega)]
          by_cases e3 : w - 10 < N
          · rw [if_pos e3, if_pos e3, ← hv _ (by omega), show (((w - 10).toNat : Nat) : Int) = w - 10 by omega]
          · rw [if_neg e3, if_neg e3]
set_option maxHeartbeats 4000000 in
theorem kX10_talk {E : ET} {sh : SHT} {nn : Nat × Nat} {V : VT} {T : Nat} {z : ZT} {a b c w : Int} (hT : MSh T sh) (hz : PE T V z) (W : RWZ (z.2 3)) (ra : R32 a) (rb : R32 b) (rc : R32 c) (rw : R32 w) : TC E mX10_talk 4 [.ref T, .int (iI a), .int (iI b), .int (iI c), .int (iI w)] sh nn V (ZP T sh nn (zp_talk z a b c w)) := by
  have w2 := W.1.2.2.1
  refine TC.intro [some (.ref T), some (.int (iI a)), some (.int (iI b)), some (.int (iI c)), some (.int (iI w)), none] rfl ?_
  refine TGo.al0 dX10_talk_0 rfl ?_
  refine TGo.ic0 dX10_talk_1 ?_
  refine TGo.putI (t := 18) 0 0 (hT 0 (by decide)) rfl fpX10_163_10 dX10_talk_2 rfl rfl rfl ?_
  refine TGo.al0 dX10_talk_5 rfl ?_
  refine TGo.il1 dX10_talk_6 rfl ?_
  refine TGo.il2 dX10_talk_7 rfl ?_
  refine TGo.il3 dX10_talk_8 rfl ?_
  refine TGo.cF (csV3 (y2 := mX10_isTalk) (t := 18) 3 rfl (hT 0 (by decide)) rfl rfl dX10_talk_9 q2425 q2427 qs90 okX10_isTalk npX10_isTalk rfl rfl) (kX10_isTalk hT (hz.s rfl) w2 (by omega) (by omega) (by omega)) ?_
  refine TGo.ifb_eq 43 dX10_talk_12 (by decide) (fun h12 => ?_) (fun h12 => ?_)
  · refine TGo.icm1 dX10_talk_43 ?_
    refine TGo.iret dX10_talk_44 rfl ?_
    first
    | (exfalso; omega)
    | (refine leafZ (hz.s rfl) ?_
       unfold zp_talk
       (repeat (first | rw [if_pos (by first | rfl | assumption | omega)] | rw [if_neg (by first | decide | assumption | omega)]))
       (try first | rfl | rw [bZ_t (by first | assumption | omega)] | rw [bZ_f (by first | assumption | omega)]))
  · refine TGo.il dX10_talk_15 rfl ?_
    refine TGo.i2l dX10_talk_17 (by omega) ?_
    refine TGo.lc0 dX10_talk_18 ?_
    refine TGo.ldc2 2 dX10_talk_19 q2284 (by decide) ?_
    refine TGo.cF (csS3 (y2 := mX10_in) 1 rfl dX10_talk_22 q2032 q2033 okX10_in npX10_in rfl rfl) (kX10_in (by omega) (by omega) (by omega)) ?_
    refine TGo.ifb_ne 45 dX10_talk_25 (by decide) (fun h25 => ?_) (fun h25 => ?_)
    · refine TGo.al0 dX10_talk_45 rfl ?_
      have hcf : ∀ r, 0 ≤ r → r < 36 → cOK ((fun r => z.2 3 (298 + 36 * a + r)) r) := fun r h0 h1 => W.2.2.2.2.2.1 a r (by omega) (by omega) h0 h1
      have hcg : ∀ r, 0 ≤ r → r < 36 → cOK ((fun r => z.2 3 (298 + 36 * b + r)) r) := fun r h0 h1 => W.2.2.2.2.2.1 b r (by omega) (by omega) h0 h1
      refine TGo.il1 dX10_talk_46 rfl ?_
      refine TGo.il2 dX10_talk_47 rfl ?_
      refine TGo.il3 dX10_talk_48 rfl ?_
      refine TGo.cN (csV3 (y2 := mX10_findTalk) (t := 18) 2 rfl (hT 0 (by decide)) rfl rfl dX10_talk_49 q2430 q2432 qs91 okX10_findTalk npX10_findTalk rfl rfl) (kX10_findTalk (f := fun r => z.2 3 (298 + 36 * a + r)) (g := fun r => z.2 3 (298 + 36 * b + r)) hT (hz.s rfl) (by omega) (by omega) (by omega) (fun _ => rfl) (fun _ => rfl) hcf hcg) (fun V49 h49 => ?_)
      obtain ⟨hz49, hf49, ht49⟩ := h49
      obtain ⟨-, -, hn3⟩ := tkN_ok hcf hcg (show 0 ≤ c ∧ c < 6 by omega)
      obtain ⟨hr, hE⟩ := talkZ_eq ht49 hn3
      have hE := hE w (by omega) (by omega)
      clear ht49 hn3
      refine TGo.il dX10_talk_52 rfl ?_
      refine TGo.ic3 dX10_talk_54 ?_
      refine TGo.icmp_ge 88 dX10_talk_55 (by decide) (by omega) (fun h55 => ?_) (fun h55 => ?_)
      · refine TGo.il dX10_talk_88 rfl ?_
        refine TGo.bip 10 dX10_talk_90 (by decide) ?_
        refine TGo.isub dX10_talk_92 ?_
        refine TGo.is dX10_talk_93 rfl rfl ?_
        refine TGo.al0 dX10_talk_95 rfl ?_
        refine TGo.getI (t := 18) 45 45 (hT 0 (by decide)) rfl fgX10_502_10 dX10_talk_96 rfl rfl rfl ?_
        refine TGo.icm1 dX10_talk_99 ?_
        refine TGo.icmp_eq 124 dX10_talk_100 (by decide) (by omega) (fun h100 => ?_) (fun h100 => ?_)
        · refine TGo.al0 dX10_talk_124 rfl ?_
          refine TGo.getS (t := 18) 44 44 (T + 23) (hT 0 (by decide)) rfl fgX10_106_10 dX10_talk_125 rfl rfl rfl ?_
          refine TGo.il dX10_talk_128 rfl ?_
          refine TGo.al0 dX10_talk_130 rfl ?_
          refine TGo.getI (t := 18) 46 46 (hT 0 (by decide)) rfl fgX10_505_10 dX10_talk_131 rfl rfl rfl ?_
          refine TGo.icmp_ge 142 dX10_talk_134 (by decide) (by omega) (fun h134 => ?_) (fun h134 => ?_)
          · refine TGo.al0 dX10_talk_142 rfl ?_
            refine TGo.getI (t := 18) 46 46 (hT 0 (by decide)) rfl fgX10_505_10 dX10_talk_143 rfl rfl rfl ?_
            refine TGo.il dX10_talk_146 rfl ?_
            refine TGo.al0 dX10_talk_148 rfl ?_
            refine TGo.getI (t := 18) 46 46 (hT 0 (by decide)) rfl fgX10_505_10 dX10_talk_149 rfl rfl rfl ?_
            refine TGo.isub dX10_talk_152 ?_
            refine TGo.al0 dX10_talk_153 rfl ?_
            refine TGo.getI (t := 18) 47 47 (hT 0 (by decide)) rfl fgX10_508_10 dX10_talk_154 rfl rfl rfl ?_
            have hm1 := Int.emod_nonneg (w - 10 - V49.1 T 46) (show V49.1 T 47 ≠ 0 by omega)
            have hm2 := Int.emod_lt_of_pos (w - 10 - V49.1 T 46) (show 0 < V49.1 T 47 by omega)
            refine TGo.irem dX10_talk_157 (by omega) ?_
            refine TGo.iadd dX10_talk_158 ?_
            refine TGo.iald dX10_talk_159 (hT 23 (by decide)) (by omega) rfl ?_
            refine TGo.iret dX10_talk_160 rfl ?_
            first
            | (exfalso; omega)
            | (refine leafZ hz49 ?_
               unfold zp_talk
               rw [if_neg (by omega), hE]
               first
               | (rw [if_pos (show w = 0 by omega)])
               | (rw [if_neg (show ¬ w = 0 by omega), if_pos (show w = 1 by omega)])
               | (rw [if_neg (show ¬ w = 0 by omega), if_neg (show ¬ w = 1 by omega), if_pos (show w = 2 by omega)])
               | (rw [if_neg (show ¬ w = 0 by omega), if_neg (show ¬ w = 1 by omega), if_neg (show ¬ w = 2 by omega), if_pos (show V49.1 T 45 ≠ -1 by assumption)]
                  first
                  | (rw [if_pos (show w - 10 < V49.1 T 45 by omega)])
                  | (rw [if_neg (show ¬ w - 10 < V49.1 T 45 by omega)]))
               | (rw [if_neg (show ¬ w = 0 by omega), if_neg (show ¬ w = 1 by omega), if_neg (show ¬ w = 2 by omega), if_neg (show ¬ V49.1 T 45 ≠ -1 by omega)]
                  first
                  | (rw [if_pos (show w - 10 < V49.1 T 46 by omega)])
                  | (rw [if_neg (show ¬ w - 10 < V49.1 T 46 by omega)])))
          · refine TGo.il dX10_talk_137 rfl ?_
            refine TGo.goto 159 dX10_talk_139 (by decide) ?_
            refine TGo.iald dX10_talk_159 (hT 23 (by decide)) (by omega) rfl ?_
            refine TGo.iret dX10_talk_160 rfl ?_
            first
            | (exfalso; omega)
            | (refine leafZ hz49 ?_
               unfold zp_talk
               rw [if_neg (by omega), hE]
               first
               | (rw [if_pos (show w = 0 by omega)])
               | (rw [if_neg (show ¬ w = 0 by omega), if_pos (show w = 1 by omega)])
               | (rw [if_neg (show ¬ w = 0 by omega), if_neg (show ¬ w = 1 by omega), if_pos (show w = 2 by omega)])
               | (rw [if_neg (show ¬ w = 0 by omega), if_neg (show ¬ w = 1 by omega), if_neg (show ¬ w = 2 by omega), if_pos (show V49.1 T 45 ≠ -1 by assumption)]
                  first
                  | (rw [if_pos (show w - 10 < V49.1 T 45 by omega)])
                  | (rw [if_neg (show ¬ w - 10 < V49.1 T 45 by omega)]))
               | (rw [if_neg (show ¬ w = 0 by omega), if_neg (show ¬ w = 1 by omega), if_neg (show ¬ w = 2 by omega), if_neg (show ¬ V49.1 T 45 ≠ -1 by omega)]
                  first
                  | (rw [if_pos (show w - 10 < V49.1 T 46 by omega)])
                  | (rw [if_neg (show ¬ w - 10 < V49.1 T 46 by omega)])))
        · refine TGo.il dX10_talk_103 rfl ?_
          refine TGo.al0 dX10_talk_105 rfl ?_
          refine TGo.getI (t := 18) 45 45 (hT 0 (by decide)) rfl fgX10_502_10 dX10_talk_106 rfl rfl rfl ?_
          refine TGo.icmp_ge 122 dX10_talk_109 (by decide) (by omega) (fun h109 => ?_) (fun h109 => ?_)
          · refine TGo.icm1 dX10_talk_122 ?_
            refine TGo.iret dX10_talk_123 rfl ?_
            first
            | (exfalso; omega)
            | (refine leafZ hz49 ?_
               unfold zp_talk
               rw [if_neg (by omega), hE]
               first
               | (rw [if_pos (show w = 0 by omega)])
               | (rw [if_neg (show ¬ w = 0 by omega), if_pos (show w = 1 by omega)])
               | (rw [if_neg (show ¬ w = 0 by omega), if_neg (show ¬ w = 1 by omega), if_pos (show w = 2 by omega)])
               | (rw [if_neg (show ¬ w = 0 by omega), if_neg (show ¬ w = 1 by omega), if_neg (show ¬ w = 2 by omega), if_pos (show V49.1 T 45 ≠ -1 by assumption)]
                  first
                  | (rw [if_pos (show w - 10 < V49.1 T 45 by omega)])
                  | (rw [if_neg (show ¬ w - 10 < V49.1 T 45 by omega)]))
               | (rw [if_neg (show ¬ w = 0 by omega), if_neg (show ¬ w = 1 by omega), if_neg (show ¬ w = 2 by omega), if_neg (show ¬ V49.1 T 45 ≠ -1 by omega)]
                  first
                  | (rw [if_pos (show w - 10 < V49.1 T 46 by omega)])
                  | (rw [if_neg (show ¬ w - 10 < V49.1 T 46 by omega)])))
          · refine TGo.al0 dX10_talk_112 rfl ?_
            refine TGo.getS (t := 18) 44 44 (T + 23) (hT 0 (by decide)) rfl fgX10_106_10 dX10_talk_113 rfl rfl rfl ?_
            refine TGo.il dX10_talk_116 rfl ?_
            refine TGo.iald dX10_talk_118 (hT 23 (by decide)) (by omega) rfl ?_
            refine TGo.goto 123 dX10_talk_119 (by decide) ?_
            refine TGo.iret dX10_talk_123 rfl ?_
            first
            | (exfalso; omega)
            | (refine leafZ hz49 ?_
               unfold zp_talk
               rw [if_neg (by omega), hE]
               first
               | (rw [if_pos (show w = 0 by omega)])
               | (rw [if_neg (show ¬ w = 0 by omega), if_pos (show w = 1 by omega)])
               | (rw [if_neg (show ¬ w = 0 by omega), if_neg (show ¬ w = 1 by omega), if_pos (show w = 2 by omega)])
               | (rw [if_neg (show ¬ w = 0 by omega), if_neg (show ¬ w = 1 by omega), if_neg (show ¬ w = 2 by omega), if_pos (show V49.1 T 45 ≠ -1 by assumption)]
                  first
                  | (rw [if_pos (show w - 10 < V49.1 T 45 by omega)])
                  | (rw [if_neg (show ¬ w - 10 < V49.1 T 45 by omega)]))
               | (rw [if_neg (show ¬ w = 0 by omega), if_neg (show ¬ w = 1 by omega), if_neg (show ¬ w = 2 by omega), if_neg (show ¬ V49.1 T 45 ≠ -1 by omega)]
                  first
                  | (rw [if_pos (show w - 10 < V49.1 T 46 by omega)])
                  | (rw [if_neg (show ¬ w - 10 < V49.1 T 46 by omega)])))
      · refine TGo.il dX10_talk_58 rfl ?_
        refine TGo.if_ne 70 dX10_talk_60 (by decide) (by omega) (fun h60 => ?_) (fun h60 => ?_)
        · refine TGo.il dX10_talk_70 rfl ?_
          refine TGo.ic1 dX10_talk_72 ?_
          refine TGo.icmp_ne 83 dX10_talk_73 (by decide) (by omega) (fun h73 => ?_) (fun h73 => ?_)
          · refine TGo.al0 dX10_talk_83 rfl ?_
            refine TGo.getI (t := 18) 47 47 (hT 0 (by decide)) rfl fgX10_508_10 dX10_talk_84 rfl rfl rfl ?_
            refine TGo.iret dX10_talk_87 rfl ?_
            first
            | (exfalso; omega)
            | (refine leafZ hz49 ?_
               unfold zp_talk
               rw [if_neg (by omega), hE]
               first
               | (rw [if_pos (show w = 0 by omega)])
               | (rw [if_neg (show ¬ w = 0 by omega), if_pos (show w = 1 by omega)])
               | (rw [if_neg (show ¬ w = 0 by omega), if_neg (show ¬ w = 1 by omega), if_pos (show w = 2 by omega)])
               | (rw [if_neg (show ¬ w = 0 by omega), if_neg (show ¬ w = 1 by omega), if_neg (show ¬ w = 2 by omega), if_pos (show V49.1 T 45 ≠ -1 by assumption)]
                  first
                  | (rw [if_pos (show w - 10 < V49.1 T 45 by omega)])
                  | (rw [if_neg (show ¬ w - 10 < V49.1 T 45 by omega)]))
               | (rw [if_neg (show ¬ w = 0 by omega), if_neg (show ¬ w = 1 by omega), if_neg (show ¬ w = 2 by omega), if_neg (show ¬ V49.1 T 45 ≠ -1 by omega)]
                  first
                  | (rw [if_pos (show w - 10 < V49.1 T 46 by omega)])
                  | (rw [if_neg (show ¬ w - 10 < V49.1 T 46 by omega)])))
          · refine TGo.al0 dX10_talk_76 rfl ?_
            refine TGo.getI (t := 18) 46 46 (hT 0 (by decide)) rfl fgX10_505_10 dX10_talk_77 rfl rfl rfl ?_
            refine TGo.goto 87 dX10_talk_80 (by decide) ?_
            refine TGo.iret dX10_talk_87 rfl ?_
            first
            | (exfalso; omega)
            | (refine leafZ hz49 ?_
               unfold zp_talk
               rw [if_neg (by omega), hE]
               first
               | (rw [if_pos (show w = 0 by omega)])
               | (rw [if_neg (show ¬ w = 0 by omega), if_pos (show w = 1 by omega)])
               | (rw [if_neg (show ¬ w = 0 by omega), if_neg (show ¬ w = 1 by omega), if_pos (show w = 2 by omega)])
               | (rw [if_neg (show ¬ w = 0 by omega), if_neg (show ¬ w = 1 by omega), if_neg (show ¬ w = 2 by omega), if_pos (show V49.1 T 45 ≠ -1 by assumption)]
                  first
                  | (rw [if_pos (show w - 10 < V49.1 T 45 by omega)])
                  | (rw [if_neg (show ¬ w - 10 < V49.1 T 45 by omega)]))
               | (rw [if_neg (show ¬ w = 0 by omega), if_neg (show ¬ w = 1 by omega), if_neg (show ¬ w = 2 by omega), if_neg (show ¬ V49.1 T 45 ≠ -1 by omega)]
                  first
                  | (rw [if_pos (show w - 10 < V49.1 T 46 by omega)])
                  | (rw [if_neg (show ¬ w - 10 < V49.1 T 46 by omega)])))
        · refine TGo.al0 dX10_talk_63 rfl ?_
          refine TGo.getI (t := 18) 45 45 (hT 0 (by decide)) rfl fgX10_502_10 dX10_talk_64 rfl rfl rfl ?_
          refine TGo.goto 87 dX10_talk_67 (by decide) ?_
          refine TGo.iret dX10_talk_87 rfl ?_
          first
          | (exfalso; omega)
          | (refine leafZ hz49 ?_
             unfold zp_talk
             rw [if_neg (by omega), hE]
             first
             | (rw [if_pos (show w = 0 by omega)])
             | (rw [if_neg (show ¬ w = 0 by omega), if_pos (show w = 1 by omega)])
             | (rw [if_neg (show ¬ w = 0 by omega), if_neg (show ¬ w = 1 by omega), if_pos (show w = 2 by omega)])
             | (rw [if_neg (show ¬ w = 0 by omega), if_neg (show ¬ w = 1 by omega), if_neg (show ¬ w = 2 by omega), if_pos (show V49.1 T 45 ≠ -1 by assumption)]
                first
                | (rw [if_pos (show w - 10 < V49.1 T 45 by omega)])
                | (rw [if_neg (show ¬ w - 10 < V49.1 T 45 by omega)]))
             | (rw [if_neg (show ¬ w = 0 by omega), if_neg (show ¬ w = 1 by omega), if_neg (show ¬ w = 2 by omega), if_neg (show ¬ V49.1 T 45 ≠ -1 by omega)]
                first
                | (rw [if_pos (show w - 10 < V49.1 T 46 by omega)])
                | (rw [if_neg (show ¬ w - 10 < V49.1 T 46 by omega)])))
    · refine TGo.il dX10_talk_28 rfl ?_
      refine TGo.i2l dX10_talk_30 (by omega) ?_
      refine TGo.ldc2 10 dX10_talk_31 q2184 (by decide) ?_
      refine TGo.ldc2 99 dX10_talk_34 q2429 (by decide) ?_
      refine TGo.cF (csS3 (y2 := mX10_in) 1 rfl dX10_talk_37 q2032 q2033 okX10_in npX10_in rfl rfl) (kX10_in (by omega) (by omega) (by omega)) ?_
      refine TGo.ifb_ne 45 dX10_talk_40 (by decide) (fun h40 => ?_) (fun h40 => ?_)
      · refine TGo.al0 dX10_talk_45 rfl ?_
        have hcf : ∀ r, 0 ≤ r → r < 36 → cOK ((fun r => z.2 3 (298 + 36 * a + r)) r) := fun r h0 h1 => W.2.2.2.2.2.1 a r (by omega) (by omega) h0 h1
        have hcg : ∀ r, 0 ≤ r → r < 36 → cOK ((fun r => z.2 3 (298 + 36 * b + r)) r) := fun r h0 h1 => W.2.2.2.2.2.1 b r (by omega) (by omega) h0 h1
        refine TGo.il1 dX10_talk_46 rfl ?_
        refine TGo.il2 dX10_talk_47 rfl ?_
        refine TGo.il3 dX10_talk_48 rfl ?_
        refine TGo.cN (csV3 (y2 := mX10_findTalk) (t := 18) 2 rfl (hT 0 (by decide)) rfl rfl dX10_talk_49 q2430 q2432 qs91 okX10_findTalk npX10_findTalk rfl rfl) (kX10_findTalk (f := fun r => z.2 3 (298 + 36 * a + r)) (g := fun r => z.2 3 (298 + 36 * b + r)) hT (hz.s rfl) (by omega) (by omega) (by omega) (fun _ => rfl) (fun _ => rfl) hcf hcg) (fun V49 h49 => ?_)
        obtain ⟨hz49, hf49, ht49⟩ := h49
        obtain ⟨-, -, hn3⟩ := tkN_ok hcf hcg (show 0 ≤ c ∧ c < 6 by omega)
        obtain ⟨hr, hE⟩ := talkZ_eq ht49 hn3
        have hE := hE w (by omega) (by omega)
        clear ht49 hn3
        refine TGo.il dX10_talk_52 rfl ?_
        refine TGo.ic3 dX10_talk_54 ?_
        refine TGo.icmp_ge 88 dX10_talk_55 (by decide) (by omega) (fun h55 => ?_) (fun h55 => ?_)
        · refine TGo.il dX10_talk_88 rfl ?_
          refine TGo.bip 10 dX10_talk_90 (by decide) ?_
          refine TGo.isub dX10_talk_92 ?_
          refine TGo.is dX10_talk_93 rfl rfl ?_
          refine TGo.al0 dX10_talk_95 rfl ?_
          refine TGo.getI (t := 18) 45 45 (hT 0 (by decide)) rfl fgX10_502_10 dX10_talk_96 rfl rfl rfl ?_
          refine TGo.icm1 dX10_talk_99 ?_
          refine TGo.icmp_eq 124 dX10_talk_100 (by decide) (by omega) (fun h100 => ?_) (fun h100 => ?_)
          · refine TGo.al0 dX10_talk_124 rfl ?_
            refine TGo.getS (t := 18) 44 44 (T + 23) (hT 0 (by decide)) rfl fgX10_106_10 dX10_talk_125 rfl rfl rfl ?_
            refine TGo.il dX10_talk_128 rfl ?_
            refine TGo.al0 dX10_talk_130 rfl ?_
            refine TGo.getI (t := 18) 46 46 (hT 0 (by decide)) rfl fgX10_505_10 dX10_talk_131 rfl rfl rfl ?_
            refine TGo.icmp_ge 142 dX10_talk_134 (by decide) (by omega) (fun h134 => ?_) (fun h134 => ?_)
            · refine TGo.al0 dX10_talk_142 rfl ?_
              refine TGo.getI (t := 18) 46 46 (hT 0 (by decide)) rfl fgX10_505_10 dX10_talk_143 rfl rfl rfl ?_
              refine TGo.il dX10_talk_146 rfl ?_
              refine TGo.al0 dX10_talk_148 rfl ?_
              refine TGo.getI (t := 18) 46 46 (hT 0 (by decide)) rfl fgX10_505_10 dX10_talk_149 rfl rfl rfl ?_
              refine TGo.isub dX10_talk_152 ?_
              refine TGo.al0 dX10_talk_153 rfl ?_
              refine TGo.getI (t := 18) 47 47 (hT 0 (by decide)) rfl fgX10_508_10 dX10_talk_154 rfl rfl rfl ?_
              have hm1 := Int.emod_nonneg (w - 10 - V49.1 T 46) (show V49.1 T 47 ≠ 0 by omega)
              have hm2 := Int.emod_lt_of_pos (w - 10 - V49.1 T 46) (show 0 < V49.1 T 47 by omega)
              refine TGo.irem dX10_talk_157 (by omega) ?_
              refine TGo.iadd dX10_talk_158 ?_
              refine TGo.iald dX10_talk_159 (hT 23 (by decide)) (by omega) rfl ?_
              refine TGo.iret dX10_talk_160 rfl ?_
              first
              | (exfalso; omega)
              | (refine leafZ hz49 ?_
                 unfold zp_talk
                 rw [if_neg (by omega), hE]
                 first
                 | (rw [if_pos (show w = 0 by omega)])
                 | (rw [if_neg (show ¬ w = 0 by omega), if_pos (show w = 1 by omega)])
                 | (rw [if_neg (show ¬ w = 0 by omega), if_neg (show ¬ w = 1 by omega), if_pos (show w = 2 by omega)])
                 | (rw [if_neg (show ¬ w = 0 by omega), if_neg (show ¬ w = 1 by omega), if_neg (show ¬ w = 2 by omega), if_pos (show V49.1 T 45 ≠ -1 by assumption)]
                    first
                    | (rw [if_pos (show w - 10 < V49.1 T 45 by omega)])
                    | (rw [if_neg (show ¬ w - 10 < V49.1 T 45 by omega)]))
                 | (rw [if_neg (show ¬ w = 0 by omega), if_neg (show ¬ w = 1 by omega), if_neg (show ¬ w = 2 by omega), if_neg (show ¬ V49.1 T 45 ≠ -1 by omega)]
                    first
                    | (rw [if_pos (show w - 10 < V49.1 T 46 by omega)])
                    | (rw [if_neg (show ¬ w - 10 < V49.1 T 46 by omega)])))
            · refine TGo.il dX10_talk_137 rfl ?_
              refine TGo.goto 159 dX10_talk_139 (by decide) ?_
              refine TGo.iald dX10_talk_159 (hT 23 (by decide)) (by omega) rfl ?_
              refine TGo.iret dX10_talk_160 rfl ?_
              first
              | (exfalso; omega)
              | (refine leafZ hz49 ?_
                 unfold zp_talk
                 rw [if_neg (by omega), hE]
                 first
                 | (rw [if_pos (show w = 0 by omega)])
                 | (rw [if_neg (show ¬ w = 0 by omega), if_pos (show w = 1 by omega)])
                 | (rw [if_neg (show ¬ w = 0 by omega), if_neg (show ¬ w = 1 by omega), if_pos (show w = 2 by omega)])
                 | (rw [if_neg (show ¬ w = 0 by omega), if_neg (show ¬ w = 1 by omega), if_neg (show ¬ w = 2 by omega), if_pos (show V49.1 T 45 ≠ -1 by assumption)]
                    first
                    | (rw [if_pos (show w - 10 < V49.1 T 45 by omega)])
                    | (rw [if_neg (show ¬ w - 10 < V49.1 T 45 by omega)]))
                 | (rw [if_neg (show ¬ w = 0 by omega), if_neg (show ¬ w = 1 by omega), if_neg (show ¬ w = 2 by omega), if_neg (show ¬ V49.1 T 45 ≠ -1 by omega)]
                    first
                    | (rw [if_pos (show w - 10 < V49.1 T 46 by omega)])
                    | (rw [if_neg (show ¬ w - 10 < V49.1 T 46 by omega)])))
          · refine TGo.il dX10_talk_103 rfl ?_
            refine TGo.al0 dX10_talk_105 rfl ?_
            refine TGo.getI (t := 18) 45 45 (hT 0 (by decide)) rfl fgX10_502_10 dX10_talk_106 rfl rfl rfl ?_
            refine TGo.icmp_ge 122 dX10_talk_109 (by decide) (by omega) (fun h109 => ?_) (fun h109 => ?_)
            · refine TGo.icm1 dX10_talk_122 ?_
              refine TGo.iret dX10_talk_123 rfl ?_
              first
              | (exfalso; omega)
              | (refine leafZ hz49 ?_
                 unfold zp_talk
                 rw [if_neg (by omega), hE]
                 first
                 | (rw [if_pos (show w = 0 by omega)])
                 | (rw [if_neg (show ¬ w = 0 by omega), if_pos (show w = 1 by omega)])
                 | (rw [if_neg (show ¬ w = 0 by omega), if_neg (show ¬ w = 1 by omega), if_pos (show w = 2 by omega)])
                 | (rw [if_neg (show ¬ w = 0 by omega), if_neg (show ¬ w = 1 by omega), if_neg (show ¬ w = 2 by omega), if_pos (show V49.1 T 45 ≠ -1 by assumption)]
                    first
                    | (rw [if_pos (show w - 10 < V49.1 T 45 by omega)])
                    | (rw [if_neg (show ¬ w - 10 < V49.1 T 45 by omega)]))
                 | (rw [if_neg (show ¬ w = 0 by omega), if_neg (show ¬ w = 1 by omega), if_neg (show ¬ w = 2 by omega), if_neg (show ¬ V49.1 T 45 ≠ -1 by omega)]
                    first
                    | (rw [if_pos (show w - 10 < V49.1 T 46 by omega)])
                    | (rw [if_neg (show ¬ w - 10 < V49.1 T 46 by omega)])))
            · refine TGo.al0 dX10_talk_112 rfl ?_
              refine TGo.getS (t := 18) 44 44 (T + 23) (hT 0 (by decide)) rfl fgX10_106_10 dX10_talk_113 rfl rfl rfl ?_
              refine TGo.il dX10_talk_116 rfl ?_
              refine TGo.iald dX10_talk_118 (hT 23 (by decide)) (by omega) rfl ?_
              refine TGo.goto 123 dX10_talk_119 (by decide) ?_
              refine TGo.iret dX10_talk_123 rfl ?_
              first
              | (exfalso; omega)
              | (refine leafZ hz49 ?_
                 unfold zp_talk
                 rw [if_neg (by omega), hE]
                 first
                 | (rw [if_pos (show w = 0 by omega)])
                 | (rw [if_neg (show ¬ w = 0 by omega), if_pos (show w = 1 by omega)])
                 | (rw [if_neg (show ¬ w = 0 by omega), if_neg (show ¬ w = 1 by omega), if_pos (show w = 2 by omega)])
                 | (rw [if_neg (show ¬ w = 0 by omega), if_neg (show ¬ w = 1 by omega), if_neg (show ¬ w = 2 by omega), if_pos (show V49.1 T 45 ≠ -1 by assumption)]
                    first
                    | (rw [if_pos (show w - 10 < V49.1 T 45 by omega)])
                    | (rw [if_neg (show ¬ w - 10 < V49.1 T 45 by omega)]))
                 | (rw [if_neg (show ¬ w = 0 by omega), if_neg (show ¬ w = 1 by omega), if_neg (show ¬ w = 2 by omega), if_neg (show ¬ V49.1 T 45 ≠ -1 by omega)]
                    first
                    | (rw [if_pos (show w - 10 < V49.1 T 46 by omega)])
                    | (rw [if_neg (show ¬ w - 10 < V49.1 T 46 by omega)])))
        · refine TGo.il dX10_talk_58 rfl ?_
          refine TGo.if_ne 70 dX10_talk_60 (by decide) (by omega) (fun h60 => ?_) (fun h60 => ?_)
          · refine TGo.il dX10_talk_70 rfl ?_
            refine TGo.ic1 dX10_talk_72 ?_
            refine TGo.icmp_ne 83 dX10_talk_73 (by decide) (by omega) (fun h73 => ?_) (fun h73 => ?_)
            · refine TGo.al0 dX10_talk_83 rfl ?_
              refine TGo.getI (t := 18) 47 47 (hT 0 (by decide)) rfl fgX10_508_10 dX10_talk_84 rfl rfl rfl ?_
              refine TGo.iret dX10_talk_87 rfl ?_
              first
              | (exfalso; omega)
              | (refine leafZ hz49 ?_
                 unfold zp_talk
                 rw [if_neg (by omega), hE]
                 first
                 | (rw [if_pos (show w = 0 by omega)])
                 | (rw [if_neg (show ¬ w = 0 by omega), if_pos (show w = 1 by omega)])
                 | (rw [if_neg (show ¬ w = 0 by omega), if_neg (show ¬ w = 1 by omega), if_pos (show w = 2 by omega)])
                 | (rw [if_neg (show ¬ w = 0 by omega), if_neg (show ¬ w = 1 by omega), if_neg (show ¬ w = 2 by omega), if_pos (show V49.1 T 45 ≠ -1 by assumption)]
                    first
                    | (rw [if_pos (show w - 10 < V49.1 T 45 by omega)])
                    | (rw [if_neg (show ¬ w - 10 < V49.1 T 45 by omega)]))
                 | (rw [if_neg (show ¬ w = 0 by omega), if_neg (show ¬ w = 1 by omega), if_neg (show ¬ w = 2 by omega), if_neg (show ¬ V49.1 T 45 ≠ -1 by omega)]
                    first
                    | (rw [if_pos (show w - 10 < V49.1 T 46 by omega)])
                    | (rw [if_neg (show ¬ w - 10 < V49.1 T 46 by omega)])))
            · refine TGo.al0 dX10_talk_76 rfl ?_
              refine TGo.getI (t := 18) 46 46 (hT 0 (by decide)) rfl fgX10_505_10 dX10_talk_77 rfl rfl rfl ?_
              refine TGo.goto 87 dX10_talk_80 (by decide) ?_
              refine TGo.iret dX10_talk_87 rfl ?_
              first
              | (exfalso; omega)
              | (refine leafZ hz49 ?_
                 unfold zp_talk
                 rw [if_neg (by omega), hE]
                 first
                 | (rw [if_pos (show w = 0 by omega)])
                 | (rw [if_neg (show ¬ w = 0 by omega), if_pos (show w = 1 by omega)])
                 | (rw [if_neg (show ¬ w = 0 by omega), if_neg (show ¬ w = 1 by omega), if_pos (show w = 2 by omega)])
                 | (rw [if_neg (show ¬ w = 0 by omega), if_neg (show ¬ w = 1 by omega), if_neg (show ¬ w = 2 by omega), if_pos (show V49.1 T 45 ≠ -1 by assumption)]
                    first
                    | (rw [if_pos (show w - 10 < V49.1 T 45 by omega)])
                    | (rw [if_neg (show ¬ w - 10 < V49.1 T 45 by omega)]))
                 | (rw [if_neg (show ¬ w = 0 by omega), if_neg (show ¬ w = 1 by omega), if_neg (show ¬ w = 2 by omega), if_neg (show ¬ V49.1 T 45 ≠ -1 by omega)]
                    first
                    | (rw [if_pos (show w - 10 < V49.1 T 46 by omega)])
                    | (rw [if_neg (show ¬ w - 10 < V49.1 T 46 by omega)])))
          · refine TGo.al0 dX10_talk_63 rfl ?_
            refine TGo.getI (t := 18) 45 45 (hT 0 (by decide)) rfl fgX10_502_10 dX10_talk_64 rfl rfl rfl ?_
            refine TGo.goto 87 dX10_talk_67 (by decide) ?_
            refine TGo.iret dX10_talk_87 rfl ?_
            first
            | (exfalso; omega)
            | (refine leafZ hz49 ?_
               unfold zp_talk
               rw [if_neg (by omega), hE]
               first
               | (rw [if_pos (show w = 0 by omega)])
               | (rw [if_neg (show ¬ w = 0 by omega), if_pos (show w = 1 by omega)])
               | (rw [if_neg (show ¬ w = 0 by omega), if_neg (show ¬ w = 1 by omega), if_pos (show w = 2 by omega)])
               | (rw [if_neg (show ¬ w = 0 by omega), if_neg (show ¬ w = 1 by omega), if_neg (show ¬ w = 2 by omega), if_pos (show V49.1 T 45 ≠ -1 by assumption)]
                  first
                  | (rw [if_pos (show w - 10 < V49.1 T 45 by omega)])
                  | (rw [if_neg (show ¬ w - 10 < V49.1 T 45 by omega)]))
               | (rw [if_neg (show ¬ w = 0 by omega), if_neg (show ¬ w = 1 by omega), if_neg (show ¬ w = 2 by omega), if_neg (show ¬ V49.1 T 45 ≠ -1 by omega)]
                  first
                  | (rw [if_pos (show w - 10 < V49.1 T 46 by omega)])
                  | (rw [if_neg (show ¬ w - 10 < V49.1 T 46 by omega)])))
      · refine TGo.icm1 dX10_talk_43 ?_
        refine TGo.iret dX10_talk_44 rfl ?_
        first
        | (exfalso; omega)
        | (refine leafZ (hz.s rfl) ?_
           unfold zp_talk
           (repeat (first | rw [if_pos (by first | rfl | assumption | omega)] | rw [if_neg (by first | decide | assumption | omega)]))
           (try first | rfl | rw [bZ_t (by first | assumption | omega)] | rw [bZ_f (by first | assumption | omega)]))
theorem zaa {z : ZT} {k : Nat} {i v w : Int} : za (za z k i v) k i w = za z k i w := by unfold za; simp only; rw [u2_u]
theorem za_id {z : ZT} {k : Nat} {i v : Int} (h : z.2 k i = v) : za z k i v = z := by subst h; unfold za; rw [u2_id]
/-- how many rules mend a talk, of the first k, and the first of them -/
noncomputable def mdZ (z : ZT) (a b c p : Int) : Nat → Int × Int
  | 0 => (0, -1)
  | k + 1 => if tkW (fun r => (za z 3 p (k : Int)).2 3 (298 + 36 * a + r)) (fun r => (za z 3 p (k : Int)).2 3 (298 + 36 * b + r)) c ≠ -1 then ((mdZ z a b c p k).1 + 1, if (mdZ z a b c p k).1 = 0 then (k : Int) else (mdZ z a b c p k).2) else mdZ z a b c p k
theorem mdZ_r (z : ZT) (a b c p : Int) (k : Nat) (hk : k ≤ 60) : (0 ≤ (mdZ z a b c p k).1 ∧ (mdZ z a b c p k).1 ≤ k) ∧ -1 ≤ (mdZ z a b c p k).2 ∧ (mdZ z a b c p k).2 < 60 := by
  induction k with
  | zero => show (0 ≤ (0 : Int) ∧ (0 : Int) ≤ 0) ∧ -1 ≤ (-1 : Int) ∧ (-1 : Int) < 60; omega
  | succ k ih =>
    have := ih (by omega)
    rw [mdZ]
    split
    · refine ⟨by simp only; omega, ?_⟩
      simp only
      split <;> omega
    · omega
/-- where the rule lies that is wanting -/
noncomputable def mpZ (z : ZT) (a b c : Int) : Int := 298 + 36 * (if tkN (fun r => z.2 3 (298 + 36 * a + r)) (fun r => z.2 3 (298 + 36 * b + r)) c % 2 = 0 then a else b) + tkP (fun r => z.2 3 (298 + 36 * a + r)) (fun r => z.2 3 (298 + 36 * b + r)) c (tkN (fun r => z.2 3 (298 + 36 * a + r)) (fun r => z.2 3 (298 + 36 * b + r)) c)
noncomputable def mendZ (z : ZT) (a b c w : Int) : Int := if tkW (fun r => z.2 3 (298 + 36 * a + r)) (fun r => z.2 3 (298 + 36 * b + r)) c ≠ -1 then (if w = 0 then 0 else ofZ (-1) (w - 1)) else if w = 0 then (mdZ z a b c (mpZ z a b c) 60).1 else ofZ (mdZ z a b c (mpZ z a b c) 60).2 (w - 1)
noncomputable def zp_mends (z : ZT) (a b c w : Int) : Int × ZT := if ¬ (((0 ≤ a ∧ a < z.2 3 2) ∧ (0 ≤ b ∧ b < z.2 3 2) ∧ 0 ≤ c ∧ c ≤ 5) ∧ 0 ≤ w ∧ w ≤ 2) then (-1, z) else (mendZ z a b c w, z)
theorem za_cOK {z : ZT} (W : RWZ (z.2 3)) {a p v : Int} (ha : 0 ≤ a ∧ a < z.2 3 2) (hv : cOK v) : ∀ r, 0 ≤ r → r < 36 → cOK ((fun r => (za z 3 p v).2 3 (298 + 36 * a + r)) r) := fun r h0 h1 => by
  show cOK (u2 z.2 3 p v 3 (298 + 36 * a + r))
  by_cases e : 298 + 36 * a + r = p
  · rw [e, u2_s]; exact hv
  · rw [u2_n (Or.inr e)]; exact W.2.2.2.2.2.1 a r ha.1 ha.2 h0 h1
set_option maxHeartbeats 4000000 in
theorem lX10_mends {E : ET} {sh : SHT} {nn : Nat × Nat} {T : Nat} {z : ZT} {a b c w p : Int} (hT : MSh T sh) (W : RWZ (z.2 3)) (ha : 0 ≤ a ∧ a < z.2 3 2) (hb : 0 ≤ b ∧ b < z.2 3 2) (hc : 0 ≤ c ∧ c ≤ 5) (hw : 0 ≤ w ∧ w ≤ 2) (hp : 0 ≤ p ∧ p < 6000) (hh : z.2 3 p = -1) : ∀ (n j : Nat) (V : VT), 60 - j < n → j ≤ 60 → PE T V (za z 3 p ((j : Int) - 1)) → TGo E mX10_mends 4 72 [some (.ref T), some (.int (iI a)), some (.int (iI b)), some (.int (iI c)), some (.int (iI w)), some (.int (iI (mdZ z a b c p (j)).1)), some (.int (iI (mdZ z a b c p (j)).2)), some (.int (iI p)), some (.int (iI (((j) : Nat) : Int)))] [] sh nn V (fun o sh' nn' V' => o = .inl (some (.int (iI (if w = 0 then (mdZ z a b c p 60).1 else ofZ (mdZ z a b c p 60).2 (w - 1))))) ∧ sh' = sh ∧ nn' = nn ∧ PE T V' z) := by
  intro n
  induction n with
  | zero => intro j V h; omega
  | succ n ih =>
    intro j V hn hj hz
    have w2 := W.1.2.2.1
    have hm := mdZ_r z a b c p j hj
    refine TGo.il dX10_mends_72 rfl ?_
    refine TGo.bip 60 dX10_mends_74 (by decide) ?_
    refine TGo.icmp_ge 126 dX10_mends_76 (by decide) (by omega) (fun h76 => ?_) (fun h76 => ?_)
    · obtain rfl : j = 60 := by omega
      refine TGo.al0 dX10_mends_126 rfl ?_
      refine TGo.getS (t := 18) 3 3 (T + 2) (hT 0 (by decide)) rfl fgX10_13_10 dX10_mends_127 rfl rfl rfl ?_
      refine TGo.il dX10_mends_130 rfl ?_
      refine TGo.icm1 dX10_mends_132 ?_
      refine TGo.iast dX10_mends_133 (hT 2 (by decide)) (by omega) rfl ?_
      refine TGo.il dX10_mends_134 rfl ?_
      refine TGo.if_ne 144 dX10_mends_136 (by decide) (by omega) (fun h136 => ?_) (fun h136 => ?_)
      · refine TGo.il dX10_mends_144 rfl ?_
        refine TGo.il dX10_mends_146 rfl ?_
        refine TGo.ic1 dX10_mends_148 ?_
        refine TGo.isub dX10_mends_149 ?_
        refine TGo.cF (csS2 (y2 := mX10_ofRule) 2 rfl dX10_mends_150 q2084 q2085 okX10_ofRule npX10_ofRule rfl rfl) (kX10_ofRule (by omega) (by omega)) ?_
        refine TGo.iret dX10_mends_153 rfl ?_
        refine ⟨rvI ?_, rfl, rfl, PE.eq (hz.a 3 rfl rfl) (by rw [zaa, za_id hh])⟩
        first | rw [if_pos (by omega)] | rw [if_neg (by omega)]
      · refine TGo.il dX10_mends_139 rfl ?_
        refine TGo.goto 153 dX10_mends_141 (by decide) ?_
        refine TGo.iret dX10_mends_153 rfl ?_
        refine ⟨rvI ?_, rfl, rfl, PE.eq (hz.a 3 rfl rfl) (by rw [zaa, za_id hh])⟩
        first | rw [if_pos (by omega)] | rw [if_neg (by omega)]
    · have hcf := za_cOK W (p := p) ha (show cOK (j : Int) by omega)
      have hcg := za_cOK W (p := p) hb (show cOK (j : Int) by omega)
      refine TGo.al0 dX10_mends_79 rfl ?_
      refine TGo.getS (t := 18) 3 3 (T + 2) (hT 0 (by decide)) rfl fgX10_13_10 dX10_mends_80 rfl rfl rfl ?_
      refine TGo.il dX10_mends_83 rfl ?_
      refine TGo.il dX10_mends_85 rfl ?_
      refine TGo.iast dX10_mends_87 (hT 2 (by decide)) (by omega) rfl ?_
      refine TGo.al0 dX10_mends_88 rfl ?_
      refine TGo.il1 dX10_mends_89 rfl ?_
      refine TGo.il2 dX10_mends_90 rfl ?_
      refine TGo.il3 dX10_mends_91 rfl ?_
      refine TGo.cN (csV3 (y2 := mX10_findTalk) (t := 18) 2 rfl (hT 0 (by decide)) rfl rfl dX10_mends_92 q2430 q2432 qs91 okX10_findTalk npX10_findTalk rfl rfl) (kX10_findTalk (z := (za z 3 p (j : Int))) (f := fun r => (za z 3 p (j : Int)).2 3 (298 + 36 * a + r)) (g := fun r => (za z 3 p (j : Int)).2 3 (298 + 36 * b + r)) hT (PE.eq (hz.a 3 rfl rfl) zaa) (by omega) (by omega) (by omega) (fun _ => rfl) (fun _ => rfl) hcf hcg) (fun V92 h92 => ?_)
      obtain ⟨hz92, hf92, ht92⟩ := h92
      obtain ⟨-, -, hn3⟩ := tkN_ok hcf hcg (show 0 ≤ c ∧ c < 6 by omega)
      obtain ⟨hr, hE⟩ := talkZ_eq ht92 hn3
      have h45 : V92.1 T 45 ≠ -1 ↔ tkW (fun r => (za z 3 p (j : Int)).2 3 (298 + 36 * a + r)) (fun r => (za z 3 p (j : Int)).2 3 (298 + 36 * b + r)) c = -1 := by
        have e := hE 0 (by omega) (by omega)
        rw [if_pos rfl] at e
        unfold talkZ at e
        rw [if_pos rfl] at e
        by_cases q : tkW (fun r => (za z 3 p (j : Int)).2 3 (298 + 36 * a + r)) (fun r => (za z 3 p (j : Int)).2 3 (298 + 36 * b + r)) c = -1
        · rw [if_pos q] at e; exact ⟨fun _ => q, fun _ => by omega⟩
        · rw [if_neg q] at e; exact ⟨fun q2 => absurd e.symm q2, fun q2 => absurd q2 q⟩
      clear ht92 hE hn3
      refine TGo.al0 dX10_mends_95 rfl ?_
      refine TGo.getI (t := 18) 45 45 (hT 0 (by decide)) rfl fgX10_502_10 dX10_mends_96 rfl rfl rfl ?_
      refine TGo.icm1 dX10_mends_99 ?_
      refine TGo.icmp_ne 120 dX10_mends_100 (by decide) (by omega) (fun h100 => ?_) (fun h100 => ?_)
      · refine TGo.iinc dX10_mends_120 rfl rfl rfl ?_
        refine TGo.goto 72 dX10_mends_123 (by decide) ?_
        first | (exfalso; omega) | exact TGo.seq [some (.ref T), some (.int (iI a)), some (.int (iI b)), some (.int (iI c)), some (.int (iI w)), some (.int (iI (mdZ z a b c p ((j + 1))).1)), some (.int (iI (mdZ z a b c p ((j + 1))).2)), some (.int (iI p)), some (.int (iI ((((j + 1)) : Nat) : Int)))] [] _ (by rw [mdZ]; first | (rw [if_pos (fun q => by have := h45.mpr q; omega)]; first | (rw [if_pos (by omega)]; rfl) | (rw [if_neg (by omega)]; rfl)) | (rw [if_neg (fun q => q (h45.mp (by omega)))]; rfl)) rfl rfl (ih (j + 1) _ (by omega) (by omega) (PE.eq hz92 (by congr 1; omega)))
      · refine TGo.il dX10_mends_103 rfl ?_
        refine TGo.if_ne 113 dX10_mends_105 (by decide) (by omega) (fun h105 => ?_) (fun h105 => ?_)
        · refine TGo.il dX10_mends_113 rfl ?_
          refine TGo.is dX10_mends_115 rfl rfl ?_
          refine TGo.iinc dX10_mends_117 rfl rfl rfl ?_
          refine TGo.iinc dX10_mends_120 rfl rfl rfl ?_
          refine TGo.goto 72 dX10_mends_123 (by decide) ?_
          first | (exfalso; omega) | exact TGo.seq [some (.ref T), some (.int (iI a)), some (.int (iI b)), some (.int (iI c)), some (.int (iI w)), some (.int (iI (mdZ z a b c p ((j + 1))).1)), some (.int (iI (mdZ z a b c p ((j + 1))).2)), some (.int (iI p)), some (.int (iI ((((j + 1)) : Nat) : Int)))] [] _ (by rw [mdZ]; first | (rw [if_pos (fun q => by have := h45.mpr q; omega)]; first | (rw [if_pos (by omega)]; rfl) | (rw [if_neg (by omega)]; rfl)) | (rw [if_neg (fun q => q (h45.mp (by omega)))]; rfl)) rfl rfl (ih (j + 1) _ (by omega) (by omega) (PE.eq hz92 (by congr 1; omega)))
        · refine TGo.il dX10_mends_108 rfl ?_
          refine TGo.goto 115 dX10_mends_110 (by decide) ?_
          refine TGo.is dX10_mends_115 rfl rfl ?_
          refine TGo.iinc dX10_mends_117 rfl rfl rfl ?_
          refine TGo.iinc dX10_mends_120 rfl rfl rfl ?_
          refine TGo.goto 72 dX10_mends_123 (by decide) ?_
          first | (exfalso; omega) | exact TGo.seq [some (.ref T), some (.int (iI a)), some (.int (iI b)), some (.int (iI c)), some (.int (iI w)), some (.int (iI (mdZ z a b c p ((j + 1))).1)), some (.int (iI (mdZ z a b c p ((j + 1))).2)), some (.int (iI p)), some (.int (iI ((((j + 1)) : Nat) : Int)))] [] _ (by rw [mdZ]; first | (rw [if_pos (fun q => by have := h45.mpr q; omega)]; first | (rw [if_pos (by omega)]; rfl) | (rw [if_neg (by omega)]; rfl)) | (rw [if_neg (fun q => q (h45.mp (by omega)))]; rfl)) rfl rfl (ih (j + 1) _ (by omega) (by omega) (PE.eq hz92 (by congr 1; omega)))
set_option maxHeartbeats 4000000 in
theorem kX10_mends {E : ET} {sh : SHT} {nn : Nat × Nat} {V : VT} {T : Nat} {z : ZT} {a b c w : Int} (hT : MSh T sh) (hz : PE T V z) (W : RWZ (z.2 3)) (ra : R32 a) (rb : R32 b) (rc : R32 c) (rw : R32 w) : TC E mX10_mends 4 [.ref T, .int (iI a), .int (iI b), .int (iI c), .int (iI w)] sh nn V (ZP T sh nn (zp_mends z a b c w)) := by
  have w2 := W.1.2.2.1
  refine TC.intro [some (.ref T), some (.int (iI a)), some (.int (iI b)), some (.int (iI c)), some (.int (iI w)), none, none, none, none] rfl ?_
  refine TGo.al0 dX10_mends_0 rfl ?_
  refine TGo.ic0 dX10_mends_1 ?_
  refine TGo.putI (t := 18) 0 0 (hT 0 (by decide)) rfl fpX10_163_10 dX10_mends_2 rfl rfl rfl ?_
  refine TGo.al0 dX10_mends_5 rfl ?_
  refine TGo.il1 dX10_mends_6 rfl ?_
  refine TGo.il2 dX10_mends_7 rfl ?_
  refine TGo.il3 dX10_mends_8 rfl ?_
  refine TGo.cF (csV3 (y2 := mX10_isTalk) (t := 18) 3 rfl (hT 0 (by decide)) rfl rfl dX10_mends_9 q2425 q2427 qs90 okX10_isTalk npX10_isTalk rfl rfl) (kX10_isTalk hT (hz.s rfl) w2 (by omega) (by omega) (by omega)) ?_
  refine TGo.ifb_eq 28 dX10_mends_12 (by decide) (fun h12 => ?_) (fun h12 => ?_)
  · refine TGo.icm1 dX10_mends_28 ?_
    refine TGo.iret dX10_mends_29 rfl ?_
    first
    | (exfalso; omega)
    | (refine leafZ (hz.s rfl) ?_
       unfold zp_mends
       (repeat (first | rw [if_pos (by first | rfl | assumption | omega)] | rw [if_neg (by first | decide | assumption | omega)]))
       (try first | rfl | rw [bZ_t (by first | assumption | omega)] | rw [bZ_f (by first | assumption | omega)]))
  · refine TGo.il dX10_mends_15 rfl ?_
    refine TGo.i2l dX10_mends_17 (by omega) ?_
    refine TGo.lc0 dX10_mends_18 ?_
    refine TGo.ldc2 2 dX10_mends_19 q2284 (by decide) ?_
    refine TGo.cF (csS3 (y2 := mX10_in) 1 rfl dX10_mends_22 q2032 q2033 okX10_in npX10_in rfl rfl) (kX10_in (by omega) (by omega) (by omega)) ?_
    refine TGo.ifb_ne 30 dX10_mends_25 (by decide) (fun h25 => ?_) (fun h25 => ?_)
    · refine TGo.al0 dX10_mends_30 rfl ?_
      have hcf : ∀ r, 0 ≤ r → r < 36 → cOK ((fun r => z.2 3 (298 + 36 * a + r)) r) := fun r h0 h1 => W.2.2.2.2.2.1 a r (by omega) (by omega) h0 h1
      have hcg : ∀ r, 0 ≤ r → r < 36 → cOK ((fun r => z.2 3 (298 + 36 * b + r)) r) := fun r h0 h1 => W.2.2.2.2.2.1 b r (by omega) (by omega) h0 h1
      refine TGo.il1 dX10_mends_31 rfl ?_
      refine TGo.il2 dX10_mends_32 rfl ?_
      refine TGo.il3 dX10_mends_33 rfl ?_
      refine TGo.cN (csV3 (y2 := mX10_findTalk) (t := 18) 2 rfl (hT 0 (by decide)) rfl rfl dX10_mends_34 q2430 q2432 qs91 okX10_findTalk npX10_findTalk rfl rfl) (kX10_findTalk (f := fun r => z.2 3 (298 + 36 * a + r)) (g := fun r => z.2 3 (298 + 36 * b + r)) hT (hz.s rfl) (by omega) (by omega) (by omega) (fun _ => rfl) (fun _ => rfl) hcf hcg) (fun V34 h34 => ?_)
      obtain ⟨hz34, hf34, ht34⟩ := h34
      obtain ⟨hd1, hd2, hn3⟩ := tkN_ok hcf hcg (show 0 ≤ c ∧ c < 6 by omega)
      obtain ⟨hr, hE⟩ := talkZ_eq ht34 hn3
      have h45 : V34.1 T 45 ≠ -1 ↔ tkW (fun r => z.2 3 (298 + 36 * a + r)) (fun r => z.2 3 (298 + 36 * b + r)) c = -1 := by
        have e := hE 0 (by omega) (by omega)
        rw [if_pos rfl] at e
        unfold talkZ at e
        rw [if_pos rfl] at e
        by_cases q : tkW (fun r => z.2 3 (298 + 36 * a + r)) (fun r => z.2 3 (298 + 36 * b + r)) c = -1
        · rw [if_pos q] at e; exact ⟨fun _ => q, fun _ => by omega⟩
        · rw [if_neg q] at e; exact ⟨fun q2 => absurd e.symm q2, fun q2 => absurd q2 q⟩
      have hhole : V34.1 T 45 ≠ -1 → V34.1 T 49 = (if tkN (fun r => z.2 3 (298 + 36 * a + r)) (fun r => z.2 3 (298 + 36 * b + r)) c % 2 = 0 then a else b) ∧ V34.1 T 48 = tkP (fun r => z.2 3 (298 + 36 * a + r)) (fun r => z.2 3 (298 + 36 * b + r)) c (tkN (fun r => z.2 3 (298 + 36 * a + r)) (fun r => z.2 3 (298 + 36 * b + r)) c) ∧ tkR (fun r => z.2 3 (298 + 36 * a + r)) (fun r => z.2 3 (298 + 36 * b + r)) c (tkN (fun r => z.2 3 (298 + 36 * a + r)) (fun r => z.2 3 (298 + 36 * b + r)) c) = -1 := fun q => by
        rcases ht34.2 with q2 | q2
        · exact absurd q2.2.1 q
        · exact ⟨q2.2.2.2.2.2.1, q2.2.2.2.2.2.2, q2.2.1⟩
      have hA := tkA_r hcf hcg (show 0 ≤ c ∧ c < 6 by omega) (tkN (fun r => z.2 3 (298 + 36 * a + r)) (fun r => z.2 3 (298 + 36 * b + r)) c) hd1
      have hP : 0 ≤ tkP (fun r => z.2 3 (298 + 36 * a + r)) (fun r => z.2 3 (298 + 36 * b + r)) c (tkN (fun r => z.2 3 (298 + 36 * a + r)) (fun r => z.2 3 (298 + 36 * b + r)) c) ∧ tkP (fun r => z.2 3 (298 + 36 * a + r)) (fun r => z.2 3 (298 + 36 * b + r)) c (tkN (fun r => z.2 3 (298 + 36 * a + r)) (fun r => z.2 3 (298 + 36 * b + r)) c) < 36 := by unfold tkP; split <;> omega
      have hRR : tkR (fun r => z.2 3 (298 + 36 * a + r)) (fun r => z.2 3 (298 + 36 * b + r)) c (tkN (fun r => z.2 3 (298 + 36 * a + r)) (fun r => z.2 3 (298 + 36 * b + r)) c) = z.2 3 (mpZ z a b c) := by
        unfold tkR mpZ
        split <;> rfl
      have hQ : 298 ≤ mpZ z a b c ∧ mpZ z a b c < 6000 := by unfold mpZ; split <;> omega
      clear ht34 hE hn3 hd1 hd2 hA hP
      refine TGo.ic0 dX10_mends_37 ?_
      refine TGo.is dX10_mends_38 rfl rfl ?_
      refine TGo.icm1 dX10_mends_40 ?_
      refine TGo.is dX10_mends_41 rfl rfl ?_
      refine TGo.al0 dX10_mends_43 rfl ?_
      refine TGo.getI (t := 18) 45 45 (hT 0 (by decide)) rfl fgX10_502_10 dX10_mends_44 rfl rfl rfl ?_
      refine TGo.icm1 dX10_mends_47 ?_
      refine TGo.icmp_eq 134 dX10_mends_48 (by decide) (by omega) (fun h48 => ?_) (fun h48 => ?_)
      · refine TGo.il dX10_mends_134 rfl ?_
        refine TGo.if_ne 144 dX10_mends_136 (by decide) (by omega) (fun h136 => ?_) (fun h136 => ?_)
        · refine TGo.il dX10_mends_144 rfl ?_
          refine TGo.il dX10_mends_146 rfl ?_
          refine TGo.ic1 dX10_mends_148 ?_
          refine TGo.isub dX10_mends_149 ?_
          refine TGo.cF (csS2 (y2 := mX10_ofRule) 2 rfl dX10_mends_150 q2084 q2085 okX10_ofRule npX10_ofRule rfl rfl) (kX10_ofRule (by omega) (by omega)) ?_
          refine TGo.iret dX10_mends_153 rfl ?_
          refine leafZ hz34 ?_
          have hg : tkW (fun r => z.2 3 (298 + 36 * a + r)) (fun r => z.2 3 (298 + 36 * b + r)) c ≠ -1 := fun q => by have := h45.mpr q; omega
          unfold zp_mends mendZ
          rw [if_neg (by omega), if_pos hg]
          first | rw [if_pos (show w = 0 by omega)] | rw [if_neg (show ¬ w = 0 by omega)]
        · refine TGo.il dX10_mends_139 rfl ?_
          refine TGo.goto 153 dX10_mends_141 (by decide) ?_
          refine TGo.iret dX10_mends_153 rfl ?_
          refine leafZ hz34 ?_
          have hg : tkW (fun r => z.2 3 (298 + 36 * a + r)) (fun r => z.2 3 (298 + 36 * b + r)) c ≠ -1 := fun q => by have := h45.mpr q; omega
          unfold zp_mends mendZ
          rw [if_neg (by omega), if_pos hg]
          first | rw [if_pos (show w = 0 by omega)] | rw [if_neg (show ¬ w = 0 by omega)]
      · obtain ⟨h49, h48, hRn⟩ := hhole (by assumption)
        refine TGo.sip 298 dX10_mends_51 (by decide) ?_
        refine TGo.bip 36 dX10_mends_54 (by decide) ?_
        refine TGo.al0 dX10_mends_56 rfl ?_
        refine TGo.getI (t := 18) 49 49 (hT 0 (by decide)) rfl fgX10_511_10 dX10_mends_57 rfl rfl rfl ?_
        refine TGo.toz _ h49 ?_
        refine TGo.imul dX10_mends_60 ?_
        refine TGo.iadd dX10_mends_61 ?_
        refine TGo.al0 dX10_mends_62 rfl ?_
        refine TGo.getI (t := 18) 48 48 (hT 0 (by decide)) rfl fgX10_514_10 dX10_mends_63 rfl rfl rfl ?_
        refine TGo.toz _ h48 ?_
        refine TGo.iadd dX10_mends_66 ?_
        refine TGo.is dX10_mends_67 rfl rfl ?_
        refine TGo.ic0 dX10_mends_69 ?_
        refine TGo.is dX10_mends_70 rfl rfl ?_
        have hg := h45.mp (by assumption)
        refine (lX10_mends (p := mpZ z a b c) hT W (by omega) (by omega) (by omega) (by omega) (by omega) (by rw [← hRR]; exact hRn) 61 0 _ (by omega) (by omega) (PE.eq hz34 (by rw [show ((0 : Nat) : Int) - 1 = -1 by omega, za_id (by rw [← hRR]; exact hRn)]))).mono ?_
        rintro o sh' nn' V' ⟨ho, hs, hn, hp⟩
        unfold zp_mends mendZ
        rw [if_neg (by omega), if_neg (fun q => q hg)]
        exact ⟨ho, hs, hn, hp⟩
    · refine TGo.icm1 dX10_mends_28 ?_
      refine TGo.iret dX10_mends_29 rfl ?_
      first
      | (exfalso; omega)
      | (refine leafZ (hz.s rfl) ?_
         unfold zp_mends
         (repeat (first | rw [if_pos (by first | rfl | assumption | omega)] | rw [if_neg (by first | decide | assumption | omega)]))
         (try first | rfl | rw [bZ_t (by first | assumption | omega)] | rw [bZ_f (by first | assumption | omega)]))
