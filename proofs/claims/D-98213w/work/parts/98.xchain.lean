/-! X: chain -/
set_option maxRecDepth 100000
theorem bit_add0 : ∀ a : Nat, a < 256 → ∀ k : Nat, k < 8 → (a / 2 ^ k % 2 = 1 ∨ (a + 2 ^ k < 256 ∧ ∀ j : Nat, j < 8 → ((a + 2 ^ k) / 2 ^ j % 2 = 1 ↔ (j = k ∨ a / 2 ^ j % 2 = 1)))) := by decide +kernel
theorem bit_add (a : Nat) (ha : a < 256) (k : Nat) (hk : k < 8) (h : a / 2 ^ k % 2 ≠ 1) : a + 2 ^ k < 256 ∧ ∀ j : Nat, j < 8 → ((a + 2 ^ k) / 2 ^ j % 2 = 1 ↔ (j = k ∨ a / 2 ^ j % 2 = 1)) := (bit_add0 a ha k hk).resolve_left h
theorem bit_one : ∀ k : Nat, k < 8 → 2 ^ k < 256 ∧ ∀ j : Nat, j < 8 → (2 ^ k / 2 ^ j % 2 = 1 ↔ j = k) := by decide +kernel
/-- the bits of a row -/
def MsK (w : Nat) (P : List Int) : Prop := w < 256 ∧ ∀ b : Nat, b < 8 → (w / 2 ^ b % 2 = 1 ↔ (b : Int) ∈ P)
theorem MsK.add {w : Nat} {P : List Int} (h : MsK w P) {b : Nat} (hb : b < 8) (hn : (b : Int) ∉ P) : MsK (w + 2 ^ b) ((b : Int) :: P) := by
  have q := bit_add w h.1 b hb (fun e => hn ((h.2 b hb).mp e))
  refine ⟨q.1, fun j hj => ?_⟩
  rw [q.2 j hj, h.2 j hj, List.mem_cons]
  constructor
  · rintro (e | e)
    · exact Or.inl (by rw [e])
    · exact Or.inr e
  · rintro (e | e)
    · exact Or.inl (by omega)
    · exact Or.inr e
theorem MsK.or {w : Nat} {P : List Int} (h : MsK w P) {b : Nat} (hb : b < 8) (hn : (b : Int) ∉ P) : iI (w : Int) ||| (iI 1 <<< (iI (b : Int) &&& 31)) = iI ((w + 2 ^ b : Nat) : Int) := by
  have q := (iI_orx (a := (w : Int)) (k := (b : Int)) (by have := h.1; omega) (by omega)).1
  rw [q, if_neg]
  · rfl
  · intro e
    have e : (w : Int) / ((2 ^ b : Nat) : Int) % 2 = 1 := e
    exact hn ((h.2 b hb).mp (by have e2 : ((w / 2 ^ b % 2 : Nat) : Int) = 1 := e; omega))
/-- a row in order -/
def RoL (P : List Int) (n : Nat) : Prop := (∀ x, x ∈ P → 0 ≤ x ∧ x < (n : Int)) ∧ mkZ (mkL P) n = P.length
theorem RoL.le {P : List Int} {n : Nat} (h : RoL P n) : P.length ≤ n := by
  have := mkZ_le (mkL P) n
  have := h.2
  omega
theorem RoL.add {P : List Int} {n : Nat} (h : RoL P n) {b : Int} (hb : 0 ≤ b ∧ b < n) (hn : b ∉ P) : RoL (b :: P) n := by
  refine ⟨fun x hx => ?_, ?_⟩
  · rcases List.mem_cons.mp hx with e | e
    · rw [e]; exact hb
    · exact h.1 x e
  · rw [mkL_s, mkZ_in hb.1 (show (if b ∈ P then (0 : Int) else -1) = -1 from if_neg hn) (by decide) n hb.2, h.2]; rfl
abbrev enL (f : Int → Int) : Int → Int := fun y => f (238 + 3 * y + 1) - 1
/-- who can learn of whom lies there -/
def CanV (B : Nat) (V : VT) (f : Int → Int) (a : Int) : Prop := ∀ t p, 0 ≤ t → t < f 1 → 0 ≤ p → p < f 1 → V.1 (B + 53) (8 * t + p) = cnZ f a t p
/-- X's search -/
def ChV (B : Nat) (V : VT) (n wo : Int) (P : List Int) (st : ChT) : Prop := V.1 (B + 52) 3 = n ∧ V.1 (B + 52) 6 = wo ∧ (∀ t : Nat, t < P.length → V.1 (B + 54) ((P.length : Int) - 1 - (t : Int)) = P.getD t 0) ∧ V.1 (B + 52) 4 = st.1 ∧ V.1 (B + 52) 5 = st.2.1 ∧ ∀ t : Nat, t < st.2.2.length → V.1 (B + 55) ((st.2.2.length : Int) - 1 - (t : Int)) = st.2.2.getD t 0
def StB (st : ChT) : Prop := (st.1 = -1 ∨ (0 ≤ st.2.1 ∧ st.2.1 ≤ 8)) ∧ -1 ≤ st.1 ∧ st.1 ≤ 300
def exB (ok : Int → Int → Int) (n d : Nat) (P : List Int) (b : Nat) : List (List Int) := match d with
  | 0 => []
  | d + 1 => if xcnL ok P b then exL ok n d ((b : Int) :: P) else []
theorem exL_B {ok : Int → Int → Int} {n d : Nat} {P : List Int} : exL ok n d P = P :: (List.range n).flatMap (exB ok n d P) := by
  cases d with
  | zero =>
    have e : (List.range n).flatMap (exB ok n 0 P) = [] := List.flatMap_eq_nil_iff.mpr (fun b _ => rfl)
    rw [e]; rfl
  | succ d => rfl
theorem exB_n {ok : Int → Int → Int} {n d : Nat} {P : List Int} {b : Nat} (h : ¬ ((b : Int) ∉ P ∧ ok (P.headD 0) (b : Int) = 1)) : exB ok n d P b = [] := by
  cases d with
  | zero => rfl
  | succ d => exact if_neg (fun q => h (of_decide_eq_true q))
theorem exB_y {ok : Int → Int → Int} {n d : Nat} {P : List Int} {b : Nat} (h : (b : Int) ∉ P ∧ ok (P.headD 0) (b : Int) = 1) : exB ok n (d + 1) P b = exL ok n d ((b : Int) :: P) := if_pos (decide_eq_true h)
abbrev goL (en : Int → Int) (st1 : ChT) (ok : Int → Int → Int) (n d : Nat) (P : List Int) (j : Nat) : ChT := ((List.range j).flatMap (exB ok n d P)).foldl (updL en) st1
theorem goL_s {en : Int → Int} {st1 : ChT} {ok : Int → Int → Int} {n d : Nat} {P : List Int} {j : Nat} : goL en st1 ok n d P (j + 1) = (exB ok n d P j).foldl (updL en) (goL en st1 ok n d P j) := by
  unfold goL
  rw [List.range_succ, List.flatMap_append, List.foldl_append]
  simp
theorem okZ_1 {f : Int → Int} {a wo t p : Int} (h : p ≠ wo) : okZ f a wo t p = cnZ f a t p := if_neg h
theorem okZ_0 {f : Int → Int} {a wo t p : Int} (h : p = wo) : okZ f a wo t p ≠ 1 := by
  unfold okZ
  rw [if_pos h]; decide
theorem cnZ_01 {f : Int → Int} {a t p : Int} : cnZ f a t p = 0 ∨ cnZ f a t p = 1 := by
  unfold cnZ; exact bZ_or _
theorem XSh.fr {B : Nat} {V V' : VT} (h : Fr [B + 52, B + 54, B + 55] V V') : FrS B V V' := FrS.of h (fun a ha => by
  simp only [List.mem_cons, List.not_mem_nil, or_false] at ha
  rcases ha with e | e | e
  · exact ⟨52, by omega, e⟩
  · exact ⟨54, by omega, e⟩
  · exact ⟨55, by omega, e⟩)
set_option maxHeartbeats 4000000 in
theorem kX0_isOf {E : ET} {sh : SHT} {nn : Nat × Nat} {V : VT} {w b : Nat} (hw : w < 256) (hb : b < 8) : TF E mX0_isOf 1 [.int (iI (w : Int)), .int (iI (b : Int))] sh nn V (.int (iI (bZ (w / 2 ^ b % 2 = 1)))) := by
  refine TC.intro [some (.int (iI (w : Int))), some (.int (iI (b : Int)))] rfl ?_
  refine TGo.il0 dX0_isOf_0 rfl ?_
  refine TGo.il1 dX0_isOf_1 rfl ?_
  refine TGo.ishr dX0_isOf_2 ?_
  refine TGo.ic1 dX0_isOf_3 ?_
  refine TGo.iand dX0_isOf_4 ?_
  refine TGo.tos _ (iI_bit (by omega) (by omega)) ?_
  obtain ⟨x, hx⟩ : ∃ x : Nat, x = w / 2 ^ b % 2 := ⟨_, rfl⟩
  have hx1 : (w : Int) / ((2 ^ b : Nat) : Int) % 2 = (x : Int) := by rw [hx]; rfl
  rw [hx1]
  refine TGo.ic1 dX0_isOf_5 ?_
  refine TGo.icmp_ne 13 dX0_isOf_6 (by decide) (by omega) (fun h6 => ?_) (fun h6 => ?_)
  · refine TGo.ic0 dX0_isOf_13 ?_
    refine TGo.zret dX0_isOf_14 rfl (by first | exact Or.inl rfl | exact Or.inr rfl | exact bZ_or _ | assumption) ?_
    refine leafF ?_
    first | exact (bZ_t (by omega)).symm | exact (bZ_f (by omega)).symm
  · refine TGo.ic1 dX0_isOf_9 ?_
    refine TGo.goto 14 dX0_isOf_10 (by decide) ?_
    refine TGo.zret dX0_isOf_14 rfl (by first | exact Or.inl rfl | exact Or.inr rfl | exact bZ_or _ | assumption) ?_
    refine leafF ?_
    first | exact (bZ_t (by omega)).symm | exact (bZ_f (by omega)).symm
def TriOK (E : ET) (d : Nat) : Prop := ∀ {sh : SHT} {nn : Nat × Nat} {V : VT} {B : Nat} {ow : Nat → Nat} {z : ZT} {a wo x : Int} {r : List Int} {st : ChT} {w : Nat}, XR ow sh nn V B z → RWZ (z.2 3) → CanV B V (z.2 3) a → (-1 ≤ wo ∧ wo ≤ 8) → RoL (x :: r) (z.2 3 1).toNat → r.length + 1 + d = 8 → MsK w (x :: r) → ChV B V (z.2 3 1) wo (x :: r) st → StB st → TN E mX7_tries (d + 6) [.ref (B + 52), .int (iI ((r.length : Int) + 1)), .int (iI (w : Int))] sh nn V (fun V' => XR ow sh nn V' B z ∧ Fr [B + 52, B + 54, B + 55] V V' ∧ ChV B V' (z.2 3 1) wo (x :: r) ((exL (okZ (z.2 3) a wo) (z.2 3 1).toNat d (x :: r)).foldl (updL (enL (z.2 3))) st) ∧ StB ((exL (okZ (z.2 3) a wo) (z.2 3 1).toNat d (x :: r)).foldl (updL (enL (z.2 3))) st))
set_option maxHeartbeats 4000000 in
theorem lX7_tries {E : ET} {sh : SHT} {nn : Nat × Nat} {B : Nat} {ow : Nat → Nat} {z : ZT} {V0 : VT} {a wo x en0 : Int} {r : List Int} {d w : Nat} {st1 : ChT} (W : RWZ (z.2 3)) (hC : CanV B V0 (z.2 3) a) (hwo : -1 ≤ wo ∧ wo ≤ 8) (hr : RoL (x :: r) (z.2 3 1).toNat) (hd : r.length + 1 + d = 8) (hw : MsK w (x :: r)) (REC : ∀ e, d = e + 1 → TriOK E e) : ∀ (n j : Nat) (V : VT), (z.2 3 1).toNat - j < n → j ≤ (z.2 3 1).toNat → XR ow sh nn V B z → (Fr [B + 52, B + 54, B + 55] V0 V ∧ ChV B V (z.2 3 1) wo (x :: r) (goL (enL (z.2 3)) st1 (okZ (z.2 3) a wo) (z.2 3 1).toNat d (x :: r) j) ∧ StB (goL (enL (z.2 3)) st1 (okZ (z.2 3) a wo) (z.2 3 1).toNat d (x :: r) j)) → TGo E mX7_tries (d + 6) 82 [some (.ref (B + 52)), some (.int (iI ((r.length : Int) + 1))), some (.int (iI (w : Int))), some (.int (iI en0)), some (.int (iI (((j) : Nat) : Int)))] [] sh nn V (fun o sh' nn' V' => o = .inl none ∧ sh' = sh ∧ nn' = nn ∧ XR ow sh nn V' B z ∧ Fr [B + 52, B + 54, B + 55] V0 V' ∧ ChV B V' (z.2 3 1) wo (x :: r) (goL (enL (z.2 3)) st1 (okZ (z.2 3) a wo) (z.2 3 1).toNat d (x :: r) (z.2 3 1).toNat) ∧ StB (goL (enL (z.2 3)) st1 (okZ (z.2 3) a wo) (z.2 3 1).toNat d (x :: r) (z.2 3 1).toNat)) := by
  intro n
  induction n with
  | zero => intro j V h; omega
  | succ n ih =>
    intro j V hn hj hz hx
    obtain ⟨hfr, hch, hst⟩ := hx
    obtain ⟨hB, how, hc, -⟩ := id hz
    have w1 := W.1.2.1
    have hx0 : 0 ≤ x ∧ x < z.2 3 1 := by have := hr.1 x List.mem_cons_self; omega
    have hrl := hr.le
    simp only [List.length_cons] at hrl
    have hrow0 : V.1 (B + 54) ((r.length : Int) + 1 - 1) = x := by
      have q := hch.2.2.1 0 (Nat.succ_pos _)
      rw [show ((r.length : Int) + 1 - 1) = (((x :: r).length : Nat) : Int) - 1 - ((0 : Nat) : Int) by simp only [List.length_cons]; omega]
      exact q
    have hCv : CanV B V (z.2 3) a := fun t p t0 t1 p0 p1 => (congrFun (hfr.1 (B + 53) (by simp)) _).trans (hC t p t0 t1 p0 p1)
    have hcz := cnZ_01 (f := z.2 3) (a := a) (t := x) (p := (j : Int))
    have hgs := goL_s (en := (enL (z.2 3))) (st1 := st1) (ok := (okZ (z.2 3) a wo)) (n := (z.2 3 1).toNat) (d := d) (P := x :: r) (j := j)
    refine TGo.il dX7_tries_82 rfl ?_
    refine TGo.al0 dX7_tries_84 rfl ?_
    refine TGo.getI (t := 15) 3 3 (hB 52 (by decide)) rfl fgX7_42_7 dX7_tries_85 rfl rfl rfl ?_
    refine TGo.toz _ (hch.1) ?_
    refine TGo.icmp_ge 161 dX7_tries_88 (by decide) (by omega) (fun h88 => ?_) (fun h88 => ?_)
    · refine TGo.vret dX7_tries_161 rfl ?_
      obtain rfl : j = (z.2 3 1).toNat := by omega
      exact ⟨rfl, rfl, rfl, hz, hfr, hch, hst⟩
    · refine TGo.il dX7_tries_91 rfl ?_
      refine TGo.al0 dX7_tries_93 rfl ?_
      refine TGo.getI (t := 15) 6 6 (hB 52 (by decide)) rfl fgX7_66_7 dX7_tries_94 rfl rfl rfl ?_
      refine TGo.toz _ (hch.2.1) ?_
      refine TGo.icmp_eq 155 dX7_tries_97 (by decide) (by omega) (fun h97 => ?_) (fun h97 => ?_)
      · refine TGo.iinc dX7_tries_155 rfl rfl rfl ?_
        refine TGo.goto 82 dX7_tries_158 (by decide) ?_
        exact TGo.seq [some (.ref (B + 52)), some (.int (iI ((r.length : Int) + 1))), some (.int (iI (w : Int))), some (.int (iI en0)), some (.int (iI ((((j + 1)) : Nat) : Int)))] [] _ (rfl) rfl rfl (ih (j + 1) _ (by omega) (by omega) hz (by
          rw [hgs]
          first
          | (rw [exB_y ⟨hbP, hok⟩]; exact ⟨(hfr.i (by simp)).tr hF152, hch2, hs152⟩)
          | (rw [exB_n (fun q => okZ_0 (by assumption) q.2)]; exact ⟨hfr, hch, hst⟩)
          | (rw [exB_n (fun q => q.1 ((hw.2 j (by omega)).mp (by assumption)))]; exact ⟨hfr, hch, hst⟩)
          | (rw [exB_n (fun q => by have q2 := q.2; rw [okZ_1 (by assumption)] at q2; have q2 : cnZ (z.2 3) a x (j : Int) = 1 := q2; omega)]; exact ⟨hfr, hch, hst⟩)))
      · refine TGo.il2 dX7_tries_100 rfl ?_
        refine TGo.il dX7_tries_101 rfl ?_
        refine TGo.cF (csSN2 (y2 := mX0_isOf) 1 rfl dX7_tries_103 q1691 q1692 okX0_isOf npX0_isOf rfl rfl) (kX0_isOf hw.1 (by omega)) ?_
        refine TGo.ifb_ne 155 dX7_tries_106 (by decide) (fun h106 => ?_) (fun h106 => ?_)
        · refine TGo.iinc dX7_tries_155 rfl rfl rfl ?_
          refine TGo.goto 82 dX7_tries_158 (by decide) ?_
          exact TGo.seq [some (.ref (B + 52)), some (.int (iI ((r.length : Int) + 1))), some (.int (iI (w : Int))), some (.int (iI en0)), some (.int (iI ((((j + 1)) : Nat) : Int)))] [] _ (rfl) rfl rfl (ih (j + 1) _ (by omega) (by omega) hz (by
            rw [hgs]
            first
            | (rw [exB_y ⟨hbP, hok⟩]; exact ⟨(hfr.i (by simp)).tr hF152, hch2, hs152⟩)
            | (rw [exB_n (fun q => okZ_0 (by assumption) q.2)]; exact ⟨hfr, hch, hst⟩)
            | (rw [exB_n (fun q => q.1 ((hw.2 j (by omega)).mp (by assumption)))]; exact ⟨hfr, hch, hst⟩)
            | (rw [exB_n (fun q => by have q2 := q.2; rw [okZ_1 (by assumption)] at q2; have q2 : cnZ (z.2 3) a x (j : Int) = 1 := q2; omega)]; exact ⟨hfr, hch, hst⟩)))
        · refine TGo.al0 dX7_tries_109 rfl ?_
          refine TGo.getS (t := 15) 0 0 (B + 53) (hB 52 (by decide)) rfl fgX7_15_7 dX7_tries_110 rfl rfl rfl ?_
          refine TGo.bip 8 dX7_tries_113 (by decide) ?_
          refine TGo.al0 dX7_tries_115 rfl ?_
          refine TGo.getS (t := 15) 1 1 (B + 54) (hB 52 (by decide)) rfl fgX7_19_7 dX7_tries_116 rfl rfl rfl ?_
          refine TGo.il1 dX7_tries_119 rfl ?_
          refine TGo.ic1 dX7_tries_120 ?_
          refine TGo.isub dX7_tries_121 ?_
          refine TGo.iald dX7_tries_122 (hB 54 (by decide)) (by omega) rfl ?_
          refine TGo.toz _ (hrow0) ?_
          refine TGo.imul dX7_tries_123 ?_
          refine TGo.il dX7_tries_124 rfl ?_
          refine TGo.iadd dX7_tries_126 ?_
          refine TGo.zald dX7_tries_127 (hB 53 (by decide)) (by omega) rfl ?_
          refine TGo.toz _ ((hCv _ _ hx0.1 hx0.2 (by omega) (by omega))) ?_
          refine TGo.if_ne 134 dX7_tries_128 (by decide) (by omega) (fun h128 => ?_) (fun h128 => ?_)
          · have hbP : (j : Int) ∉ x :: r := fun q => absurd ((hw.2 j (by omega)).mpr q) (by assumption)
            have hok : (okZ (z.2 3) a wo) ((x :: r).headD 0) (j : Int) = 1 := (okZ_1 (by assumption)).trans (by show cnZ (z.2 3) a x (j : Int) = 1; omega)
            have hr2 := hr.add (show 0 ≤ (j : Int) ∧ (j : Int) < ((z.2 3 1).toNat : Nat) by omega) hbP
            have hle := hr2.le
            obtain ⟨e, he⟩ : ∃ e, d = e + 1 := ⟨d - 1, by simp only [List.length_cons] at hle; omega⟩
            subst he
            have hrow2 : ∀ t : Nat, t < ((j : Int) :: x :: r).length → (vI V (B + 54) ((r.length : Int) + 1) (j : Int)).1 (B + 54) (((((j : Int) :: x :: r).length : Nat) : Int) - 1 - (t : Int)) = ((j : Int) :: x :: r).getD t 0 := fun t ht => by
              show u2 V.1 (B + 54) ((r.length : Int) + 1) (j : Int) (B + 54) _ = _
              cases t with
              | zero =>
                rw [show (((((j : Int) :: x :: r).length : Nat) : Int) - 1 - ((0 : Nat) : Int)) = (r.length : Int) + 1 by simp only [List.length_cons]; omega]
                exact u2_s
              | succ t =>
                have ht2 : t < (x :: r).length := Nat.lt_of_succ_lt_succ ht
                rw [show (((((j : Int) :: x :: r).length : Nat) : Int) - 1 - ((t + 1 : Nat) : Int)) = (((x :: r).length : Nat) : Int) - 1 - (t : Int) by simp only [List.length_cons]; omega, u2_n (Or.inr (by simp only [List.length_cons] at ht2 ⊢; omega))]
                exact hch.2.2.1 t ht2
            refine TGo.al0 dX7_tries_134 rfl ?_
            refine TGo.getS (t := 15) 1 1 (B + 54) (hB 52 (by decide)) rfl fgX7_19_7 dX7_tries_135 rfl rfl rfl ?_
            refine TGo.il1 dX7_tries_138 rfl ?_
            refine TGo.il dX7_tries_139 rfl ?_
            refine TGo.iast dX7_tries_141 (hB 54 (by decide)) (by omega) rfl ?_
            refine TGo.al0 dX7_tries_142 rfl ?_
            refine TGo.il1 dX7_tries_143 rfl ?_
            refine TGo.ic1 dX7_tries_144 ?_
            refine TGo.iadd dX7_tries_145 ?_
            refine TGo.il2 dX7_tries_146 rfl ?_
            refine TGo.ic1 dX7_tries_147 ?_
            refine TGo.il dX7_tries_148 rfl ?_
            refine TGo.ishl dX7_tries_150 ?_
            refine TGo.ior dX7_tries_151 ?_
            refine TGo.tos _ (hw.or (by omega) hbP) ?_
            refine TGo.cN (csV2 (y2 := mX7_tries) (t := 15) (e + 6) (Nat.ble_eq_true_of_le (by omega)) (hB 52 (by decide)) rfl rfl dX7_tries_152 q1686 q1688 qs31 okX7_tries npX7_tries rfl rfl) (REC e rfl (x := (j : Int)) (r := x :: r) (w := w + 2 ^ j) (hz.sc (FrS.rf.i 54 (by omega))) W (fun t p t0 t1 p0 p1 => (u2_n (Or.inl (by omega))).trans (hCv t p t0 t1 p0 p1)) hwo hr2 (by simp only [List.length_cons]; omega) (hw.add (by omega) hbP) (st := (goL (enL (z.2 3)) st1 (okZ (z.2 3) a wo) (z.2 3 1).toNat (e + 1) (x :: r) j)) ⟨(u2_n (Or.inl (by omega))).trans hch.1, (u2_n (Or.inl (by omega))).trans hch.2.1, hrow2, (u2_n (Or.inl (by omega))).trans hch.2.2.2.1, (u2_n (Or.inl (by omega))).trans hch.2.2.2.2.1, fun t ht => (u2_n (Or.inl (by omega))).trans (hch.2.2.2.2.2 t ht)⟩ hst) (fun V152 h152 => ?_)
            obtain ⟨hR152, hF152, hc152, hs152⟩ := h152
            have hch2 : ChV B V152 (z.2 3 1) wo (x :: r) _ := ⟨hc152.1, hc152.2.1, fun t ht => by
              have q := hc152.2.2.1 (t + 1) (Nat.succ_lt_succ ht)
              rw [show (((x :: r).length : Nat) : Int) - 1 - (t : Int) = ((((j : Int) :: x :: r).length : Nat) : Int) - 1 - ((t + 1 : Nat) : Int) by simp only [List.length_cons]; omega]
              exact q, hc152.2.2.2⟩
            refine TGo.iinc dX7_tries_155 rfl rfl rfl ?_
            refine TGo.goto 82 dX7_tries_158 (by decide) ?_
            exact TGo.seq [some (.ref (B + 52)), some (.int (iI ((r.length : Int) + 1))), some (.int (iI (w : Int))), some (.int (iI en0)), some (.int (iI ((((j + 1)) : Nat) : Int)))] [] _ (rfl) rfl rfl (ih (j + 1) _ (by omega) (by omega) hR152 (by
              rw [hgs]
              first
              | (rw [exB_y ⟨hbP, hok⟩]; exact ⟨(hfr.i (by simp)).tr hF152, hch2, hs152⟩)
              | (rw [exB_n (fun q => okZ_0 (by assumption) q.2)]; exact ⟨hfr, hch, hst⟩)
              | (rw [exB_n (fun q => q.1 ((hw.2 j (by omega)).mp (by assumption)))]; exact ⟨hfr, hch, hst⟩)
              | (rw [exB_n (fun q => by have q2 := q.2; rw [okZ_1 (by assumption)] at q2; have q2 : cnZ (z.2 3) a x (j : Int) = 1 := q2; omega)]; exact ⟨hfr, hch, hst⟩)))
          · refine TGo.goto 155 dX7_tries_131 (by decide) ?_
            refine TGo.iinc dX7_tries_155 rfl rfl rfl ?_
            refine TGo.goto 82 dX7_tries_158 (by decide) ?_
            exact TGo.seq [some (.ref (B + 52)), some (.int (iI ((r.length : Int) + 1))), some (.int (iI (w : Int))), some (.int (iI en0)), some (.int (iI ((((j + 1)) : Nat) : Int)))] [] _ (rfl) rfl rfl (ih (j + 1) _ (by omega) (by omega) hz (by
              rw [hgs]
              first
              | (rw [exB_y ⟨hbP, hok⟩]; exact ⟨(hfr.i (by simp)).tr hF152, hch2, hs152⟩)
              | (rw [exB_n (fun q => okZ_0 (by assumption) q.2)]; exact ⟨hfr, hch, hst⟩)
              | (rw [exB_n (fun q => q.1 ((hw.2 j (by omega)).mp (by assumption)))]; exact ⟨hfr, hch, hst⟩)
              | (rw [exB_n (fun q => by have q2 := q.2; rw [okZ_1 (by assumption)] at q2; have q2 : cnZ (z.2 3) a x (j : Int) = 1 := q2; omega)]; exact ⟨hfr, hch, hst⟩)))
theorem Fr.cp {L : List Nat} {V V' : VT} {a0 a : Nat} {s d n : Int} (h : Fr L V V') (ha : a ∈ L) : Fr L V (cpI V' a0 a s d n) := ⟨fun b hb => (u1_n (show b ≠ a from fun e => hb (by rw [e]; exact ha))).trans (h.1 b hb), h.2⟩
theorem ChV.up {B : Nat} {V : VT} {n wo e : Int} {P : List Int} {st : ChT} (h : ChV B V n wo P st) (hP : P.length ≤ 8) : ChV B (cpI (vI (vI V (B + 52) 4 e) (B + 52) 5 (P.length : Int)) (B + 54) (B + 55) 0 0 8) n wo P (e, (P.length : Int), P) := by
  obtain ⟨h1, h2, h3, -⟩ := h
  have q : ∀ b, b ≠ B + 55 → (cpI (vI (vI V (B + 52) 4 e) (B + 52) 5 (P.length : Int)) (B + 54) (B + 55) 0 0 8).1 b = (vI (vI V (B + 52) 4 e) (B + 52) 5 (P.length : Int)).1 b := fun b hb => u1_n hb
  refine ⟨?_, ?_, fun t ht => ?_, ?_, ?_, fun t ht => ?_⟩
  · rw [q _ (by omega)]; exact (u2_n (Or.inr (by decide))).trans ((u2_n (Or.inr (by decide))).trans h1)
  · rw [q _ (by omega)]; exact (u2_n (Or.inr (by decide))).trans ((u2_n (Or.inr (by decide))).trans h2)
  · rw [q _ (by omega)]; exact (u2_n (Or.inl (by omega))).trans ((u2_n (Or.inl (by omega))).trans (h3 t ht))
  · rw [q _ (by omega)]; exact (u2_n (Or.inr (by decide))).trans u2_s
  · rw [q _ (by omega)]; exact u2_s
  · have ht : t < P.length := ht
    show u1 _ (B + 55) _ (B + 55) ((P.length : Int) - 1 - (t : Int)) = P.getD t 0
    rw [u1_s, if_pos (by omega), show (0 : Int) + ((P.length : Int) - 1 - (t : Int) - 0) = (P.length : Int) - 1 - (t : Int) by omega]
    exact (u2_n (Or.inl (by omega))).trans ((u2_n (Or.inl (by omega))).trans (h3 t ht))
set_option maxHeartbeats 4000000 in
theorem eX7_tries {E : ET} {sh : SHT} {nn : Nat × Nat} {V : VT} {B : Nat} {ow : Nat → Nat} {z : ZT} {a wo x : Int} {r : List Int} {d w : Nat} {st : ChT} (hR : XR ow sh nn V B z) (W : RWZ (z.2 3)) (hC : CanV B V (z.2 3) a) (hwo : -1 ≤ wo ∧ wo ≤ 8) (hr : RoL (x :: r) (z.2 3 1).toNat) (hd : r.length + 1 + d = 8) (hw : MsK w (x :: r)) (REC : ∀ e, d = e + 1 → TriOK E e) (hch : ChV B V (z.2 3 1) wo (x :: r) st) (hst : StB st) : TN E mX7_tries (d + 6) [.ref (B + 52), .int (iI ((r.length : Int) + 1)), .int (iI (w : Int))] sh nn V (fun V' => XR ow sh nn V' B z ∧ Fr [B + 52, B + 54, B + 55] V V' ∧ ChV B V' (z.2 3 1) wo (x :: r) ((exL (okZ (z.2 3) a wo) (z.2 3 1).toNat d (x :: r)).foldl (updL (enL (z.2 3))) st) ∧ StB ((exL (okZ (z.2 3) a wo) (z.2 3 1).toNat d (x :: r)).foldl (updL (enL (z.2 3))) st)) := by
  obtain ⟨hB, how, hc, -⟩ := id hR
  have w1 := W.1.2.1
  obtain ⟨ap, av, al, cp, cv, cl, gp, gv, gl, hne, ⟨hp1, hp2⟩, ⟨hv1, hv2⟩, hl1, hl2⟩ := id hR.2.2.2.1
  have hx0 : 0 ≤ x ∧ x < z.2 3 1 := by have := hr.1 x List.mem_cons_self; omega
  have hrl : (x :: r).length ≤ 8 := by have := hr.le; omega
  have hrl2 : r.length + 1 ≤ 8 := hrl
  have hrow0 : V.1 (B + 54) ((r.length : Int) + 1 - 1) = x := by
    have q := hch.2.2.1 0 (Nat.succ_pos _)
    rw [show ((r.length : Int) + 1 - 1) = (((x :: r).length : Nat) : Int) - 1 - ((0 : Nat) : Int) by simp only [List.length_cons]; omega]
    exact q
  have hPx : PeR ow sh V (gp x.toNat) (z.2 3) x := by have q := hp2 x.toNat (by omega); rw [Int.toNat_of_nonneg hx0.1] at q; exact q
  have hpb := W.2.2.2.1 x hx0.1 hx0.2
  obtain ⟨hst1, hst2, hst3⟩ := id hst
  refine TC.intro [some (.ref (B + 52)), some (.int (iI ((r.length : Int) + 1))), some (.int (iI (w : Int))), none, none] rfl ?_
  refine TGo.al0 dX7_tries_0 rfl ?_
  refine TGo.getS (t := 15) 7 7 B (hB 52 (by decide)) rfl fgX7_3_7 dX7_tries_1 rfl rfl rfl ?_
  refine TGo.getS (t := 8) 2 2 (B + 2) (hB 0 (by decide)) rfl fgX7_26_0 dX7_tries_4 rfl rfl rfl ?_
  refine TGo.getS (t := 9) 5 5 (B + 26) (hB 2 (by decide)) rfl fgX7_30_1 dX7_tries_7 rfl rfl rfl ?_
  refine TGo.al0 dX7_tries_10 rfl ?_
  refine TGo.getS (t := 15) 1 1 (B + 54) (hB 52 (by decide)) rfl fgX7_19_7 dX7_tries_11 rfl rfl rfl ?_
  refine TGo.il1 dX7_tries_14 rfl ?_
  refine TGo.ic1 dX7_tries_15 ?_
  refine TGo.isub dX7_tries_16 ?_
  refine TGo.iald dX7_tries_17 (hB 54 (by decide)) (by omega) rfl ?_
  refine TGo.toz _ (hrow0) ?_
  refine TGo.toz ((x.toNat : Nat) : Int) (Int.toNat_of_nonneg hx0.1).symm ?_
  refine TGo.cF (csV1 (y2 := mJ2_get) (t := 20) 3 rfl (hB 26 (by decide)) rfl rfl dX7_tries_18 q1676 q761 q762 okJ2_get npJ2_get rfl rfl) (kJ2_get hp1.1 (k := x.toNat) (by omega)) ?_
  refine TGo.castO (t := 19) dX7_tries_21 q1677 hPx.2.1 rfl rfl (Or.inl rfl) ?_
  refine TGo.getI (t := 19) 1 1 hPx.2.1 rfl fgX7_76_11 dX7_tries_24 rfl rfl rfl ?_
  refine TGo.toz _ (hPx.2.2.2.1) ?_
  refine TGo.ic1 dX7_tries_27 ?_
  refine TGo.isub dX7_tries_28 ?_
  refine TGo.is3 dX7_tries_29 rfl rfl ?_
  refine TGo.il3 dX7_tries_30 rfl ?_
  refine TGo.al0 dX7_tries_31 rfl ?_
  refine TGo.getI (t := 15) 4 4 (hB 52 (by decide)) rfl fgX7_69_7 dX7_tries_32 rfl rfl rfl ?_
  refine TGo.toz _ (hch.2.2.2.1) ?_
  refine TGo.icmp_gt 54 dX7_tries_35 (by decide) (by omega) (fun h35 => ?_) (fun h35 => ?_)
  · refine TGo.al0 dX7_tries_54 rfl ?_
    refine TGo.il3 dX7_tries_55 rfl ?_
    refine TGo.putI (t := 15) 4 4 (hB 52 (by decide)) rfl fpX7_69_7 dX7_tries_56 rfl rfl rfl ?_
    refine TGo.al0 dX7_tries_59 rfl ?_
    refine TGo.il1 dX7_tries_60 rfl ?_
    refine TGo.putI (t := 15) 5 5 (hB 52 (by decide)) rfl fpX7_79_7 dX7_tries_61 rfl rfl rfl ?_
    refine TGo.al0 dX7_tries_64 rfl ?_
    refine TGo.getS (t := 15) 1 1 (B + 54) (hB 52 (by decide)) rfl fgX7_19_7 dX7_tries_65 rfl rfl rfl ?_
    refine TGo.ic0 dX7_tries_68 ?_
    refine TGo.al0 dX7_tries_69 rfl ?_
    refine TGo.getS (t := 15) 2 2 (B + 55) (hB 52 (by decide)) rfl fgX7_23_7 dX7_tries_70 rfl rfl rfl ?_
    refine TGo.ic0 dX7_tries_73 ?_
    refine TGo.bip 8 dX7_tries_74 (by decide) ?_
    refine TGo.copyI dX7_tries_76 q1690 (hB 54 (by decide)) (hB 55 (by decide)) (by omega) rfl rfl rfl (by omega) ?_
    first
    | (exfalso; omega)
    | (have hst1 : updL (enL (z.2 3)) st (x :: r) = stL (enL (z.2 3)) (x :: r) := if_pos (by show (st.1 < z.2 3 (238 + 3 * x + 1) - 1 ∨ (z.2 3 (238 + 3 * x + 1) - 1 = st.1 ∧ ((r.length + 1 : Nat) : Int) < st.2.1)); omega)
       have hch1 : ChV B (cpI (vI (vI V (B + 52) 4 (z.2 3 (238 + 3 * x + 1) - 1)) (B + 52) 5 ((r.length : Int) + 1)) (B + 54) (B + 55) 0 0 8) (z.2 3 1) wo (x :: r) (updL (enL (z.2 3)) st (x :: r)) := by rw [hst1]; exact hch.up hrl
       have hsb1 : StB (updL (enL (z.2 3)) st (x :: r)) := by rw [hst1]; exact ⟨Or.inr ⟨by show (0 : Int) ≤ ((r.length + 1 : Nat) : Int); omega, by show ((r.length + 1 : Nat) : Int) ≤ 8; omega⟩, by show -1 ≤ z.2 3 (238 + 3 * x + 1) - 1; omega, by show z.2 3 (238 + 3 * x + 1) - 1 ≤ 300; omega⟩
       have hfr1 : Fr [B + 52, B + 54, B + 55] V (cpI (vI (vI V (B + 52) 4 (z.2 3 (238 + 3 * x + 1) - 1)) (B + 52) 5 ((r.length : Int) + 1)) (B + 54) (B + 55) 0 0 8) := (((Fr.rf.i (by simp)).i (by simp)).cp (by simp))
       refine TGo.ic0 dX7_tries_79 ?_
       refine TGo.is dX7_tries_80 rfl rfl ?_
       refine (lX7_tries (V0 := (cpI (vI (vI V (B + 52) 4 (z.2 3 (238 + 3 * x + 1) - 1)) (B + 52) 5 ((r.length : Int) + 1)) (B + 54) (B + 55) 0 0 8)) (st1 := updL (enL (z.2 3)) st (x :: r)) (en0 := z.2 3 (238 + 3 * x + 1) - 1) W (fun t p t0 t1 p0 p1 => (congrFun (hfr1.1 (B + 53) (by simp)) _).trans (hC t p t0 t1 p0 p1)) hwo hr hd hw REC ((z.2 3 1).toNat + 1) 0 _ (by omega) (by omega) (hR.sc (XSh.fr hfr1)) ⟨Fr.rf, hch1, hsb1⟩).mono ?_
       rintro o sh' nn' V2 ⟨h1, h2, h3, h4, h5, h6, h7⟩
       rw [exL_B, List.foldl_cons]
       exact ⟨h1, h2, h3, h4, hfr1.tr h5, h6, h7⟩)
  · refine TGo.il3 dX7_tries_38 rfl ?_
    refine TGo.al0 dX7_tries_39 rfl ?_
    refine TGo.getI (t := 15) 4 4 (hB 52 (by decide)) rfl fgX7_69_7 dX7_tries_40 rfl rfl rfl ?_
    refine TGo.toz _ (hch.2.2.2.1) ?_
    refine TGo.icmp_ne 79 dX7_tries_43 (by decide) (by omega) (fun h43 => ?_) (fun h43 => ?_)
    · first
      | (exfalso; omega)
      | (have hst1 : updL (enL (z.2 3)) st (x :: r) = st := if_neg (by show ¬ (st.1 < z.2 3 (238 + 3 * x + 1) - 1 ∨ (z.2 3 (238 + 3 * x + 1) - 1 = st.1 ∧ ((r.length + 1 : Nat) : Int) < st.2.1)); omega)
         have hch1 : ChV B V (z.2 3 1) wo (x :: r) (updL (enL (z.2 3)) st (x :: r)) := by rw [hst1]; exact hch
         have hsb1 : StB (updL (enL (z.2 3)) st (x :: r)) := by rw [hst1]; exact hst
         have hfr1 : Fr [B + 52, B + 54, B + 55] V V := Fr.rf
         refine TGo.ic0 dX7_tries_79 ?_
         refine TGo.is dX7_tries_80 rfl rfl ?_
         refine (lX7_tries (V0 := V) (st1 := updL (enL (z.2 3)) st (x :: r)) (en0 := z.2 3 (238 + 3 * x + 1) - 1) W (fun t p t0 t1 p0 p1 => (congrFun (hfr1.1 (B + 53) (by simp)) _).trans (hC t p t0 t1 p0 p1)) hwo hr hd hw REC ((z.2 3 1).toNat + 1) 0 _ (by omega) (by omega) (hR.sc (XSh.fr hfr1)) ⟨Fr.rf, hch1, hsb1⟩).mono ?_
         rintro o sh' nn' V2 ⟨h1, h2, h3, h4, h5, h6, h7⟩
         rw [exL_B, List.foldl_cons]
         exact ⟨h1, h2, h3, h4, hfr1.tr h5, h6, h7⟩)
    · refine TGo.il1 dX7_tries_46 rfl ?_
      refine TGo.al0 dX7_tries_47 rfl ?_
      refine TGo.getI (t := 15) 5 5 (hB 52 (by decide)) rfl fgX7_79_7 dX7_tries_48 rfl rfl rfl ?_
      refine TGo.toz _ (hch.2.2.2.2.1) ?_
      refine TGo.icmp_ge 79 dX7_tries_51 (by decide) (by omega) (fun h51 => ?_) (fun h51 => ?_)
      · first
        | (exfalso; omega)
        | (have hst1 : updL (enL (z.2 3)) st (x :: r) = st := if_neg (by show ¬ (st.1 < z.2 3 (238 + 3 * x + 1) - 1 ∨ (z.2 3 (238 + 3 * x + 1) - 1 = st.1 ∧ ((r.length + 1 : Nat) : Int) < st.2.1)); omega)
           have hch1 : ChV B V (z.2 3 1) wo (x :: r) (updL (enL (z.2 3)) st (x :: r)) := by rw [hst1]; exact hch
           have hsb1 : StB (updL (enL (z.2 3)) st (x :: r)) := by rw [hst1]; exact hst
           have hfr1 : Fr [B + 52, B + 54, B + 55] V V := Fr.rf
           refine TGo.ic0 dX7_tries_79 ?_
           refine TGo.is dX7_tries_80 rfl rfl ?_
           refine (lX7_tries (V0 := V) (st1 := updL (enL (z.2 3)) st (x :: r)) (en0 := z.2 3 (238 + 3 * x + 1) - 1) W (fun t p t0 t1 p0 p1 => (congrFun (hfr1.1 (B + 53) (by simp)) _).trans (hC t p t0 t1 p0 p1)) hwo hr hd hw REC ((z.2 3 1).toNat + 1) 0 _ (by omega) (by omega) (hR.sc (XSh.fr hfr1)) ⟨Fr.rf, hch1, hsb1⟩).mono ?_
           rintro o sh' nn' V2 ⟨h1, h2, h3, h4, h5, h6, h7⟩
           rw [exL_B, List.foldl_cons]
           exact ⟨h1, h2, h3, h4, hfr1.tr h5, h6, h7⟩)
      · refine TGo.al0 dX7_tries_54 rfl ?_
        refine TGo.il3 dX7_tries_55 rfl ?_
        refine TGo.putI (t := 15) 4 4 (hB 52 (by decide)) rfl fpX7_69_7 dX7_tries_56 rfl rfl rfl ?_
        refine TGo.al0 dX7_tries_59 rfl ?_
        refine TGo.il1 dX7_tries_60 rfl ?_
        refine TGo.putI (t := 15) 5 5 (hB 52 (by decide)) rfl fpX7_79_7 dX7_tries_61 rfl rfl rfl ?_
        refine TGo.al0 dX7_tries_64 rfl ?_
        refine TGo.getS (t := 15) 1 1 (B + 54) (hB 52 (by decide)) rfl fgX7_19_7 dX7_tries_65 rfl rfl rfl ?_
        refine TGo.ic0 dX7_tries_68 ?_
        refine TGo.al0 dX7_tries_69 rfl ?_
        refine TGo.getS (t := 15) 2 2 (B + 55) (hB 52 (by decide)) rfl fgX7_23_7 dX7_tries_70 rfl rfl rfl ?_
        refine TGo.ic0 dX7_tries_73 ?_
        refine TGo.bip 8 dX7_tries_74 (by decide) ?_
        refine TGo.copyI dX7_tries_76 q1690 (hB 54 (by decide)) (hB 55 (by decide)) (by omega) rfl rfl rfl (by omega) ?_
        first
        | (exfalso; omega)
        | (have hst1 : updL (enL (z.2 3)) st (x :: r) = stL (enL (z.2 3)) (x :: r) := if_pos (by show (st.1 < z.2 3 (238 + 3 * x + 1) - 1 ∨ (z.2 3 (238 + 3 * x + 1) - 1 = st.1 ∧ ((r.length + 1 : Nat) : Int) < st.2.1)); omega)
           have hch1 : ChV B (cpI (vI (vI V (B + 52) 4 (z.2 3 (238 + 3 * x + 1) - 1)) (B + 52) 5 ((r.length : Int) + 1)) (B + 54) (B + 55) 0 0 8) (z.2 3 1) wo (x :: r) (updL (enL (z.2 3)) st (x :: r)) := by rw [hst1]; exact hch.up hrl
           have hsb1 : StB (updL (enL (z.2 3)) st (x :: r)) := by rw [hst1]; exact ⟨Or.inr ⟨by show (0 : Int) ≤ ((r.length + 1 : Nat) : Int); omega, by show ((r.length + 1 : Nat) : Int) ≤ 8; omega⟩, by show -1 ≤ z.2 3 (238 + 3 * x + 1) - 1; omega, by show z.2 3 (238 + 3 * x + 1) - 1 ≤ 300; omega⟩
           have hfr1 : Fr [B + 52, B + 54, B + 55] V (cpI (vI (vI V (B + 52) 4 (z.2 3 (238 + 3 * x + 1) - 1)) (B + 52) 5 ((r.length : Int) + 1)) (B + 54) (B + 55) 0 0 8) := (((Fr.rf.i (by simp)).i (by simp)).cp (by simp))
           refine TGo.ic0 dX7_tries_79 ?_
           refine TGo.is dX7_tries_80 rfl rfl ?_
           refine (lX7_tries (V0 := (cpI (vI (vI V (B + 52) 4 (z.2 3 (238 + 3 * x + 1) - 1)) (B + 52) 5 ((r.length : Int) + 1)) (B + 54) (B + 55) 0 0 8)) (st1 := updL (enL (z.2 3)) st (x :: r)) (en0 := z.2 3 (238 + 3 * x + 1) - 1) W (fun t p t0 t1 p0 p1 => (congrFun (hfr1.1 (B + 53) (by simp)) _).trans (hC t p t0 t1 p0 p1)) hwo hr hd hw REC ((z.2 3 1).toNat + 1) 0 _ (by omega) (by omega) (hR.sc (XSh.fr hfr1)) ⟨Fr.rf, hch1, hsb1⟩).mono ?_
           rintro o sh' nn' V2 ⟨h1, h2, h3, h4, h5, h6, h7⟩
           rw [exL_B, List.foldl_cons]
           exact ⟨h1, h2, h3, h4, hfr1.tr h5, h6, h7⟩)
theorem TriOK.all {E : ET} : ∀ d : Nat, TriOK E d := by
  intro d
  induction d with
  | zero => intro sh nn V B ow z a wo x r st w hR W hC hwo hr hd hw hch hst; exact eX7_tries hR W hC hwo hr hd hw (fun e he => by omega) hch hst
  | succ d ih => intro sh nn V B ow z a wo x r st w hR W hC hwo hr hd hw hch hst; exact eX7_tries hR W hC hwo hr hd hw (fun e he => (show d = e by omega) ▸ ih) hch hst
set_option maxHeartbeats 4000000 in
theorem kX7_finds {E : ET} {sh : SHT} {nn : Nat × Nat} {V : VT} {B : Nat} {ow : Nat → Nat} {z : ZT} {a : Int} {x wo : Int} (hR : XR ow sh nn V B z) (W : RWZ (z.2 3)) (hC : CanV B V (z.2 3) a) (hn : V.1 (B + 52) 3 = z.2 3 1) (hx0 : 0 ≤ x ∧ x < z.2 3 1) (hwo : -1 ≤ wo ∧ wo ≤ 8) : TN E mX7_finds 14 [.ref (B + 52), .int (iI x), .int (iI wo)] sh nn V (fun V' => XR ow sh nn V' B z ∧ CanV B V' (z.2 3) a ∧ V'.1 (B + 52) 3 = z.2 3 1 ∧ V'.1 (B + 52) 4 = z.2 3 (238 + 3 * (chL (z.2 3) a x wo) + 1) - 1 ∧ V'.1 (B + 52) 5 = (lnkZ (chS (z.2 3) a x wo).1.2 x 8 (chL (z.2 3) a x wo) : Int) + 1 ∧ lnkZ (chS (z.2 3) a x wo).1.2 x 8 (chL (z.2 3) a x wo) + 1 ≤ 8 ∧ ∀ i : Nat, i < lnkZ (chS (z.2 3) a x wo).1.2 x 8 (chL (z.2 3) a x wo) + 1 → V'.1 (B + 55) ((lnkZ (chS (z.2 3) a x wo).1.2 x 8 (chL (z.2 3) a x wo) : Int) - (i : Int)) = itZ (chS (z.2 3) a x wo).1.2 (chL (z.2 3) a x wo) i) := by
  obtain ⟨hB, how, hc, -⟩ := id hR
  have w1 := W.1.2.1
  refine TC.intro [some (.ref (B + 52)), some (.int (iI x)), some (.int (iI wo))] rfl ?_
  refine TGo.al0 dX7_finds_0 rfl ?_
  refine TGo.il2 dX7_finds_1 rfl ?_
  refine TGo.putI (t := 15) 6 6 (hB 52 (by decide)) rfl fpX7_66_7 dX7_finds_2 rfl rfl rfl ?_
  refine TGo.al0 dX7_finds_5 rfl ?_
  refine TGo.icm1 dX7_finds_6 ?_
  refine TGo.putI (t := 15) 4 4 (hB 52 (by decide)) rfl fpX7_69_7 dX7_finds_7 rfl rfl rfl ?_
  refine TGo.al0 dX7_finds_10 rfl ?_
  refine TGo.getS (t := 15) 1 1 (B + 54) (hB 52 (by decide)) rfl fgX7_19_7 dX7_finds_11 rfl rfl rfl ?_
  refine TGo.ic0 dX7_finds_14 ?_
  refine TGo.il1 dX7_finds_15 rfl ?_
  refine TGo.iast dX7_finds_16 (hB 54 (by decide)) (by omega) rfl ?_
  refine TGo.al0 dX7_finds_17 rfl ?_
  refine TGo.ic1 dX7_finds_18 ?_
  refine TGo.toz ((([] : List Int).length : Int) + 1) rfl ?_
  refine TGo.ic1 dX7_finds_19 ?_
  refine TGo.il1 dX7_finds_20 rfl ?_
  refine TGo.toz ((x.toNat : Nat) : Int) (Int.toNat_of_nonneg hx0.1).symm ?_
  refine TGo.ishl dX7_finds_21 ?_
  refine TGo.tos (iI ((2 ^ x.toNat : Nat) : Int)) ((iI_shl (by omega)).trans (by rw [iI_nat])) ?_
  refine TGo.cN (csV2 (y2 := mX7_tries) (t := 15) 13 rfl (hB 52 (by decide)) rfl rfl dX7_finds_22 q1686 q1688 qs31 okX7_tries npX7_tries rfl rfl) (TriOK.all 7 (x := x) (r := []) (w := 2 ^ x.toNat) (st := (-1, V.1 (B + 52) 5, [])) (a := a) (wo := wo) (z := z) (ow := ow) (hR.sc (((FrS.rf.i 52 (by omega)).i 52 (by omega)).i 54 (by omega))) W (fun t p t0 t1 p0 p1 => (u2_n (Or.inl (by omega))).trans ((u2_n (Or.inl (by omega))).trans ((u2_n (Or.inl (by omega))).trans (hC t p t0 t1 p0 p1)))) hwo ⟨fun y hy => by rw [List.mem_singleton.mp hy]; omega, by rw [mkL_s, mkZ_in hx0.1 (show (if x ∈ ([] : List Int) then (0 : Int) else -1) = -1 from if_neg List.not_mem_nil) (by decide) (z.2 3 1).toNat (by omega), show mkL [] = fun _ => -1 from rfl, mkZ_none]; rfl⟩ rfl ⟨(bit_one x.toNat (by omega)).1, fun b hb => by rw [(bit_one x.toNat (by omega)).2 b hb, List.mem_singleton]; omega⟩ ⟨(u2_n (Or.inl (by omega))).trans ((u2_n (Or.inr (by decide))).trans ((u2_n (Or.inr (by decide))).trans hn)), (u2_n (Or.inl (by omega))).trans ((u2_n (Or.inr (by decide))).trans u2_s), fun t ht => by
    obtain rfl : t = 0 := by simpa using ht
    exact u2_s, (u2_n (Or.inl (by omega))).trans u2_s, (u2_n (Or.inl (by omega))).trans ((u2_n (Or.inr (by decide))).trans (u2_n (Or.inr (by decide)))), fun t ht => absurd ht (by simp)⟩ ⟨Or.inl rfl, Int.le_refl (-1), by show (-1 : Int) ≤ 300; decide⟩) (fun V22 h22 => ?_)
  obtain ⟨hR22, hF22, hc22, -⟩ := h22
  refine TGo.vret dX7_finds_25 rfl ?_
  have hC22 : CanV B V22 (z.2 3) a := fun t p t0 t1 p0 p1 => (congrFun (hF22.1 (B + 53) (by simp)) _).trans ((u2_n (Or.inl (by omega))).trans ((u2_n (Or.inl (by omega))).trans ((u2_n (Or.inl (by omega))).trans (hC t p t0 t1 p0 p1))))
  obtain ⟨R, q1, q2, q3, q4, q5⟩ := chain_dfs (ok := (okZ (z.2 3) a wo)) (n := (z.2 3 1).toNat) (x0 := x) (f := z.2 3) (en := (enL (z.2 3))) (by omega) (by omega) (fun y => rfl) (fun y y0 y1 => by have := W.2.2.2.1 y y0 (by omega); omega) (st0 := (-1, V.1 (B + 52) 5, [])) rfl
  rw [q1] at hc22
  obtain ⟨c1, c2, c3, c4, c5, c6⟩ := hc22
  have q2 : R.headD 0 = (chL (z.2 3) a x wo) := q2
  rw [q2] at q3 q5
  have q3 : R.length = lnkZ (chS (z.2 3) a x wo).1.2 x 8 (chL (z.2 3) a x wo) + 1 := q3
  have c4 : V22.1 (B + 52) 4 = z.2 3 (238 + 3 * R.headD 0 + 1) - 1 := c4
  have c5 : V22.1 (B + 52) 5 = (R.length : Int) := c5
  refine ⟨rfl, rfl, rfl, hR22, hC22, c1, by rw [c4, q2], by rw [c5, q3]; rfl, by rw [← q3]; exact q4, fun i hi => ?_⟩
  have c7 := c6 i (by show i < R.length; omega)
  have c7 : V22.1 (B + 55) ((R.length : Int) - 1 - (i : Int)) = R.getD i 0 := c7
  rw [q5 i (by omega), q3] at c7
  rw [show (lnkZ (chS (z.2 3) a x wo).1.2 x 8 (chL (z.2 3) a x wo) : Int) - (i : Int) = ((lnkZ (chS (z.2 3) a x wo).1.2 x 8 (chL (z.2 3) a x wo) + 1 : Nat) : Int) - 1 - (i : Int) by omega]
  exact c7
set_option maxHeartbeats 4000000 in
theorem iX7_lays {E : ET} {sh : SHT} {nn : Nat × Nat} {B : Nat} {ow : Nat → Nat} {z : ZT} {a : Int} {u : Nat} (W : RWZ (z.2 3)) (WL : LawsZ (z.2 3)) (ha : 0 ≤ a ∧ a ≤ 6) (hu : (u : Int) < z.2 3 1) (K : ∀ (V : VT) (x3 x4 x5 x6 x7 : Option Value), XR ow sh nn V B z → V.1 (B + 52) 3 = z.2 3 1 → (∀ t p, 0 ≤ t → t < z.2 3 1 → 0 ≤ p → p < z.2 3 1 → (t < ((u + 1 : Nat) : Int)) → V.1 (B + 53) (8 * t + p) = cnZ (z.2 3) a t p) → TGo E mX7_lays 213 19 [some (.ref (B + 52)), some (.int (iI a)), some (.int (iI (((u + 1) : Nat) : Int))), x3, x4, x5, x6, x7] [] sh nn V (fun o sh' nn' V' => o = .inl none ∧ sh' = sh ∧ nn' = nn ∧ XR ow sh nn V' B z ∧ V'.1 (B + 52) 3 = z.2 3 1 ∧ CanV B V' (z.2 3) a)) : ∀ (n j : Nat) (V : VT) (x4 x5 x6 x7 : Option Value), (z.2 3 1).toNat - j < n → j ≤ (z.2 3 1).toNat → XR ow sh nn V B z → (V.1 (B + 52) 3 = z.2 3 1 ∧ (∀ t p, 0 ≤ t → t < z.2 3 1 → 0 ≤ p → p < z.2 3 1 → (t < (u : Int) ∨ (t = (u : Int) ∧ p < (j : Int))) → V.1 (B + 53) (8 * t + p) = cnZ (z.2 3) a t p)) → TGo E mX7_lays 213 29 [some (.ref (B + 52)), some (.int (iI a)), some (.int (iI (u : Int))), some (.int (iI (((j) : Nat) : Int))), x4, x5, x6, x7] [] sh nn V (fun o sh' nn' V' => o = .inl none ∧ sh' = sh ∧ nn' = nn ∧ XR ow sh nn V' B z ∧ V'.1 (B + 52) 3 = z.2 3 1 ∧ CanV B V' (z.2 3) a) := by
  intro n
  induction n with
  | zero => intro j V x4 x5 x6 x7 h; omega
  | succ n ih =>
    intro j V x4 x5 x6 x7 hn hj hz hx
    obtain ⟨hB, how, hc, -⟩ := id hz
    have w1 := W.1.2.1
    have w7 := W.1.2.2.2.2.2.2.2.1
    obtain ⟨ap, av, al, cp, cv, cl, gp, gv, gl, hne, ⟨hp1, hp2⟩, ⟨hv1, hv2⟩, hl1, hl2⟩ := id hz.2.2.2.1
    have hpt := W.2.2.2.1 (u : Int) (by omega) (by omega)
    have hPt : PeR ow sh V (gp (u : Int).toNat) (z.2 3) (u : Int) := hp2 _ (by omega)
    have ht_ : togZ (z.2 3) (u : Int) (j : Int) = min (z.2 3 (238 + 3 * (u : Int) + 1)) (z.2 3 (238 + 3 * (j : Int) + 1)) - max (z.2 3 (238 + 3 * (u : Int))) (z.2 3 (238 + 3 * (j : Int))) := rfl
    refine TGo.il3 dX7_lays_29 rfl ?_
    refine TGo.al0 dX7_lays_30 rfl ?_
    refine TGo.getI (t := 15) 3 3 (hB 52 (by decide)) rfl fgX7_42_7 dX7_lays_31 rfl rfl rfl ?_
    refine TGo.toz _ (hx.1) ?_
    refine TGo.icmp_ge 157 dX7_lays_34 (by decide) (by omega) (fun h34 => ?_) (fun h34 => ?_)
    · obtain rfl : j = (z.2 3 1).toNat := by omega
      refine TGo.iinc dX7_lays_157 rfl rfl rfl ?_
      refine TGo.goto 19 dX7_lays_160 (by decide) ?_
      exact K V _ _ _ _ _ hz hx.1 (fun t p t0 t1 p0 p1 hq => hx.2 t p t0 t1 p0 p1 (by omega))
    · have hpj := W.2.2.2.1 (j : Int) (by omega) (by omega)
      have hPj : PeR ow sh V (gp (j : Int).toNat) (z.2 3) (j : Int) := hp2 _ (by omega)
      refine TGo.al0 dX7_lays_37 rfl ?_
      refine TGo.getS (t := 15) 7 7 B (hB 52 (by decide)) rfl fgX7_3_7 dX7_lays_38 rfl rfl rfl ?_
      refine TGo.getS (t := 8) 2 2 (B + 2) (hB 0 (by decide)) rfl fgX7_26_0 dX7_lays_41 rfl rfl rfl ?_
      refine TGo.getS (t := 9) 5 5 (B + 26) (hB 2 (by decide)) rfl fgX7_30_1 dX7_lays_44 rfl rfl rfl ?_
      refine TGo.il2 dX7_lays_47 rfl ?_
      refine TGo.toz (((u : Int).toNat : Nat) : Int) (by omega) ?_
      refine TGo.cF (csV1 (y2 := mJ2_get) (t := 20) 3 rfl (hB 26 (by decide)) rfl rfl dX7_lays_48 q1676 q761 q762 okJ2_get npJ2_get rfl rfl) (kJ2_get hp1.1 (k := (u : Int).toNat) (by omega)) ?_
      refine TGo.castO (t := 19) dX7_lays_51 q1677 hPt.2.1 rfl rfl (Or.inl rfl) ?_
      refine TGo.as dX7_lays_54 rfl rfl ?_
      refine TGo.al0 dX7_lays_56 rfl ?_
      refine TGo.getS (t := 15) 7 7 B (hB 52 (by decide)) rfl fgX7_3_7 dX7_lays_57 rfl rfl rfl ?_
      refine TGo.getS (t := 8) 2 2 (B + 2) (hB 0 (by decide)) rfl fgX7_26_0 dX7_lays_60 rfl rfl rfl ?_
      refine TGo.getS (t := 9) 5 5 (B + 26) (hB 2 (by decide)) rfl fgX7_30_1 dX7_lays_63 rfl rfl rfl ?_
      refine TGo.il3 dX7_lays_66 rfl ?_
      refine TGo.toz (((j : Int).toNat : Nat) : Int) (by omega) ?_
      refine TGo.cF (csV1 (y2 := mJ2_get) (t := 20) 3 rfl (hB 26 (by decide)) rfl rfl dX7_lays_67 q1676 q761 q762 okJ2_get npJ2_get rfl rfl) (kJ2_get hp1.1 (k := (j : Int).toNat) (by omega)) ?_
      refine TGo.castO (t := 19) dX7_lays_70 q1677 hPj.2.1 rfl rfl (Or.inl rfl) ?_
      refine TGo.as dX7_lays_73 rfl rfl ?_
      refine TGo.al dX7_lays_75 rfl ?_
      refine TGo.al dX7_lays_77 rfl ?_
      refine TGo.cF (csV1 (y2 := mX11_together) (t := 19) 3 rfl hPt.2.1 rfl rfl dX7_lays_79 q1678 q1505 q1506 okX11_together npX11_together rfl rfl) (kX11_together hPt.2.1 hPj.2.1 hPt.2.2.1 hPj.2.2.1 hPt.2.2.2.1 hPj.2.2.2.1 (by omega) (by omega) (by omega) (by omega)) ?_
      refine TGo.toz (togZ (z.2 3) (u : Int) (j : Int)) rfl ?_
      refine TGo.is dX7_lays_82 rfl rfl ?_
      refine TGo.al dX7_lays_84 rfl ?_
      refine TGo.al dX7_lays_86 rfl ?_
      refine TGo.cF (csV1 (y2 := mX11_meets) (t := 19) 2 rfl hPt.2.1 rfl rfl dX7_lays_88 q1679 q1510 q1511 okX11_meets npX11_meets rfl rfl) (kX11_meets hPt.2.1 hPj.2.1 hPt.2.2.1 hPj.2.2.1 (by omega) (by omega)) ?_
      refine TGo.toz (max (z.2 3 (238 + 3 * (u : Int))) (z.2 3 (238 + 3 * (j : Int)))) rfl ?_
      refine TGo.is dX7_lays_91 rfl rfl ?_
      refine TGo.al0 dX7_lays_93 rfl ?_
      refine TGo.getS (t := 15) 0 0 (B + 53) (hB 52 (by decide)) rfl fgX7_15_7 dX7_lays_94 rfl rfl rfl ?_
      refine TGo.bip 8 dX7_lays_97 (by decide) ?_
      refine TGo.il2 dX7_lays_99 rfl ?_
      refine TGo.imul dX7_lays_100 ?_
      refine TGo.il3 dX7_lays_101 rfl ?_
      refine TGo.iadd dX7_lays_102 ?_
      refine TGo.il2 dX7_lays_103 rfl ?_
      refine TGo.il3 dX7_lays_104 rfl ?_
      refine TGo.icmp_eq 149 dX7_lays_105 (by decide) (by omega) (fun h105 => ?_) (fun h105 => ?_)
      · refine TGo.ic0 dX7_lays_149 ?_
        refine TGo.zast dX7_lays_150 (hB 53 (by decide)) (by omega) rfl (by first | exact Or.inl rfl | exact Or.inr rfl | exact bZ_or _ | assumption) ?_
        refine TGo.iinc dX7_lays_151 rfl rfl rfl ?_
        refine TGo.goto 29 dX7_lays_154 (by decide) ?_
        exact TGo.seq [some (.ref (B + 52)), some (.int (iI a)), some (.int (iI (u : Int))), some (.int (iI ((((j + 1)) : Nat) : Int))), _, _, _, _] [] _ (rfl) rfl rfl (ih (j + 1) _ _ _ _ _ (by omega) (by omega) (hz.sc (FrS.rf.i 53 (by omega))) (by
          refine ⟨(u2_n (Or.inl (by omega))).trans hx.1, fun t p t0 t1 p0 p1 hq => ?_⟩
          by_cases e : t = (u : Int) ∧ p = (j : Int)
          · rw [e.1, e.2]
            refine u2_s.trans ?_
            first
            | (exfalso; omega)
            | (refine (cnZ_1 ?_).symm
               unfold canZ
               exact ⟨by omega, by omega, by omega, by omega⟩)
            | (refine (cnZ_0 ?_).symm
               unfold canZ
               omega)
          · refine (u2_n (Or.inr (by omega))).trans ((congrFun (congrFun (rfl : _ = V.1) (B + 53)) _).trans (hx.2 t p t0 t1 p0 p1 (by omega)))))
      · refine TGo.il dX7_lays_108 rfl ?_
        refine TGo.if_le 149 dX7_lays_110 (by decide) (by omega) (fun h110 => ?_) (fun h110 => ?_)
        · refine TGo.ic0 dX7_lays_149 ?_
          refine TGo.zast dX7_lays_150 (hB 53 (by decide)) (by omega) rfl (by first | exact Or.inl rfl | exact Or.inr rfl | exact bZ_or _ | assumption) ?_
          refine TGo.iinc dX7_lays_151 rfl rfl rfl ?_
          refine TGo.goto 29 dX7_lays_154 (by decide) ?_
          exact TGo.seq [some (.ref (B + 52)), some (.int (iI a)), some (.int (iI (u : Int))), some (.int (iI ((((j + 1)) : Nat) : Int))), _, _, _, _] [] _ (rfl) rfl rfl (ih (j + 1) _ _ _ _ _ (by omega) (by omega) (hz.sc (FrS.rf.i 53 (by omega))) (by
            refine ⟨(u2_n (Or.inl (by omega))).trans hx.1, fun t p t0 t1 p0 p1 hq => ?_⟩
            by_cases e : t = (u : Int) ∧ p = (j : Int)
            · rw [e.1, e.2]
              refine u2_s.trans ?_
              first
              | (exfalso; omega)
              | (refine (cnZ_1 ?_).symm
                 unfold canZ
                 exact ⟨by omega, by omega, by omega, by omega⟩)
              | (refine (cnZ_0 ?_).symm
                 unfold canZ
                 omega)
            · refine (u2_n (Or.inr (by omega))).trans ((congrFun (congrFun (rfl : _ = V.1) (B + 53)) _).trans (hx.2 t p t0 t1 p0 p1 (by omega)))))
        · refine TGo.al0 dX7_lays_113 rfl ?_
          refine TGo.getS (t := 15) 7 7 B (hB 52 (by decide)) rfl fgX7_3_7 dX7_lays_114 rfl rfl rfl ?_
          refine TGo.il3 dX7_lays_117 rfl ?_
          refine TGo.il1 dX7_lays_118 rfl ?_
          refine TGo.il2 dX7_lays_119 rfl ?_
          refine TGo.il dX7_lays_120 rfl ?_
          refine TGo.cS (csVN4 (y2 := mX0_isBarred) (t := 8) 212 rfl (hB 0 (by decide)) rfl rfl dX7_lays_122 q1680 q1441 qs16 okX0_isBarred npX0_isBarred rfl rfl) (kX0_isBarred hz W WL (by omega) ha (by omega) (by omega)) (fun v122 V122 h122 => ?_)
          obtain ⟨rfl, hRb, hFb⟩ := h122
          have h3b : V122.1 (B + 52) 3 = z.2 3 1 := by rw [hFb.1]; exact hx.1
          refine TGo.ifb_ne 149 dX7_lays_125 (by decide) (fun h125 => ?_) (fun h125 => ?_)
          · refine TGo.ic0 dX7_lays_149 ?_
            refine TGo.zast dX7_lays_150 (hB 53 (by decide)) (by omega) rfl (by first | exact Or.inl rfl | exact Or.inr rfl | exact bZ_or _ | assumption) ?_
            refine TGo.iinc dX7_lays_151 rfl rfl rfl ?_
            refine TGo.goto 29 dX7_lays_154 (by decide) ?_
            exact TGo.seq [some (.ref (B + 52)), some (.int (iI a)), some (.int (iI (u : Int))), some (.int (iI ((((j + 1)) : Nat) : Int))), _, _, _, _] [] _ (rfl) rfl rfl (ih (j + 1) _ _ _ _ _ (by omega) (by omega) (hRb.sc (FrS.rf.i 53 (by omega))) (by
              refine ⟨(u2_n (Or.inl (by omega))).trans h3b, fun t p t0 t1 p0 p1 hq => ?_⟩
              by_cases e : t = (u : Int) ∧ p = (j : Int)
              · rw [e.1, e.2]
                refine u2_s.trans ?_
                first
                | (exfalso; omega)
                | (refine (cnZ_1 ?_).symm
                   unfold canZ
                   exact ⟨by omega, by omega, by omega, by omega⟩)
                | (refine (cnZ_0 ?_).symm
                   unfold canZ
                   omega)
              · refine (u2_n (Or.inr (by omega))).trans ((congrFun (congrFun (hFb.1 : _ = V.1) (B + 53)) _).trans (hx.2 t p t0 t1 p0 p1 (by omega)))))
          · refine TGo.il dX7_lays_128 rfl ?_
            refine TGo.al0 dX7_lays_130 rfl ?_
            refine TGo.getS (t := 15) 7 7 B (hB 52 (by decide)) rfl fgX7_3_7 dX7_lays_131 rfl rfl rfl ?_
            refine TGo.il3 dX7_lays_134 rfl ?_
            refine TGo.il1 dX7_lays_135 rfl ?_
            refine TGo.il2 dX7_lays_136 rfl ?_
            refine TGo.il dX7_lays_137 rfl ?_
            refine TGo.cS (csVN4 (y2 := mX0_hours) (t := 8) 212 rfl (hB 0 (by decide)) rfl rfl dX7_lays_139 q1681 q1437 qs15 okX0_hours npX0_hours rfl rfl) (kX0_hours hRb W WL (by omega) ha (by omega) (by omega)) (fun v139 V139 h139 => ?_)
            obtain ⟨rfl, hRc, hFc⟩ := h139
            have h3c : V139.1 (B + 52) 3 = z.2 3 1 := by rw [hFc.1]; exact h3b
            have hhr := hourZ_r (z.2 3) (j : Int) a (u : Int) (max (z.2 3 (238 + 3 * (u : Int))) (z.2 3 (238 + 3 * (j : Int))))
            refine TGo.icmp_lt 149 dX7_lays_142 (by decide) (by omega) (fun h142 => ?_) (fun h142 => ?_)
            · refine TGo.ic0 dX7_lays_149 ?_
              refine TGo.zast dX7_lays_150 (hB 53 (by decide)) (by omega) rfl (by first | exact Or.inl rfl | exact Or.inr rfl | exact bZ_or _ | assumption) ?_
              refine TGo.iinc dX7_lays_151 rfl rfl rfl ?_
              refine TGo.goto 29 dX7_lays_154 (by decide) ?_
              exact TGo.seq [some (.ref (B + 52)), some (.int (iI a)), some (.int (iI (u : Int))), some (.int (iI ((((j + 1)) : Nat) : Int))), _, _, _, _] [] _ (rfl) rfl rfl (ih (j + 1) _ _ _ _ _ (by omega) (by omega) (hRc.sc (FrS.rf.i 53 (by omega))) (by
                refine ⟨(u2_n (Or.inl (by omega))).trans h3c, fun t p t0 t1 p0 p1 hq => ?_⟩
                by_cases e : t = (u : Int) ∧ p = (j : Int)
                · rw [e.1, e.2]
                  refine u2_s.trans ?_
                  first
                  | (exfalso; omega)
                  | (refine (cnZ_1 ?_).symm
                     unfold canZ
                     exact ⟨by omega, by omega, by omega, by omega⟩)
                  | (refine (cnZ_0 ?_).symm
                     unfold canZ
                     omega)
                · refine (u2_n (Or.inr (by omega))).trans ((congrFun (congrFun ((hFc.1.trans hFb.1) : _ = V.1) (B + 53)) _).trans (hx.2 t p t0 t1 p0 p1 (by omega)))))
            · refine TGo.ic1 dX7_lays_145 ?_
              refine TGo.goto 150 dX7_lays_146 (by decide) ?_
              refine TGo.zast dX7_lays_150 (hB 53 (by decide)) (by omega) rfl (by first | exact Or.inl rfl | exact Or.inr rfl | exact bZ_or _ | assumption) ?_
              refine TGo.iinc dX7_lays_151 rfl rfl rfl ?_
              refine TGo.goto 29 dX7_lays_154 (by decide) ?_
              exact TGo.seq [some (.ref (B + 52)), some (.int (iI a)), some (.int (iI (u : Int))), some (.int (iI ((((j + 1)) : Nat) : Int))), _, _, _, _] [] _ (rfl) rfl rfl (ih (j + 1) _ _ _ _ _ (by omega) (by omega) (hRc.sc (FrS.rf.i 53 (by omega))) (by
                refine ⟨(u2_n (Or.inl (by omega))).trans h3c, fun t p t0 t1 p0 p1 hq => ?_⟩
                by_cases e : t = (u : Int) ∧ p = (j : Int)
                · rw [e.1, e.2]
                  refine u2_s.trans ?_
                  first
                  | (exfalso; omega)
                  | (refine (cnZ_1 ?_).symm
                     unfold canZ
                     exact ⟨by omega, by omega, by omega, by omega⟩)
                  | (refine (cnZ_0 ?_).symm
                     unfold canZ
                     omega)
                · refine (u2_n (Or.inr (by omega))).trans ((congrFun (congrFun ((hFc.1.trans hFb.1) : _ = V.1) (B + 53)) _).trans (hx.2 t p t0 t1 p0 p1 (by omega)))))
set_option maxHeartbeats 4000000 in
theorem lX7_lays {E : ET} {sh : SHT} {nn : Nat × Nat} {B : Nat} {ow : Nat → Nat} {z : ZT} {a : Int} (W : RWZ (z.2 3)) (WL : LawsZ (z.2 3)) (ha : 0 ≤ a ∧ a ≤ 6) : ∀ (n j : Nat) (V : VT) (x3 x4 x5 x6 x7 : Option Value), (z.2 3 1).toNat - j < n → j ≤ (z.2 3 1).toNat → XR ow sh nn V B z → (V.1 (B + 52) 3 = z.2 3 1 ∧ (∀ t p, 0 ≤ t → t < z.2 3 1 → 0 ≤ p → p < z.2 3 1 → (t < (j : Int)) → V.1 (B + 53) (8 * t + p) = cnZ (z.2 3) a t p)) → TGo E mX7_lays 213 19 [some (.ref (B + 52)), some (.int (iI a)), some (.int (iI (((j) : Nat) : Int))), x3, x4, x5, x6, x7] [] sh nn V (fun o sh' nn' V' => o = .inl none ∧ sh' = sh ∧ nn' = nn ∧ XR ow sh nn V' B z ∧ V'.1 (B + 52) 3 = z.2 3 1 ∧ CanV B V' (z.2 3) a) := by
  intro n
  induction n with
  | zero => intro j V x3 x4 x5 x6 x7 h; omega
  | succ n ih =>
    intro j V x3 x4 x5 x6 x7 hn hj hz hx
    obtain ⟨hB, how, hc, -⟩ := id hz
    have w1 := W.1.2.1
    refine TGo.il2 dX7_lays_19 rfl ?_
    refine TGo.al0 dX7_lays_20 rfl ?_
    refine TGo.getI (t := 15) 3 3 (hB 52 (by decide)) rfl fgX7_42_7 dX7_lays_21 rfl rfl rfl ?_
    refine TGo.toz _ (hx.1) ?_
    refine TGo.icmp_ge 163 dX7_lays_24 (by decide) (by omega) (fun h24 => ?_) (fun h24 => ?_)
    · refine TGo.vret dX7_lays_163 rfl ?_
      obtain rfl : j = (z.2 3 1).toNat := by omega
      exact ⟨rfl, rfl, rfl, hz, hx.1, fun t p t0 t1 p0 p1 => hx.2 t p t0 t1 p0 p1 (by omega)⟩
    · refine TGo.ic0 dX7_lays_27 ?_
      refine TGo.is3 dX7_lays_28 rfl rfl ?_
      exact TGo.seq [some (.ref (B + 52)), some (.int (iI a)), some (.int (iI (j : Int))), some (.int (iI (((0) : Nat) : Int))), x4, x5, x6, x7] [] _ rfl rfl rfl (iX7_lays (u := j) W WL ha (by omega) (fun V1 y3 y4 y5 y6 y7 hz1 h1 h2 => ih (j + 1) V1 y3 y4 y5 y6 y7 (by omega) (by omega) hz1 ⟨h1, h2⟩) ((z.2 3 1).toNat + 1) 0 V x4 x5 x6 x7 (by omega) (by omega) hz ⟨hx.1, fun t p t0 t1 p0 p1 hq => hx.2 t p t0 t1 p0 p1 (by omega)⟩)
set_option maxHeartbeats 4000000 in
theorem kX7_lays {E : ET} {sh : SHT} {nn : Nat × Nat} {V : VT} {B : Nat} {ow : Nat → Nat} {z : ZT} {a : Int} (hR : XR ow sh nn V B z) (W : RWZ (z.2 3)) (WL : LawsZ (z.2 3)) (ha : 0 ≤ a ∧ a ≤ 6) : TN E mX7_lays 213 [.ref (B + 52), .int (iI a)] sh nn V (fun V' => XR ow sh nn V' B z ∧ V'.1 (B + 52) 3 = z.2 3 1 ∧ CanV B V' (z.2 3) a) := by
  obtain ⟨hB, -, hc, -⟩ := id hR
  have w1 := W.1.2.1
  obtain ⟨ap, av, al, cp, cv, cl, gp, gv, gl, hne, ⟨hp1, hp2⟩, ⟨hv1, hv2⟩, hl1, hl2⟩ := id hR.2.2.2.1
  refine TC.intro [some (.ref (B + 52)), some (.int (iI a)), none, none, none, none, none, none] rfl ?_
  refine TGo.al0 dX7_lays_0 rfl ?_
  refine TGo.al0 dX7_lays_1 rfl ?_
  refine TGo.getS (t := 15) 7 7 B (hB 52 (by decide)) rfl fgX7_3_7 dX7_lays_2 rfl rfl rfl ?_
  refine TGo.getS (t := 8) 2 2 (B + 2) (hB 0 (by decide)) rfl fgX7_26_0 dX7_lays_5 rfl rfl rfl ?_
  refine TGo.getS (t := 9) 5 5 (B + 26) (hB 2 (by decide)) rfl fgX7_30_1 dX7_lays_8 rfl rfl rfl ?_
  refine TGo.cF (csV0 (y2 := mJ2_size) (t := 20) 1 rfl (hB 26 (by decide)) rfl rfl dX7_lays_11 q1675 q757 q758 okJ2_size npJ2_size rfl rfl) (kJ2_size hp1.1) ?_
  refine TGo.toz (z.2 3 1) (Int.toNat_of_nonneg (by omega)) ?_
  refine TGo.putI (t := 15) 3 3 (hB 52 (by decide)) rfl fpX7_42_7 dX7_lays_14 rfl rfl rfl ?_
  refine TGo.ic0 dX7_lays_17 ?_
  refine TGo.is2 dX7_lays_18 rfl rfl ?_
  exact lX7_lays W WL ha ((z.2 3 1).toNat + 1) 0 _ _ _ _ _ _ (by omega) (by omega) (hR.sc (FrS.rf.i 52 (by omega))) ⟨u2_s, fun t p t0 t1 p0 p1 hq => by omega⟩
set_option maxHeartbeats 4000000 in
theorem lX0_needless {E : ET} {sh : SHT} {nn : Nat × Nat} {B : Nat} {ow : Nat → Nat} {z : ZT} {a x : Int} (W : RWZ (z.2 3)) (hx0 : 0 ≤ x ∧ x < z.2 3 1) : ∀ (n j : Nat) (V : VT), (z.2 3 1).toNat - j < n → j ≤ (z.2 3 1).toNat → XR ow sh nn V B z → (CanV B V (z.2 3) a ∧ V.1 (B + 52) 3 = z.2 3 1) → TGo E mX0_needless 15 13 [some (.ref B), some (.int (iI x)), some (.int (iI ((z.2 3 (238 + 3 * (chL (z.2 3) a x (-1)) + 1)) - 1))), some (.int (iI (mbZ (ndZ (z.2 3) a x) 1 (j)))), some (.int (iI (((j) : Nat) : Int)))] [] sh nn V (fun o sh' nn' V' => ∃ v, o = .inl (some v) ∧ sh' = sh ∧ nn' = nn ∧ v = .int (iI (mbZ (ndZ (z.2 3) a x) 1 (z.2 3 1).toNat)) ∧ XR ow sh nn V' B z) := by
  intro n
  induction n with
  | zero => intro j V h; omega
  | succ n ih =>
    intro j V hn hj hz hx
    obtain ⟨hB, how, hc, -⟩ := id hz
    have w1 := W.1.2.1
    obtain ⟨ap, av, al, cp, cv, cl, gp, gv, gl, hne, ⟨hp1, hp2⟩, ⟨hv1, hv2⟩, hl1, hl2⟩ := id hz.2.2.2.1
    have hb2 := mbZ_r (ndZ (z.2 3) a x) 1 j
    have hcl := chL_ok W (a := a) (x0 := x) (wo := -1) hx0
    have hcj := chL_ok W (a := a) (x0 := x) (wo := (j : Int)) hx0
    have hd1 := W.2.2.2.1 (chL (z.2 3) a x (-1)) hcl.1.1 hcl.1.2
    have hd2 := W.2.2.2.1 (chL (z.2 3) a x (j : Int)) hcj.1.1 hcj.1.2
    have hms : mbZ (ndZ (z.2 3) a x) 1 (j + 1) = mbZ (ndZ (z.2 3) a x) 1 j + if ndZ (z.2 3) a x (j : Int) = 1 then ((2 ^ j : Nat) : Int) else 0 := rfl
    have hnd : ndZ (z.2 3) a x (j : Int) = 1 ↔ ((j : Int) ≠ x ∧ (z.2 3 (238 + 3 * (chL (z.2 3) a x (j : Int)) + 1)) = (z.2 3 (238 + 3 * (chL (z.2 3) a x (-1)) + 1))) := bZ_1
    refine TGo.il dX0_needless_13 rfl ?_
    refine TGo.al0 dX0_needless_15 rfl ?_
    refine TGo.getS (t := 8) 2 2 (B + 2) (hB 0 (by decide)) rfl fgX0_16_0 dX0_needless_16 rfl rfl rfl ?_
    refine TGo.getS (t := 9) 5 5 (B + 26) (hB 2 (by decide)) rfl fgX0_126_1 dX0_needless_19 rfl rfl rfl ?_
    refine TGo.cF (csV0 (y2 := mJ2_size) (t := 20) 1 rfl (hB 26 (by decide)) rfl rfl dX0_needless_22 q756 q757 q758 okJ2_size npJ2_size rfl rfl) (kJ2_size hp1.1) ?_
    refine TGo.toz (z.2 3 1) (Int.toNat_of_nonneg (by omega)) ?_
    refine TGo.icmp_ge 75 dX0_needless_25 (by decide) (by omega) (fun h25 => ?_) (fun h25 => ?_)
    · refine TGo.il3 dX0_needless_75 rfl ?_
      refine TGo.iret dX0_needless_76 rfl ?_
      obtain rfl : j = (z.2 3 1).toNat := by omega
      exact ⟨_, rfl, rfl, rfl, rfl, hz⟩
    · refine TGo.il dX0_needless_28 rfl ?_
      refine TGo.il1 dX0_needless_30 rfl ?_
      refine TGo.icmp_ne 37 dX0_needless_31 (by decide) (by omega) (fun h31 => ?_) (fun h31 => ?_)
      · refine TGo.al0 dX0_needless_37 rfl ?_
        refine TGo.getS (t := 8) 14 14 (B + 52) (hB 0 (by decide)) rfl fgX0_71_0 dX0_needless_38 rfl rfl rfl ?_
        refine TGo.il1 dX0_needless_41 rfl ?_
        refine TGo.il dX0_needless_42 rfl ?_
        refine TGo.cN (csV2 (y2 := mX7_finds) (t := 15) 14 rfl (hB 52 (by decide)) rfl rfl dX0_needless_44 q1682 q1683 q1684 okX7_finds npX7_finds rfl rfl) (kX7_finds hz W hx.1 hx.2 hx0 (by omega)) (fun V44 h44 => ?_)
        obtain ⟨hR44, hC44, hn44, q4, -⟩ := h44
        refine TGo.il3 dX0_needless_47 rfl ?_
        refine TGo.al0 dX0_needless_48 rfl ?_
        refine TGo.getS (t := 8) 14 14 (B + 52) (hB 0 (by decide)) rfl fgX0_71_0 dX0_needless_49 rfl rfl rfl ?_
        refine TGo.getI (t := 15) 4 4 (hB 52 (by decide)) rfl fgX0_466_7 dX0_needless_52 rfl rfl rfl ?_
        refine TGo.toz _ (q4) ?_
        refine TGo.il2 dX0_needless_55 rfl ?_
        refine TGo.icmp_ne 66 dX0_needless_56 (by decide) (by omega) (fun h56 => ?_) (fun h56 => ?_)
        · refine TGo.ic0 dX0_needless_66 ?_
          refine TGo.ior dX0_needless_67 ?_
          first | (refine TGo.tos _ (iI_or0 _) ?_) | (refine TGo.tos _ (iI_orb hb2 (by omega)) ?_)
          refine TGo.is3 dX0_needless_68 rfl rfl ?_
          refine TGo.iinc dX0_needless_69 rfl rfl rfl ?_
          refine TGo.goto 13 dX0_needless_72 (by decide) ?_
          exact TGo.seq [some (.ref B), some (.int (iI x)), some (.int (iI ((z.2 3 (238 + 3 * (chL (z.2 3) a x (-1)) + 1)) - 1))), some (.int (iI (mbZ (ndZ (z.2 3) a x) 1 ((j + 1))))), some (.int (iI ((((j + 1)) : Nat) : Int)))] [] _ (by rw [hms]; first | (rw [if_pos (hnd.mpr (by omega))]; rfl) | (rw [if_neg (fun q => by have := hnd.mp q; omega), Int.add_zero]; rfl)) rfl rfl (ih (j + 1) _ (by omega) (by omega) hR44 ⟨hC44, hn44⟩)
        · refine TGo.ic1 dX0_needless_59 ?_
          refine TGo.il dX0_needless_60 rfl ?_
          refine TGo.ishl dX0_needless_62 ?_
          refine TGo.goto 67 dX0_needless_63 (by decide) ?_
          refine TGo.ior dX0_needless_67 ?_
          first | (refine TGo.tos _ (iI_or0 _) ?_) | (refine TGo.tos _ (iI_orb hb2 (by omega)) ?_)
          refine TGo.is3 dX0_needless_68 rfl rfl ?_
          refine TGo.iinc dX0_needless_69 rfl rfl rfl ?_
          refine TGo.goto 13 dX0_needless_72 (by decide) ?_
          exact TGo.seq [some (.ref B), some (.int (iI x)), some (.int (iI ((z.2 3 (238 + 3 * (chL (z.2 3) a x (-1)) + 1)) - 1))), some (.int (iI (mbZ (ndZ (z.2 3) a x) 1 ((j + 1))))), some (.int (iI ((((j + 1)) : Nat) : Int)))] [] _ (by rw [hms]; first | (rw [if_pos (hnd.mpr (by omega))]; rfl) | (rw [if_neg (fun q => by have := hnd.mp q; omega), Int.add_zero]; rfl)) rfl rfl (ih (j + 1) _ (by omega) (by omega) hR44 ⟨hC44, hn44⟩)
      · refine TGo.goto 69 dX0_needless_34 (by decide) ?_
        refine TGo.iinc dX0_needless_69 rfl rfl rfl ?_
        refine TGo.goto 13 dX0_needless_72 (by decide) ?_
        exact TGo.seq [some (.ref B), some (.int (iI x)), some (.int (iI ((z.2 3 (238 + 3 * (chL (z.2 3) a x (-1)) + 1)) - 1))), some (.int (iI (mbZ (ndZ (z.2 3) a x) 1 ((j + 1))))), some (.int (iI ((((j + 1)) : Nat) : Int)))] [] _ (by rw [hms]; first | (rw [if_pos (hnd.mpr (by omega))]; rfl) | (rw [if_neg (fun q => by have := hnd.mp q; omega), Int.add_zero]; rfl)) rfl rfl (ih (j + 1) _ (by omega) (by omega) hz hx)
set_option maxHeartbeats 4000000 in
theorem kX0_needless {E : ET} {sh : SHT} {nn : Nat × Nat} {V : VT} {B : Nat} {ow : Nat → Nat} {z : ZT} {a : Int} {x : Int} (hR : XR ow sh nn V B z) (W : RWZ (z.2 3)) (hC : CanV B V (z.2 3) a) (hn : V.1 (B + 52) 3 = z.2 3 1) (hx0 : 0 ≤ x ∧ x < z.2 3 1) (h4 : V.1 (B + 52) 4 = (z.2 3 (238 + 3 * (chL (z.2 3) a x (-1)) + 1)) - 1) : TS E mX0_needless 15 [.ref B, .int (iI x)] sh nn V (fun v V' => v = .int (iI (mbZ (ndZ (z.2 3) a x) 1 (z.2 3 1).toNat)) ∧ XR ow sh nn V' B z) := by
  obtain ⟨hB, -, hc, -⟩ := id hR
  have w1 := W.1.2.1
  refine TC.intro [some (.ref B), some (.int (iI x)), none, none, none] rfl ?_
  refine TGo.al0 dX0_needless_0 rfl ?_
  refine TGo.getS (t := 8) 14 14 (B + 52) (hB 0 (by decide)) rfl fgX0_71_0 dX0_needless_1 rfl rfl rfl ?_
  refine TGo.getI (t := 15) 4 4 (hB 52 (by decide)) rfl fgX0_466_7 dX0_needless_4 rfl rfl rfl ?_
  refine TGo.toz _ (h4) ?_
  refine TGo.is2 dX0_needless_7 rfl rfl ?_
  refine TGo.ic0 dX0_needless_8 ?_
  refine TGo.is3 dX0_needless_9 rfl rfl ?_
  refine TGo.ic0 dX0_needless_10 ?_
  refine TGo.is dX0_needless_11 rfl rfl ?_
  exact lX0_needless W hx0 ((z.2 3 1).toNat + 1) 0 _ (by omega) (by omega) hR ⟨hC, hn⟩
set_option maxHeartbeats 4000000 in
theorem kX0_chain {E : ET} {sh : SHT} {nn : Nat × Nat} {V : VT} {B : Nat} {ow : Nat → Nat} {z : ZT} {a p w : Int} (hR : XR ow sh nn V B z) (W : RWZ (z.2 3)) (WL : LawsZ (z.2 3)) (ra : R32 a) (rp : R32 p) (rw : R32 w) : TC E mX0_chain 214 [.ref B, .int (iI a), .int (iI p), .int (iI w)] sh nn V (XP B nn (zp_chain z a p w)) := by
  obtain ⟨hB, -, hc, -⟩ := id hR
  have w0 := W.1.1
  have w1 := W.1.2.1
  obtain ⟨ap, av, al, cp, cv, cl, gp, gv, gl, hne, ⟨hp1, hp2⟩, ⟨hv1, hv2⟩, hl1, hl2⟩ := id hR.2.2.2.1
  refine TC.intro [some (.ref B), some (.int (iI a)), some (.int (iI p)), some (.int (iI w))] rfl ?_
  refine TGo.al0 dX0_chain_0 rfl ?_
  refine TGo.il1 dX0_chain_1 rfl ?_
  refine TGo.cF (csV1 (y2 := mX0_isPart) (t := 8) 2 rfl (hB 0 (by decide)) rfl rfl dX0_chain_2 q721 q723 qs4 okX0_isPart npX0_isPart rfl rfl) (kX0_isPart hB hc w0 (by omega)) ?_
  refine TGo.ifb_eq 32 dX0_chain_5 (by decide) (fun h5 => ?_) (fun h5 => ?_)
  · refine TGo.icm1 dX0_chain_32 ?_
    refine TGo.iret dX0_chain_33 rfl ?_
    first
    | (exfalso; omega)
    | (refine hR.same ?_
       unfold zp_chain
       rw [if_pos (by omega)])
    | (refine hR59.same ?_
       unfold zp_chain chainZ
       rw [if_neg (by omega), if_neg (by omega), if_neg (by omega), if_pos (by omega)])
    | (refine hR48.same ?_
       unfold zp_chain chainZ chN
       rw [if_neg (by omega)]
       refine congrArg (fun q => (q, z)) ?_
       first
       | (rw [if_pos (show w = 0 by omega)])
       | (rw [if_neg (show ¬ w = 0 by omega), if_pos (show w = 1 by omega)])
       | (rw [if_neg (show ¬ w = 0 by omega), if_neg (show ¬ w = 1 by omega), if_neg (show ¬ w = 20 by omega), if_neg (by omega)])
       | (rw [if_neg (show ¬ w = 0 by omega), if_neg (show ¬ w = 1 by omega), if_neg (show ¬ w = 20 by omega), if_pos (by omega)]
          have q8 := q7 ((((lnkZ (chS (z.2 3) a p (-1)).1.2 p 8 (chL (z.2 3) a p (-1))) : Nat) : Int) + 1 - 1 - (w - 2)).toNat (by omega)
          rw [show ((((lnkZ (chS (z.2 3) a p (-1)).1.2 p 8 (chL (z.2 3) a p (-1))) : Nat) : Int) - ((((((lnkZ (chS (z.2 3) a p (-1)).1.2 p 8 (chL (z.2 3) a p (-1))) : Nat) : Int) + 1 - 1 - (w - 2)).toNat : Nat) : Int)) = w - 2 by omega] at q8
          exact q8.symm))
  · refine TGo.al0 dX0_chain_8 rfl ?_
    refine TGo.il2 dX0_chain_9 rfl ?_
    refine TGo.cF (csV1 (y2 := mX0_isPerson) (t := 8) 2 rfl (hB 0 (by decide)) rfl rfl dX0_chain_10 q815 q817 qs7 okX0_isPerson npX0_isPerson rfl rfl) (kX0_isPerson hR W (by omega)) ?_
    refine TGo.ifb_eq 32 dX0_chain_13 (by decide) (fun h13 => ?_) (fun h13 => ?_)
    · refine TGo.icm1 dX0_chain_32 ?_
      refine TGo.iret dX0_chain_33 rfl ?_
      first
      | (exfalso; omega)
      | (refine hR.same ?_
         unfold zp_chain
         rw [if_pos (by omega)])
      | (refine hR59.same ?_
         unfold zp_chain chainZ
         rw [if_neg (by omega), if_neg (by omega), if_neg (by omega), if_pos (by omega)])
      | (refine hR48.same ?_
         unfold zp_chain chainZ chN
         rw [if_neg (by omega)]
         refine congrArg (fun q => (q, z)) ?_
         first
         | (rw [if_pos (show w = 0 by omega)])
         | (rw [if_neg (show ¬ w = 0 by omega), if_pos (show w = 1 by omega)])
         | (rw [if_neg (show ¬ w = 0 by omega), if_neg (show ¬ w = 1 by omega), if_neg (show ¬ w = 20 by omega), if_neg (by omega)])
         | (rw [if_neg (show ¬ w = 0 by omega), if_neg (show ¬ w = 1 by omega), if_neg (show ¬ w = 20 by omega), if_pos (by omega)]
            have q8 := q7 ((((lnkZ (chS (z.2 3) a p (-1)).1.2 p 8 (chL (z.2 3) a p (-1))) : Nat) : Int) + 1 - 1 - (w - 2)).toNat (by omega)
            rw [show ((((lnkZ (chS (z.2 3) a p (-1)).1.2 p 8 (chL (z.2 3) a p (-1))) : Nat) : Int) - ((((((lnkZ (chS (z.2 3) a p (-1)).1.2 p 8 (chL (z.2 3) a p (-1))) : Nat) : Int) + 1 - 1 - (w - 2)).toNat : Nat) : Int)) = w - 2 by omega] at q8
            exact q8.symm))
    · refine TGo.il3 dX0_chain_16 rfl ?_
      refine TGo.ic0 dX0_chain_17 ?_
      refine TGo.bip 9 dX0_chain_18 (by decide) ?_
      refine TGo.cF (csS3 (y2 := mX0_in) 1 rfl dX0_chain_20 q598 q599 okX0_in npX0_in rfl rfl) (kX0_in (by omega) (by omega) (by omega)) ?_
      refine TGo.ifb_ne 34 dX0_chain_23 (by decide) (fun h23 => ?_) (fun h23 => ?_)
      · refine TGo.al0 dX0_chain_34 rfl ?_
        refine TGo.getS (t := 8) 14 14 (B + 52) (hB 0 (by decide)) rfl fgX0_71_0 dX0_chain_35 rfl rfl rfl ?_
        refine TGo.il1 dX0_chain_38 rfl ?_
        refine TGo.cN (csV1 (y2 := mX7_lays) (t := 15) 213 rfl (hB 52 (by decide)) rfl rfl dX0_chain_39 q1671 q1672 q1673 okX7_lays npX7_lays rfl rfl) (kX7_lays hR W WL (by omega)) (fun V39 h39 => ?_)
        obtain ⟨hR39, hn39, hC39⟩ := h39
        refine TGo.al0 dX0_chain_42 rfl ?_
        refine TGo.getS (t := 8) 14 14 (B + 52) (hB 0 (by decide)) rfl fgX0_71_0 dX0_chain_43 rfl rfl rfl ?_
        refine TGo.il2 dX0_chain_46 rfl ?_
        refine TGo.icm1 dX0_chain_47 ?_
        refine TGo.cN (csV2 (y2 := mX7_finds) (t := 15) 14 rfl (hB 52 (by decide)) rfl rfl dX0_chain_48 q1682 q1683 q1684 okX7_finds npX7_finds rfl rfl) (kX7_finds hR39 W hC39 hn39 (show 0 ≤ p ∧ p < z.2 3 1 by omega) (by omega)) (fun V48 h48 => ?_)
        obtain ⟨hR48, hC48, hn48, q4, q5, q6, q7⟩ := h48
        have hcl := chL_ok W (a := a) (x0 := p) (wo := -1) (show 0 ≤ p ∧ p < z.2 3 1 by omega)
        have hd1 := W.2.2.2.1 _ hcl.1.1 hcl.1.2
        refine TGo.il3 dX0_chain_51 rfl ?_
        refine TGo.bip 20 dX0_chain_52 (by decide) ?_
        refine TGo.icmp_ne 63 dX0_chain_54 (by decide) (by omega) (fun h54 => ?_) (fun h54 => ?_)
        · refine TGo.il3 dX0_chain_63 rfl ?_
          refine TGo.if_ne 77 dX0_chain_64 (by decide) (by omega) (fun h64 => ?_) (fun h64 => ?_)
          · refine TGo.il3 dX0_chain_77 rfl ?_
            refine TGo.ic1 dX0_chain_78 ?_
            refine TGo.icmp_ne 92 dX0_chain_79 (by decide) (by omega) (fun h79 => ?_) (fun h79 => ?_)
            · refine TGo.il3 dX0_chain_92 rfl ?_
              refine TGo.ic2 dX0_chain_93 ?_
              refine TGo.isub dX0_chain_94 ?_
              refine TGo.al0 dX0_chain_95 rfl ?_
              refine TGo.getS (t := 8) 14 14 (B + 52) (hB 0 (by decide)) rfl fgX0_71_0 dX0_chain_96 rfl rfl rfl ?_
              refine TGo.getI (t := 15) 5 5 (hB 52 (by decide)) rfl fgX0_469_7 dX0_chain_99 rfl rfl rfl ?_
              refine TGo.toz _ (q5) ?_
              refine TGo.icmp_ge 119 dX0_chain_102 (by decide) (by omega) (fun h102 => ?_) (fun h102 => ?_)
              · refine TGo.icm1 dX0_chain_119 ?_
                refine TGo.iret dX0_chain_120 rfl ?_
                first
                | (exfalso; omega)
                | (refine hR.same ?_
                   unfold zp_chain
                   rw [if_pos (by omega)])
                | (refine hR59.same ?_
                   unfold zp_chain chainZ
                   rw [if_neg (by omega), if_neg (by omega), if_neg (by omega), if_pos (by omega)])
                | (refine hR48.same ?_
                   unfold zp_chain chainZ chN
                   rw [if_neg (by omega)]
                   refine congrArg (fun q => (q, z)) ?_
                   first
                   | (rw [if_pos (show w = 0 by omega)])
                   | (rw [if_neg (show ¬ w = 0 by omega), if_pos (show w = 1 by omega)])
                   | (rw [if_neg (show ¬ w = 0 by omega), if_neg (show ¬ w = 1 by omega), if_neg (show ¬ w = 20 by omega), if_neg (by omega)])
                   | (rw [if_neg (show ¬ w = 0 by omega), if_neg (show ¬ w = 1 by omega), if_neg (show ¬ w = 20 by omega), if_pos (by omega)]
                      have q8 := q7 ((((lnkZ (chS (z.2 3) a p (-1)).1.2 p 8 (chL (z.2 3) a p (-1))) : Nat) : Int) + 1 - 1 - (w - 2)).toNat (by omega)
                      rw [show ((((lnkZ (chS (z.2 3) a p (-1)).1.2 p 8 (chL (z.2 3) a p (-1))) : Nat) : Int) - ((((((lnkZ (chS (z.2 3) a p (-1)).1.2 p 8 (chL (z.2 3) a p (-1))) : Nat) : Int) + 1 - 1 - (w - 2)).toNat : Nat) : Int)) = w - 2 by omega] at q8
                      exact q8.symm))
              · refine TGo.al0 dX0_chain_105 rfl ?_
                refine TGo.getS (t := 8) 14 14 (B + 52) (hB 0 (by decide)) rfl fgX0_71_0 dX0_chain_106 rfl rfl rfl ?_
                refine TGo.getS (t := 15) 2 2 (B + 55) (hB 52 (by decide)) rfl fgX0_472_7 dX0_chain_109 rfl rfl rfl ?_
                refine TGo.il3 dX0_chain_112 rfl ?_
                refine TGo.ic2 dX0_chain_113 ?_
                refine TGo.isub dX0_chain_114 ?_
                refine TGo.iald dX0_chain_115 (hB 55 (by decide)) (by omega) rfl ?_
                refine TGo.goto 120 dX0_chain_116 (by decide) ?_
                refine TGo.iret dX0_chain_120 rfl ?_
                first
                | (exfalso; omega)
                | (refine hR.same ?_
                   unfold zp_chain
                   rw [if_pos (by omega)])
                | (refine hR59.same ?_
                   unfold zp_chain chainZ
                   rw [if_neg (by omega), if_neg (by omega), if_neg (by omega), if_pos (by omega)])
                | (refine hR48.same ?_
                   unfold zp_chain chainZ chN
                   rw [if_neg (by omega)]
                   refine congrArg (fun q => (q, z)) ?_
                   first
                   | (rw [if_pos (show w = 0 by omega)])
                   | (rw [if_neg (show ¬ w = 0 by omega), if_pos (show w = 1 by omega)])
                   | (rw [if_neg (show ¬ w = 0 by omega), if_neg (show ¬ w = 1 by omega), if_neg (show ¬ w = 20 by omega), if_neg (by omega)])
                   | (rw [if_neg (show ¬ w = 0 by omega), if_neg (show ¬ w = 1 by omega), if_neg (show ¬ w = 20 by omega), if_pos (by omega)]
                      have q8 := q7 ((((lnkZ (chS (z.2 3) a p (-1)).1.2 p 8 (chL (z.2 3) a p (-1))) : Nat) : Int) + 1 - 1 - (w - 2)).toNat (by omega)
                      rw [show ((((lnkZ (chS (z.2 3) a p (-1)).1.2 p 8 (chL (z.2 3) a p (-1))) : Nat) : Int) - ((((((lnkZ (chS (z.2 3) a p (-1)).1.2 p 8 (chL (z.2 3) a p (-1))) : Nat) : Int) + 1 - 1 - (w - 2)).toNat : Nat) : Int)) = w - 2 by omega] at q8
                      exact q8.symm))
            · refine TGo.al0 dX0_chain_82 rfl ?_
              refine TGo.getS (t := 8) 14 14 (B + 52) (hB 0 (by decide)) rfl fgX0_71_0 dX0_chain_83 rfl rfl rfl ?_
              refine TGo.getI (t := 15) 5 5 (hB 52 (by decide)) rfl fgX0_469_7 dX0_chain_86 rfl rfl rfl ?_
              refine TGo.toz _ (q5) ?_
              refine TGo.goto 120 dX0_chain_89 (by decide) ?_
              refine TGo.iret dX0_chain_120 rfl ?_
              first
              | (exfalso; omega)
              | (refine hR.same ?_
                 unfold zp_chain
                 rw [if_pos (by omega)])
              | (refine hR59.same ?_
                 unfold zp_chain chainZ
                 rw [if_neg (by omega), if_neg (by omega), if_neg (by omega), if_pos (by omega)])
              | (refine hR48.same ?_
                 unfold zp_chain chainZ chN
                 rw [if_neg (by omega)]
                 refine congrArg (fun q => (q, z)) ?_
                 first
                 | (rw [if_pos (show w = 0 by omega)])
                 | (rw [if_neg (show ¬ w = 0 by omega), if_pos (show w = 1 by omega)])
                 | (rw [if_neg (show ¬ w = 0 by omega), if_neg (show ¬ w = 1 by omega), if_neg (show ¬ w = 20 by omega), if_neg (by omega)])
                 | (rw [if_neg (show ¬ w = 0 by omega), if_neg (show ¬ w = 1 by omega), if_neg (show ¬ w = 20 by omega), if_pos (by omega)]
                    have q8 := q7 ((((lnkZ (chS (z.2 3) a p (-1)).1.2 p 8 (chL (z.2 3) a p (-1))) : Nat) : Int) + 1 - 1 - (w - 2)).toNat (by omega)
                    rw [show ((((lnkZ (chS (z.2 3) a p (-1)).1.2 p 8 (chL (z.2 3) a p (-1))) : Nat) : Int) - ((((((lnkZ (chS (z.2 3) a p (-1)).1.2 p 8 (chL (z.2 3) a p (-1))) : Nat) : Int) + 1 - 1 - (w - 2)).toNat : Nat) : Int)) = w - 2 by omega] at q8
                    exact q8.symm))
          · refine TGo.al0 dX0_chain_67 rfl ?_
            refine TGo.getS (t := 8) 14 14 (B + 52) (hB 0 (by decide)) rfl fgX0_71_0 dX0_chain_68 rfl rfl rfl ?_
            refine TGo.getI (t := 15) 4 4 (hB 52 (by decide)) rfl fgX0_466_7 dX0_chain_71 rfl rfl rfl ?_
            refine TGo.toz _ (q4) ?_
            refine TGo.goto 120 dX0_chain_74 (by decide) ?_
            refine TGo.iret dX0_chain_120 rfl ?_
            first
            | (exfalso; omega)
            | (refine hR.same ?_
               unfold zp_chain
               rw [if_pos (by omega)])
            | (refine hR59.same ?_
               unfold zp_chain chainZ
               rw [if_neg (by omega), if_neg (by omega), if_neg (by omega), if_pos (by omega)])
            | (refine hR48.same ?_
               unfold zp_chain chainZ chN
               rw [if_neg (by omega)]
               refine congrArg (fun q => (q, z)) ?_
               first
               | (rw [if_pos (show w = 0 by omega)])
               | (rw [if_neg (show ¬ w = 0 by omega), if_pos (show w = 1 by omega)])
               | (rw [if_neg (show ¬ w = 0 by omega), if_neg (show ¬ w = 1 by omega), if_neg (show ¬ w = 20 by omega), if_neg (by omega)])
               | (rw [if_neg (show ¬ w = 0 by omega), if_neg (show ¬ w = 1 by omega), if_neg (show ¬ w = 20 by omega), if_pos (by omega)]
                  have q8 := q7 ((((lnkZ (chS (z.2 3) a p (-1)).1.2 p 8 (chL (z.2 3) a p (-1))) : Nat) : Int) + 1 - 1 - (w - 2)).toNat (by omega)
                  rw [show ((((lnkZ (chS (z.2 3) a p (-1)).1.2 p 8 (chL (z.2 3) a p (-1))) : Nat) : Int) - ((((((lnkZ (chS (z.2 3) a p (-1)).1.2 p 8 (chL (z.2 3) a p (-1))) : Nat) : Int) + 1 - 1 - (w - 2)).toNat : Nat) : Int)) = w - 2 by omega] at q8
                  exact q8.symm))
        · refine TGo.al0 dX0_chain_57 rfl ?_
          refine TGo.il2 dX0_chain_58 rfl ?_
          refine TGo.cS (csV1 (y2 := mX0_needless) (t := 8) 15 rfl (hB 0 (by decide)) rfl rfl dX0_chain_59 q1694 q1696 qs32 okX0_needless npX0_needless rfl rfl) (kX0_needless hR48 W hC48 hn48 (by omega) q4) (fun v59 V59 h59 => ?_)
          obtain ⟨rfl, hR59⟩ := h59
          refine TGo.iret dX0_chain_62 rfl ?_
          first
          | (exfalso; omega)
          | (refine hR.same ?_
             unfold zp_chain
             rw [if_pos (by omega)])
          | (refine hR59.same ?_
             unfold zp_chain chainZ
             rw [if_neg (by omega), if_neg (by omega), if_neg (by omega), if_pos (by omega)])
          | (refine hR48.same ?_
             unfold zp_chain chainZ chN
             rw [if_neg (by omega)]
             refine congrArg (fun q => (q, z)) ?_
             first
             | (rw [if_pos (show w = 0 by omega)])
             | (rw [if_neg (show ¬ w = 0 by omega), if_pos (show w = 1 by omega)])
             | (rw [if_neg (show ¬ w = 0 by omega), if_neg (show ¬ w = 1 by omega), if_neg (show ¬ w = 20 by omega), if_neg (by omega)])
             | (rw [if_neg (show ¬ w = 0 by omega), if_neg (show ¬ w = 1 by omega), if_neg (show ¬ w = 20 by omega), if_pos (by omega)]
                have q8 := q7 ((((lnkZ (chS (z.2 3) a p (-1)).1.2 p 8 (chL (z.2 3) a p (-1))) : Nat) : Int) + 1 - 1 - (w - 2)).toNat (by omega)
                rw [show ((((lnkZ (chS (z.2 3) a p (-1)).1.2 p 8 (chL (z.2 3) a p (-1))) : Nat) : Int) - ((((((lnkZ (chS (z.2 3) a p (-1)).1.2 p 8 (chL (z.2 3) a p (-1))) : Nat) : Int) + 1 - 1 - (w - 2)).toNat : Nat) : Int)) = w - 2 by omega] at q8
                exact q8.symm))
      · refine TGo.il3 dX0_chain_26 rfl ?_
        refine TGo.bip 20 dX0_chain_27 (by decide) ?_
        refine TGo.icmp_eq 34 dX0_chain_29 (by decide) (by omega) (fun h29 => ?_) (fun h29 => ?_)
        · refine TGo.al0 dX0_chain_34 rfl ?_
          refine TGo.getS (t := 8) 14 14 (B + 52) (hB 0 (by decide)) rfl fgX0_71_0 dX0_chain_35 rfl rfl rfl ?_
          refine TGo.il1 dX0_chain_38 rfl ?_
          refine TGo.cN (csV1 (y2 := mX7_lays) (t := 15) 213 rfl (hB 52 (by decide)) rfl rfl dX0_chain_39 q1671 q1672 q1673 okX7_lays npX7_lays rfl rfl) (kX7_lays hR W WL (by omega)) (fun V39 h39 => ?_)
          obtain ⟨hR39, hn39, hC39⟩ := h39
          refine TGo.al0 dX0_chain_42 rfl ?_
          refine TGo.getS (t := 8) 14 14 (B + 52) (hB 0 (by decide)) rfl fgX0_71_0 dX0_chain_43 rfl rfl rfl ?_
          refine TGo.il2 dX0_chain_46 rfl ?_
          refine TGo.icm1 dX0_chain_47 ?_
          refine TGo.cN (csV2 (y2 := mX7_finds) (t := 15) 14 rfl (hB 52 (by decide)) rfl rfl dX0_chain_48 q1682 q1683 q1684 okX7_finds npX7_finds rfl rfl) (kX7_finds hR39 W hC39 hn39 (show 0 ≤ p ∧ p < z.2 3 1 by omega) (by omega)) (fun V48 h48 => ?_)
          obtain ⟨hR48, hC48, hn48, q4, q5, q6, q7⟩ := h48
          have hcl := chL_ok W (a := a) (x0 := p) (wo := -1) (show 0 ≤ p ∧ p < z.2 3 1 by omega)
          have hd1 := W.2.2.2.1 _ hcl.1.1 hcl.1.2
          refine TGo.il3 dX0_chain_51 rfl ?_
          refine TGo.bip 20 dX0_chain_52 (by decide) ?_
          refine TGo.icmp_ne 63 dX0_chain_54 (by decide) (by omega) (fun h54 => ?_) (fun h54 => ?_)
          · refine TGo.il3 dX0_chain_63 rfl ?_
            refine TGo.if_ne 77 dX0_chain_64 (by decide) (by omega) (fun h64 => ?_) (fun h64 => ?_)
            · refine TGo.il3 dX0_chain_77 rfl ?_
              refine TGo.ic1 dX0_chain_78 ?_
              refine TGo.icmp_ne 92 dX0_chain_79 (by decide) (by omega) (fun h79 => ?_) (fun h79 => ?_)
              · refine TGo.il3 dX0_chain_92 rfl ?_
                refine TGo.ic2 dX0_chain_93 ?_
                refine TGo.isub dX0_chain_94 ?_
                refine TGo.al0 dX0_chain_95 rfl ?_
                refine TGo.getS (t := 8) 14 14 (B + 52) (hB 0 (by decide)) rfl fgX0_71_0 dX0_chain_96 rfl rfl rfl ?_
                refine TGo.getI (t := 15) 5 5 (hB 52 (by decide)) rfl fgX0_469_7 dX0_chain_99 rfl rfl rfl ?_
                refine TGo.toz _ (q5) ?_
                refine TGo.icmp_ge 119 dX0_chain_102 (by decide) (by omega) (fun h102 => ?_) (fun h102 => ?_)
                · refine TGo.icm1 dX0_chain_119 ?_
                  refine TGo.iret dX0_chain_120 rfl ?_
                  first
                  | (exfalso; omega)
                  | (refine hR.same ?_
                     unfold zp_chain
                     rw [if_pos (by omega)])
                  | (refine hR59.same ?_
                     unfold zp_chain chainZ
                     rw [if_neg (by omega), if_neg (by omega), if_neg (by omega), if_pos (by omega)])
                  | (refine hR48.same ?_
                     unfold zp_chain chainZ chN
                     rw [if_neg (by omega)]
                     refine congrArg (fun q => (q, z)) ?_
                     first
                     | (rw [if_pos (show w = 0 by omega)])
                     | (rw [if_neg (show ¬ w = 0 by omega), if_pos (show w = 1 by omega)])
                     | (rw [if_neg (show ¬ w = 0 by omega), if_neg (show ¬ w = 1 by omega), if_neg (show ¬ w = 20 by omega), if_neg (by omega)])
                     | (rw [if_neg (show ¬ w = 0 by omega), if_neg (show ¬ w = 1 by omega), if_neg (show ¬ w = 20 by omega), if_pos (by omega)]
                        have q8 := q7 ((((lnkZ (chS (z.2 3) a p (-1)).1.2 p 8 (chL (z.2 3) a p (-1))) : Nat) : Int) + 1 - 1 - (w - 2)).toNat (by omega)
                        rw [show ((((lnkZ (chS (z.2 3) a p (-1)).1.2 p 8 (chL (z.2 3) a p (-1))) : Nat) : Int) - ((((((lnkZ (chS (z.2 3) a p (-1)).1.2 p 8 (chL (z.2 3) a p (-1))) : Nat) : Int) + 1 - 1 - (w - 2)).toNat : Nat) : Int)) = w - 2 by omega] at q8
                        exact q8.symm))
                · refine TGo.al0 dX0_chain_105 rfl ?_
                  refine TGo.getS (t := 8) 14 14 (B + 52) (hB 0 (by decide)) rfl fgX0_71_0 dX0_chain_106 rfl rfl rfl ?_
                  refine TGo.getS (t := 15) 2 2 (B + 55) (hB 52 (by decide)) rfl fgX0_472_7 dX0_chain_109 rfl rfl rfl ?_
                  refine TGo.il3 dX0_chain_112 rfl ?_
                  refine TGo.ic2 dX0_chain_113 ?_
                  refine TGo.isub dX0_chain_114 ?_
                  refine TGo.iald dX0_chain_115 (hB 55 (by decide)) (by omega) rfl ?_
                  refine TGo.goto 120 dX0_chain_116 (by decide) ?_
                  refine TGo.iret dX0_chain_120 rfl ?_
                  first
                  | (exfalso; omega)
                  | (refine hR.same ?_
                     unfold zp_chain
                     rw [if_pos (by omega)])
                  | (refine hR59.same ?_
                     unfold zp_chain chainZ
                     rw [if_neg (by omega), if_neg (by omega), if_neg (by omega), if_pos (by omega)])
                  | (refine hR48.same ?_
                     unfold zp_chain chainZ chN
                     rw [if_neg (by omega)]
                     refine congrArg (fun q => (q, z)) ?_
                     first
                     | (rw [if_pos (show w = 0 by omega)])
                     | (rw [if_neg (show ¬ w = 0 by omega), if_pos (show w = 1 by omega)])
                     | (rw [if_neg (show ¬ w = 0 by omega), if_neg (show ¬ w = 1 by omega), if_neg (show ¬ w = 20 by omega), if_neg (by omega)])
                     | (rw [if_neg (show ¬ w = 0 by omega), if_neg (show ¬ w = 1 by omega), if_neg (show ¬ w = 20 by omega), if_pos (by omega)]
                        have q8 := q7 ((((lnkZ (chS (z.2 3) a p (-1)).1.2 p 8 (chL (z.2 3) a p (-1))) : Nat) : Int) + 1 - 1 - (w - 2)).toNat (by omega)
                        rw [show ((((lnkZ (chS (z.2 3) a p (-1)).1.2 p 8 (chL (z.2 3) a p (-1))) : Nat) : Int) - ((((((lnkZ (chS (z.2 3) a p (-1)).1.2 p 8 (chL (z.2 3) a p (-1))) : Nat) : Int) + 1 - 1 - (w - 2)).toNat : Nat) : Int)) = w - 2 by omega] at q8
                        exact q8.symm))
              · refine TGo.al0 dX0_chain_82 rfl ?_
                refine TGo.getS (t := 8) 14 14 (B + 52) (hB 0 (by decide)) rfl fgX0_71_0 dX0_chain_83 rfl rfl rfl ?_
                refine TGo.getI (t := 15) 5 5 (hB 52 (by decide)) rfl fgX0_469_7 dX0_chain_86 rfl rfl rfl ?_
                refine TGo.toz _ (q5) ?_
                refine TGo.goto 120 dX0_chain_89 (by decide) ?_
                refine TGo.iret dX0_chain_120 rfl ?_
                first
                | (exfalso; omega)
                | (refine hR.same ?_
                   unfold zp_chain
                   rw [if_pos (by omega)])
                | (refine hR59.same ?_
                   unfold zp_chain chainZ
                   rw [if_neg (by omega), if_neg (by omega), if_neg (by omega), if_pos (by omega)])
                | (refine hR48.same ?_
                   unfold zp_chain chainZ chN
                   rw [if_neg (by omega)]
                   refine congrArg (fun q => (q, z)) ?_
                   first
                   | (rw [if_pos (show w = 0 by omega)])
                   | (rw [if_neg (show ¬ w = 0 by omega), if_pos (show w = 1 by omega)])
                   | (rw [if_neg (show ¬ w = 0 by omega), if_neg (show ¬ w = 1 by omega), if_neg (show ¬ w = 20 by omega), if_neg (by omega)])
                   | (rw [if_neg (show ¬ w = 0 by omega), if_neg (show ¬ w = 1 by omega), if_neg (show ¬ w = 20 by omega), if_pos (by omega)]
                      have q8 := q7 ((((lnkZ (chS (z.2 3) a p (-1)).1.2 p 8 (chL (z.2 3) a p (-1))) : Nat) : Int) + 1 - 1 - (w - 2)).toNat (by omega)
                      rw [show ((((lnkZ (chS (z.2 3) a p (-1)).1.2 p 8 (chL (z.2 3) a p (-1))) : Nat) : Int) - ((((((lnkZ (chS (z.2 3) a p (-1)).1.2 p 8 (chL (z.2 3) a p (-1))) : Nat) : Int) + 1 - 1 - (w - 2)).toNat : Nat) : Int)) = w - 2 by omega] at q8
                      exact q8.symm))
            · refine TGo.al0 dX0_chain_67 rfl ?_
              refine TGo.getS (t := 8) 14 14 (B + 52) (hB 0 (by decide)) rfl fgX0_71_0 dX0_chain_68 rfl rfl rfl ?_
              refine TGo.getI (t := 15) 4 4 (hB 52 (by decide)) rfl fgX0_466_7 dX0_chain_71 rfl rfl rfl ?_
              refine TGo.toz _ (q4) ?_
              refine TGo.goto 120 dX0_chain_74 (by decide) ?_
              refine TGo.iret dX0_chain_120 rfl ?_
              first
              | (exfalso; omega)
              | (refine hR.same ?_
                 unfold zp_chain
                 rw [if_pos (by omega)])
              | (refine hR59.same ?_
                 unfold zp_chain chainZ
                 rw [if_neg (by omega), if_neg (by omega), if_neg (by omega), if_pos (by omega)])
              | (refine hR48.same ?_
                 unfold zp_chain chainZ chN
                 rw [if_neg (by omega)]
                 refine congrArg (fun q => (q, z)) ?_
                 first
                 | (rw [if_pos (show w = 0 by omega)])
                 | (rw [if_neg (show ¬ w = 0 by omega), if_pos (show w = 1 by omega)])
                 | (rw [if_neg (show ¬ w = 0 by omega), if_neg (show ¬ w = 1 by omega), if_neg (show ¬ w = 20 by omega), if_neg (by omega)])
                 | (rw [if_neg (show ¬ w = 0 by omega), if_neg (show ¬ w = 1 by omega), if_neg (show ¬ w = 20 by omega), if_pos (by omega)]
                    have q8 := q7 ((((lnkZ (chS (z.2 3) a p (-1)).1.2 p 8 (chL (z.2 3) a p (-1))) : Nat) : Int) + 1 - 1 - (w - 2)).toNat (by omega)
                    rw [show ((((lnkZ (chS (z.2 3) a p (-1)).1.2 p 8 (chL (z.2 3) a p (-1))) : Nat) : Int) - ((((((lnkZ (chS (z.2 3) a p (-1)).1.2 p 8 (chL (z.2 3) a p (-1))) : Nat) : Int) + 1 - 1 - (w - 2)).toNat : Nat) : Int)) = w - 2 by omega] at q8
                    exact q8.symm))
          · refine TGo.al0 dX0_chain_57 rfl ?_
            refine TGo.il2 dX0_chain_58 rfl ?_
            refine TGo.cS (csV1 (y2 := mX0_needless) (t := 8) 15 rfl (hB 0 (by decide)) rfl rfl dX0_chain_59 q1694 q1696 qs32 okX0_needless npX0_needless rfl rfl) (kX0_needless hR48 W hC48 hn48 (by omega) q4) (fun v59 V59 h59 => ?_)
            obtain ⟨rfl, hR59⟩ := h59
            refine TGo.iret dX0_chain_62 rfl ?_
            first
            | (exfalso; omega)
            | (refine hR.same ?_
               unfold zp_chain
               rw [if_pos (by omega)])
            | (refine hR59.same ?_
               unfold zp_chain chainZ
               rw [if_neg (by omega), if_neg (by omega), if_neg (by omega), if_pos (by omega)])
            | (refine hR48.same ?_
               unfold zp_chain chainZ chN
               rw [if_neg (by omega)]
               refine congrArg (fun q => (q, z)) ?_
               first
               | (rw [if_pos (show w = 0 by omega)])
               | (rw [if_neg (show ¬ w = 0 by omega), if_pos (show w = 1 by omega)])
               | (rw [if_neg (show ¬ w = 0 by omega), if_neg (show ¬ w = 1 by omega), if_neg (show ¬ w = 20 by omega), if_neg (by omega)])
               | (rw [if_neg (show ¬ w = 0 by omega), if_neg (show ¬ w = 1 by omega), if_neg (show ¬ w = 20 by omega), if_pos (by omega)]
                  have q8 := q7 ((((lnkZ (chS (z.2 3) a p (-1)).1.2 p 8 (chL (z.2 3) a p (-1))) : Nat) : Int) + 1 - 1 - (w - 2)).toNat (by omega)
                  rw [show ((((lnkZ (chS (z.2 3) a p (-1)).1.2 p 8 (chL (z.2 3) a p (-1))) : Nat) : Int) - ((((((lnkZ (chS (z.2 3) a p (-1)).1.2 p 8 (chL (z.2 3) a p (-1))) : Nat) : Int) + 1 - 1 - (w - 2)).toNat : Nat) : Int)) = w - 2 by omega] at q8
                  exact q8.symm))
        · refine TGo.icm1 dX0_chain_32 ?_
          refine TGo.iret dX0_chain_33 rfl ?_
          first
          | (exfalso; omega)
          | (refine hR.same ?_
             unfold zp_chain
             rw [if_pos (by omega)])
          | (refine hR59.same ?_
             unfold zp_chain chainZ
             rw [if_neg (by omega), if_neg (by omega), if_neg (by omega), if_pos (by omega)])
          | (refine hR48.same ?_
             unfold zp_chain chainZ chN
             rw [if_neg (by omega)]
             refine congrArg (fun q => (q, z)) ?_
             first
             | (rw [if_pos (show w = 0 by omega)])
             | (rw [if_neg (show ¬ w = 0 by omega), if_pos (show w = 1 by omega)])
             | (rw [if_neg (show ¬ w = 0 by omega), if_neg (show ¬ w = 1 by omega), if_neg (show ¬ w = 20 by omega), if_neg (by omega)])
             | (rw [if_neg (show ¬ w = 0 by omega), if_neg (show ¬ w = 1 by omega), if_neg (show ¬ w = 20 by omega), if_pos (by omega)]
                have q8 := q7 ((((lnkZ (chS (z.2 3) a p (-1)).1.2 p 8 (chL (z.2 3) a p (-1))) : Nat) : Int) + 1 - 1 - (w - 2)).toNat (by omega)
                rw [show ((((lnkZ (chS (z.2 3) a p (-1)).1.2 p 8 (chL (z.2 3) a p (-1))) : Nat) : Int) - ((((((lnkZ (chS (z.2 3) a p (-1)).1.2 p 8 (chL (z.2 3) a p (-1))) : Nat) : Int) + 1 - 1 - (w - 2)).toNat : Nat) : Int)) = w - 2 by omega] at q8
                exact q8.symm))
