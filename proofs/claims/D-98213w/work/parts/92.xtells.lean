/-! X: what laws tell -/
set_option maxRecDepth 100000
abbrev SumOf : MethodName := ⟨"DeadUnderstudies$Sum", "of", "(LDeadUnderstudies$Setting;)J"⟩
abbrev TestIs : MethodName := ⟨"DeadUnderstudies$Test", "is", "(LDeadUnderstudies$Setting;)Z"⟩
/-- what is looked at -/
def SetV (B : Nat) (V : VT) (val : Int → Int) : Prop := ∀ k, 0 ≤ k → k < 8 → V.2.1 (B + 36) k = val (k + 1)
/-- a number, or Broken -/
abbrev SumP (B : Nat) (r : Option Int) (sh : SHT) (nn : Nat × Nat) (V : VT) : AO → SHT → Nat × Nat → VT → Prop := fun o sh' nn' V' => ((∃ v, r = some v ∧ (-1000000000 ≤ v ∧ v ≤ 1000000000) ∧ o = .inl (some (.long (lI v)))) ∨ (r = none ∧ o = .inr (B + 35))) ∧ sh' = sh ∧ nn' = nn ∧ V' = V
abbrev TestP (B : Nat) (r : Option Int) (sh : SHT) (nn : Nat × Nat) (V : VT) : AO → SHT → Nat × Nat → VT → Prop := fun o sh' nn' V' => ((∃ v, r = some v ∧ (v = 0 ∨ v = 1) ∧ o = .inl (some (.int (iI v)))) ∨ (r = none ∧ o = .inr (B + 35))) ∧ sh' = sh ∧ nn' = nn ∧ V' = V
def SumOK (E : ET) (n : Nat) : Prop := ∀ {sh : SHT} {nn : Nat × Nat} {V : VT} {ow : Nat → Nat} {B a : Nat} {val : Int → Int} {F : FnT}, XSh B sh → SetV B V val → B9Z val → SmR ow sh V n a F →
  (sh a = (25, 0) → TC E mX17_of (n + 8) [.ref a, .ref (B + 34)] sh nn V (SumP B (F val) sh nn V)) ∧ (sh a = (26, 0) → TC E mX18_of (n + 8) [.ref a, .ref (B + 34)] sh nn V (SumP B (F val) sh nn V)) ∧ (sh a = (27, 0) → TC E mX19_of (n + 8) [.ref a, .ref (B + 34)] sh nn V (SumP B (F val) sh nn V))
def TestOK (E : ET) (n : Nat) : Prop := ∀ {sh : SHT} {nn : Nat × Nat} {V : VT} {ow : Nat → Nat} {B a : Nat} {val : Int → Int} {F : FnT}, XSh B sh → SetV B V val → B9Z val → TsR ow sh V n a F →
  (sh a = (29, 0) → TC E mX21_is (n + 8) [.ref a, .ref (B + 34)] sh nn V (TestP B (F val) sh nn V)) ∧ (sh a = (30, 0) → TC E mX22_is (n + 8) [.ref a, .ref (B + 34)] sh nn V (TestP B (F val) sh nn V)) ∧ (sh a = (31, 0) → TC E mX23_is (n + 8) [.ref a, .ref (B + 34)] sh nn V (TestP B (F val) sh nn V))
set_option maxHeartbeats 4000000 in
theorem TGo.cSum {E : ET} {y : MI} {d pc n idx B a : Nat} {ls : LV} {rest : List Value} {sh : SHT} {nn : Nat × Nat} {V : VT} {Q : AO → SHT → Nat × Nat → VT → Prop} {ow : Nat → Nat} {val : Int → Int} {F : FnT} (hd : decode y.2.1 pc = .ok (.invokevirtual idx, 3)) (hl : Cond.methodLink y.1.cls idx SumOf ∈ lw_all) (hW : Nat.ble ((rest.map fun v => v.category).sum) 8 = true) (hd2 : Nat.ble (n + 9) d = true) (H : SumOK E n) (hB : XSh B sh) (hs : SetV B V val) (h9 : B9Z val) (h : SmR ow sh V n a F)
    (hx : F val = none → TGoX E y d pc ls rest (B + 35) sh nn V Q) (hk : ∀ v, F val = some v → -1000000000 ≤ v ∧ v ≤ 1000000000 → TGo E y d (pc + 3) ls (.long (lI v) :: rest) sh nn V Q) : TGo E y d pc ls (.ref (B + 34) :: .ref a :: rest) sh nn V Q := by
  have K : ∀ {y2 : MI}, CS E y d pc 3 ls [.ref a, .ref (B + 34)] (.ref (B + 34) :: .ref a :: rest) rest y2 (n + 8) sh → TC E y2 (n + 8) [.ref a, .ref (B + 34)] sh nn V (SumP B (F val) sh nn V) → TGo E y d pc ls (.ref (B + 34) :: .ref a :: rest) sh nn V Q := fun c hc => TGo.callG c hc (fun o sh1 nn1 V1 _ hq => by
    obtain ⟨hq, rfl, rfl, rfl⟩ := hq
    rcases hq with ⟨v, h1, h2, rfl⟩ | ⟨h1, rfl⟩
    · exact hk v h1 h2
    · exact hx h1)
  obtain ⟨k1, k2, k3⟩ := H (nn := nn) hB hs h9 h
  cases n with
  | zero => exact absurd h id
  | succ n =>
    obtain ⟨-, h⟩ := h
    rcases h with ⟨e, -⟩ | ⟨e, -⟩ | ⟨e, -⟩
    · exact K (csU1 (y2 := mX17_of) (owner := "DeadUnderstudies$Sum") (t := 25) (n + 1 + 8) hd2 e rfl rfl hd hl q1327 (Or.inl q1326) (by decide) q1329 q1328 okX17_of (by unfold nPar; decide +kernel) hW rfl) (k1 e)
    · exact K (csU1 (y2 := mX18_of) (owner := "DeadUnderstudies$Sum") (t := 26) (n + 1 + 8) hd2 e rfl rfl hd hl q1327 (Or.inl q1326) (by decide) q1335 q1339 okX18_of (by unfold nPar; decide +kernel) hW rfl) (k2 e)
    · exact K (csU1 (y2 := mX19_of) (owner := "DeadUnderstudies$Sum") (t := 27) (n + 1 + 8) hd2 e rfl rfl hd hl q1327 (Or.inl q1326) (by decide) q1332 q1331 okX19_of (by unfold nPar; decide +kernel) hW rfl) (k3 e)
set_option maxHeartbeats 4000000 in
theorem TGo.cTest {E : ET} {y : MI} {d pc n idx B a : Nat} {ls : LV} {rest : List Value} {sh : SHT} {nn : Nat × Nat} {V : VT} {Q : AO → SHT → Nat × Nat → VT → Prop} {ow : Nat → Nat} {val : Int → Int} {F : FnT} (hd : decode y.2.1 pc = .ok (.invokevirtual idx, 3)) (hl : Cond.methodLink y.1.cls idx TestIs ∈ lw_all) (hW : Nat.ble ((rest.map fun v => v.category).sum) 8 = true) (hd2 : Nat.ble (n + 9) d = true) (H : TestOK E n) (hB : XSh B sh) (hs : SetV B V val) (h9 : B9Z val) (h : TsR ow sh V n a F)
    (hx : F val = none → TGoX E y d pc ls rest (B + 35) sh nn V Q) (hk : ∀ v, F val = some v → v = 0 ∨ v = 1 → TGo E y d (pc + 3) ls (.int (iI v) :: rest) sh nn V Q) : TGo E y d pc ls (.ref (B + 34) :: .ref a :: rest) sh nn V Q := by
  have K : ∀ {y2 : MI}, CS E y d pc 3 ls [.ref a, .ref (B + 34)] (.ref (B + 34) :: .ref a :: rest) rest y2 (n + 8) sh → TC E y2 (n + 8) [.ref a, .ref (B + 34)] sh nn V (TestP B (F val) sh nn V) → TGo E y d pc ls (.ref (B + 34) :: .ref a :: rest) sh nn V Q := fun c hc => TGo.callG c hc (fun o sh1 nn1 V1 _ hq => by
    obtain ⟨hq, rfl, rfl, rfl⟩ := hq
    rcases hq with ⟨v, h1, h2, rfl⟩ | ⟨h1, rfl⟩
    · exact hk v h1 h2
    · exact hx h1)
  obtain ⟨k1, k2, k3⟩ := H (nn := nn) hB hs h9 h
  cases n with
  | zero => exact absurd h id
  | succ n =>
    obtain ⟨-, h⟩ := h
    rcases h with ⟨e, -⟩ | ⟨e, -⟩ | ⟨e, -⟩
    · exact K (csU1 (y2 := mX21_is) (owner := "DeadUnderstudies$Test") (t := 29) (n + 1 + 8) hd2 e rfl rfl hd hl q1321 (Or.inl q1320) (by decide) q1323 q1322 okX21_is (by unfold nPar; decide +kernel) hW rfl) (k1 e)
    · exact K (csU1 (y2 := mX22_is) (owner := "DeadUnderstudies$Test") (t := 30) (n + 1 + 8) hd2 e rfl rfl hd hl q1321 (Or.inl q1320) (by decide) q1341 q1340 okX22_is (by unfold nPar; decide +kernel) hW rfl) (k2 e)
    · exact K (csU1 (y2 := mX23_is) (owner := "DeadUnderstudies$Test") (t := 31) (n + 1 + 8) hd2 e rfl rfl hd hl q1321 (Or.inl q1320) (by decide) q1344 q1350 okX23_is (by unfold nPar; decide +kernel) hW rfl) (k3 e)
theorem TGo.castT {E : ET} {y : MI} {d pc n idx a : Nat} {ls : LV} {st : List Value} {sh : SHT} {nn : Nat × Nat} {V : VT} {Q : AO → SHT → Nat × Nat → VT → Prop} {ow : Nat → Nat} {F : FnT} (hd : decode y.2.1 pc = .ok (.checkcast idx, 3)) (hw : Cond.classLink y.1.cls idx "DeadUnderstudies$Test" ∈ lw_all) (h : TsR ow sh V n a F) (kk : TGo E y d (pc + 3) ls (.ref a :: st) sh nn V Q) : TGo E y d pc ls (.ref a :: st) sh nn V Q := by
  cases n with
  | zero => exact absurd h id
  | succ n =>
    obtain ⟨-, h⟩ := h
    rcases h with ⟨e, -⟩ | ⟨e, -⟩ | ⟨e, -⟩
    · exact TGo.castO (t := 29) hd hw e rfl rfl (Or.inr q2596) kk
    · exact TGo.castO (t := 30) hd hw e rfl rfl (Or.inr q2597) kk
    · exact TGo.castO (t := 31) hd hw e rfl rfl (Or.inr q2598) kk
theorem tw2_0 {c x : Int} (h : c = 47 ∨ c = 37) : tw2 c (some x) (some 0) = none := by rcases h with rfl | rfl <;> rfl
theorem tw2_v {c x y v : Int} (h : rkZ (opC c) x y = some v) (hv : -1000000000 ≤ v ∧ v ≤ 1000000000) : tw2 c (some x) (some y) = some v := by
  show (match rkZ (opC c) x y with
    | none => none
    | some v => if v < -1000000000 ∨ 1000000000 < v then none else some v) = _
  rw [h]
  exact if_neg (by omega)
theorem tw2_f {c x y v : Int} (h : rkZ (opC c) x y = some v) (hv : v < -1000000000 ∨ 1000000000 < v) : tw2 c (some x) (some y) = none := by
  show (match rkZ (opC c) x y with
    | none => none
    | some v => if v < -1000000000 ∨ 1000000000 < v then none else some v) = _
  rw [h]
  exact if_pos hv
theorem tw2_n2 {c : Int} {x : Option Int} : tw2 c x none = none := by cases x <;> rfl
set_option maxHeartbeats 4000000 in
theorem kX17_of {E : ET} {sh : SHT} {nn : Nat × Nat} {V : VT} {a G d : Nat} (ha : sh a = (25, 0)) {w : Int} (hw : V.1 a 0 = w) (hr : 0 ≤ w ∧ w ≤ 1000) : TF E mX17_of d [.ref a, .ref G] sh nn V (.long (lI w)) := by
  refine TC.intro [some (.ref a), some (.ref G)] rfl ?_
  refine TGo.al0 dX17_of_0 rfl ?_
  refine TGo.getI (t := 25) 0 0 ha rfl fgX17_7_17 dX17_of_1 rfl rfl rfl ?_
  refine TGo.toz _ (hw) ?_
  refine TGo.i2l dX17_of_4 (by omega) ?_
  refine TGo.lret dX17_of_5 rfl ?_
  exact ⟨rfl, rfl, rfl, rfl⟩
set_option maxHeartbeats 4000000 in
theorem kX18_of {E : ET} {sh : SHT} {nn : Nat × Nat} {V : VT} {a B d : Nat} {val : Int → Int} (ha : sh a = (26, 0)) (hB : XSh B sh) (hs : SetV B V val) {w : Int} (hw : V.1 a 0 = w) (hr : 0 ≤ w ∧ w < 8) : TF E mX18_of d [.ref a, .ref (B + 34)] sh nn V (.long (lI (val (w + 1)))) := by
  refine TC.intro [some (.ref a), some (.ref (B + 34))] rfl ?_
  refine TGo.al1 dX18_of_0 rfl ?_
  refine TGo.getS (t := 11) 1 1 (B + 36) (hB 34 (by decide)) rfl fgX18_13_3 dX18_of_1 rfl rfl rfl ?_
  refine TGo.al0 dX18_of_4 rfl ?_
  refine TGo.getI (t := 26) 0 0 ha rfl fgX18_7_18 dX18_of_5 rfl rfl rfl ?_
  refine TGo.toz _ (hw) ?_
  refine TGo.lald dX18_of_8 (hB 36 (by decide)) (by omega) rfl ?_
  refine TGo.tol _ (hs w hr.1 hr.2) ?_
  refine TGo.lret dX18_of_9 rfl ?_
  exact ⟨rfl, rfl, rfl, rfl⟩
set_option maxHeartbeats 4000000 in
theorem kX19_of {E : ET} {sh : SHT} {nn : Nat × Nat} {V : VT} {a B n l r : Nat} {ow : Nat → Nat} {val : Int → Int} {Fl Fr : FnT} (ha : sh a = (27, 0)) (hB : XSh B sh) (hs : SetV B V val) (h9 : B9Z val) (H : SumOK E n) {sg : Int} (hg : V.1 a 0 = sg) (hsg : sg = 43 ∨ sg = 45 ∨ sg = 42 ∨ sg = 47 ∨ sg = 37) (hl : V.2.2 a 1 = some l) (hr : V.2.2 a 2 = some r) (hL : SmR ow sh V n l Fl) (hR : SmR ow sh V n r Fr) {F : FnT} (hF : ∀ v, F v = tw2 sg (Fl v) (Fr v)) : TC E mX19_of (n + 1 + 8) [.ref a, .ref (B + 34)] sh nn V (SumP B (F val) sh nn V) := by
  refine TC.intro [some (.ref a), some (.ref (B + 34)), none, none, none, none, none, none] rfl ?_
  refine TGo.al0 dX19_of_0 rfl ?_
  refine TGo.getQ (t := 27) 1 1 l ha rfl fgX19_15_19 dX19_of_1 rfl ⟨rfl, hl⟩ rfl ?_
  refine TGo.al1 dX19_of_4 rfl ?_
  refine TGo.cSum (n := n) (val := val) dX19_of_5 q1334 rfl (Nat.ble_eq_true_of_le (by omega)) H hB hs h9 hL (fun h5 => (TGoX.out (t := 12) (fun x hx => by cases hx) (hB 35 (by decide)) rfl ⟨Or.inr ⟨by rw [hF, h5]; rfl, rfl⟩, rfl, rfl, rfl⟩)) (fun x h5 hb5 => ?_)
  refine TGo.ls2 dX19_of_8 rfl rfl ?_
  refine TGo.al0 dX19_of_9 rfl ?_
  refine TGo.getQ (t := 27) 2 2 r ha rfl fgX19_19_19 dX19_of_10 rfl ⟨rfl, hr⟩ rfl ?_
  refine TGo.al1 dX19_of_13 rfl ?_
  refine TGo.cSum (n := n) (val := val) dX19_of_14 q1334 rfl (Nat.ble_eq_true_of_le (by omega)) H hB hs h9 hR (fun h14 => (TGoX.out (t := 12) (fun x hx => by cases hx) (hB 35 (by decide)) rfl ⟨Or.inr ⟨by rw [hF, h14]; exact tw2_n2, rfl⟩, rfl, rfl, rfl⟩)) (fun y h14 hb14 => ?_)
  refine TGo.ls dX19_of_17 rfl rfl ?_
  refine TGo.al0 dX19_of_19 rfl ?_
  refine TGo.getI (t := 27) 0 0 ha rfl fgX19_9_19 dX19_of_20 rfl rfl rfl ?_
  refine TGo.toz _ (hg) ?_
  refine TGo.bip 47 dX19_of_23 (by decide) ?_
  refine TGo.icmp_eq 37 dX19_of_25 (by decide) (by omega) (fun h25 => ?_) (fun h25 => ?_)
  · refine TGo.ll dX19_of_37 rfl ?_
    refine TGo.lc0 dX19_of_39 ?_
    refine TGo.lc_ne 49 dX19_of_40 dX19_of_41 (by decide) (by omega) (fun h40 => ?_) (fun h40 => ?_)
    · refine TGo.al0 dX19_of_49 rfl ?_
      refine TGo.getI (t := 27) 0 0 ha rfl fgX19_9_19 dX19_of_50 rfl rfl rfl ?_
      refine TGo.toz _ (hg) ?_
      refine TGo.bip 43 dX19_of_53 (by decide) ?_
      refine TGo.icmp_ne 65 dX19_of_55 (by decide) (by omega) (fun h55 => ?_) (fun h55 => ?_)
      · refine TGo.al0 dX19_of_65 rfl ?_
        refine TGo.getI (t := 27) 0 0 ha rfl fgX19_9_19 dX19_of_66 rfl rfl rfl ?_
        refine TGo.toz _ (hg) ?_
        refine TGo.bip 45 dX19_of_69 (by decide) ?_
        refine TGo.icmp_ne 81 dX19_of_71 (by decide) (by omega) (fun h71 => ?_) (fun h71 => ?_)
        · refine TGo.al0 dX19_of_81 rfl ?_
          refine TGo.getI (t := 27) 0 0 ha rfl fgX19_9_19 dX19_of_82 rfl rfl rfl ?_
          refine TGo.toz _ (hg) ?_
          refine TGo.bip 42 dX19_of_85 (by decide) ?_
          refine TGo.icmp_ne 97 dX19_of_87 (by decide) (by omega) (fun h87 => ?_) (fun h87 => ?_)
          · refine TGo.al0 dX19_of_97 rfl ?_
            refine TGo.getI (t := 27) 0 0 ha rfl fgX19_9_19 dX19_of_98 rfl rfl rfl ?_
            refine TGo.toz _ (hg) ?_
            refine TGo.bip 47 dX19_of_101 (by decide) ?_
            refine TGo.icmp_ne 113 dX19_of_103 (by decide) (by omega) (fun h103 => ?_) (fun h103 => ?_)
            · have es : sg = 37 := by omega
              have ey : y ≠ 0 := by omega
              have ev : rkZ (opC 37) x y = some (x.tmod y) := (show (if y = 0 then none else some (x.tmod y)) = _ from if_neg ey)
              have hb18 := rkZ_r (by omega) (by omega) ev
              refine TGo.ll2 dX19_of_113 rfl ?_
              refine TGo.ll dX19_of_114 rfl ?_
              refine TGo.lrem dX19_of_116 (by omega) (by omega) ?_
              refine TGo.ls dX19_of_117 rfl rfl ?_
              refine TGo.ll dX19_of_119 rfl ?_
              refine TGo.ldc2 1000000000 dX19_of_121 q1337 (by decide) ?_
              refine TGo.lc_gt 137 dX19_of_124 dX19_of_125 (by decide) (by omega) (fun h124 => ?_) (fun h124 => ?_)
              · refine TGo.al1 dX19_of_137 rfl ?_
                refine TGo.getS (t := 11) 0 0 (B + 35) (hB 34 (by decide)) rfl fgX19_26_3 dX19_of_138 rfl rfl rfl ?_
                refine TGo.athrow dX19_of_141 ?_
                first
                | (exfalso; omega)
                | exact (TGoX.out (t := 12) (fun x hx => by cases hx) (hB 35 (by decide)) rfl ⟨Or.inr ⟨by rw [hF, h5, h14, es]; exact tw2_f ev (by omega), rfl⟩, rfl, rfl, rfl⟩)
              · refine TGo.ll dX19_of_128 rfl ?_
                refine TGo.ldc2 (-1000000000) dX19_of_130 q1338 (by decide) ?_
                refine TGo.lc_ge 142 dX19_of_133 dX19_of_134 (by decide) (by omega) (fun h133 => ?_) (fun h133 => ?_)
                · refine TGo.ll dX19_of_142 rfl ?_
                  refine TGo.lret dX19_of_144 rfl ?_
                  first
                  | (exfalso; omega)
                  | exact ⟨Or.inl ⟨_, by rw [hF, h5, h14, es]; exact tw2_v ev (by omega), by omega, rfl⟩, rfl, rfl, rfl⟩
                · refine TGo.al1 dX19_of_137 rfl ?_
                  refine TGo.getS (t := 11) 0 0 (B + 35) (hB 34 (by decide)) rfl fgX19_26_3 dX19_of_138 rfl rfl rfl ?_
                  refine TGo.athrow dX19_of_141 ?_
                  first
                  | (exfalso; omega)
                  | exact (TGoX.out (t := 12) (fun x hx => by cases hx) (hB 35 (by decide)) rfl ⟨Or.inr ⟨by rw [hF, h5, h14, es]; exact tw2_f ev (by omega), rfl⟩, rfl, rfl, rfl⟩)
            · have es : sg = 47 := by omega
              have ey : y ≠ 0 := by omega
              have ev : rkZ (opC 47) x y = some (x.tdiv y) := (show (if y = 0 then none else some (x.tdiv y)) = _ from if_neg ey)
              have hb18 := rkZ_r (by omega) (by omega) ev
              refine TGo.ll2 dX19_of_106 rfl ?_
              refine TGo.ll dX19_of_107 rfl ?_
              refine TGo.ldiv dX19_of_109 (by omega) (by omega) ?_
              refine TGo.goto 117 dX19_of_110 (by decide) ?_
              refine TGo.ls dX19_of_117 rfl rfl ?_
              refine TGo.ll dX19_of_119 rfl ?_
              refine TGo.ldc2 1000000000 dX19_of_121 q1337 (by decide) ?_
              refine TGo.lc_gt 137 dX19_of_124 dX19_of_125 (by decide) (by omega) (fun h124 => ?_) (fun h124 => ?_)
              · refine TGo.al1 dX19_of_137 rfl ?_
                refine TGo.getS (t := 11) 0 0 (B + 35) (hB 34 (by decide)) rfl fgX19_26_3 dX19_of_138 rfl rfl rfl ?_
                refine TGo.athrow dX19_of_141 ?_
                first
                | (exfalso; omega)
                | exact (TGoX.out (t := 12) (fun x hx => by cases hx) (hB 35 (by decide)) rfl ⟨Or.inr ⟨by rw [hF, h5, h14, es]; exact tw2_f ev (by omega), rfl⟩, rfl, rfl, rfl⟩)
              · refine TGo.ll dX19_of_128 rfl ?_
                refine TGo.ldc2 (-1000000000) dX19_of_130 q1338 (by decide) ?_
                refine TGo.lc_ge 142 dX19_of_133 dX19_of_134 (by decide) (by omega) (fun h133 => ?_) (fun h133 => ?_)
                · refine TGo.ll dX19_of_142 rfl ?_
                  refine TGo.lret dX19_of_144 rfl ?_
                  first
                  | (exfalso; omega)
                  | exact ⟨Or.inl ⟨_, by rw [hF, h5, h14, es]; exact tw2_v ev (by omega), by omega, rfl⟩, rfl, rfl, rfl⟩
                · refine TGo.al1 dX19_of_137 rfl ?_
                  refine TGo.getS (t := 11) 0 0 (B + 35) (hB 34 (by decide)) rfl fgX19_26_3 dX19_of_138 rfl rfl rfl ?_
                  refine TGo.athrow dX19_of_141 ?_
                  first
                  | (exfalso; omega)
                  | exact (TGoX.out (t := 12) (fun x hx => by cases hx) (hB 35 (by decide)) rfl ⟨Or.inr ⟨by rw [hF, h5, h14, es]; exact tw2_f ev (by omega), rfl⟩, rfl, rfl, rfl⟩)
          · have es : sg = 42 := by omega
            have ev : rkZ (opC 42) x y = some (x * y) := rfl
            have hb18 := rkZ_r (by omega) (by omega) ev
            refine TGo.ll2 dX19_of_90 rfl ?_
            refine TGo.ll dX19_of_91 rfl ?_
            refine TGo.lmul dX19_of_93 ?_
            refine TGo.goto 117 dX19_of_94 (by decide) ?_
            refine TGo.ls dX19_of_117 rfl rfl ?_
            refine TGo.ll dX19_of_119 rfl ?_
            refine TGo.ldc2 1000000000 dX19_of_121 q1337 (by decide) ?_
            refine TGo.lc_gt 137 dX19_of_124 dX19_of_125 (by decide) (by omega) (fun h124 => ?_) (fun h124 => ?_)
            · refine TGo.al1 dX19_of_137 rfl ?_
              refine TGo.getS (t := 11) 0 0 (B + 35) (hB 34 (by decide)) rfl fgX19_26_3 dX19_of_138 rfl rfl rfl ?_
              refine TGo.athrow dX19_of_141 ?_
              first
              | (exfalso; omega)
              | exact (TGoX.out (t := 12) (fun x hx => by cases hx) (hB 35 (by decide)) rfl ⟨Or.inr ⟨by rw [hF, h5, h14, es]; exact tw2_f ev (by omega), rfl⟩, rfl, rfl, rfl⟩)
            · refine TGo.ll dX19_of_128 rfl ?_
              refine TGo.ldc2 (-1000000000) dX19_of_130 q1338 (by decide) ?_
              refine TGo.lc_ge 142 dX19_of_133 dX19_of_134 (by decide) (by omega) (fun h133 => ?_) (fun h133 => ?_)
              · refine TGo.ll dX19_of_142 rfl ?_
                refine TGo.lret dX19_of_144 rfl ?_
                first
                | (exfalso; omega)
                | exact ⟨Or.inl ⟨_, by rw [hF, h5, h14, es]; exact tw2_v ev (by omega), by omega, rfl⟩, rfl, rfl, rfl⟩
              · refine TGo.al1 dX19_of_137 rfl ?_
                refine TGo.getS (t := 11) 0 0 (B + 35) (hB 34 (by decide)) rfl fgX19_26_3 dX19_of_138 rfl rfl rfl ?_
                refine TGo.athrow dX19_of_141 ?_
                first
                | (exfalso; omega)
                | exact (TGoX.out (t := 12) (fun x hx => by cases hx) (hB 35 (by decide)) rfl ⟨Or.inr ⟨by rw [hF, h5, h14, es]; exact tw2_f ev (by omega), rfl⟩, rfl, rfl, rfl⟩)
        · have es : sg = 45 := by omega
          have ev : rkZ (opC 45) x y = some (x - y) := rfl
          have hb18 := rkZ_r (by omega) (by omega) ev
          refine TGo.ll2 dX19_of_74 rfl ?_
          refine TGo.ll dX19_of_75 rfl ?_
          refine TGo.lsub dX19_of_77 ?_
          refine TGo.goto 117 dX19_of_78 (by decide) ?_
          refine TGo.ls dX19_of_117 rfl rfl ?_
          refine TGo.ll dX19_of_119 rfl ?_
          refine TGo.ldc2 1000000000 dX19_of_121 q1337 (by decide) ?_
          refine TGo.lc_gt 137 dX19_of_124 dX19_of_125 (by decide) (by omega) (fun h124 => ?_) (fun h124 => ?_)
          · refine TGo.al1 dX19_of_137 rfl ?_
            refine TGo.getS (t := 11) 0 0 (B + 35) (hB 34 (by decide)) rfl fgX19_26_3 dX19_of_138 rfl rfl rfl ?_
            refine TGo.athrow dX19_of_141 ?_
            first
            | (exfalso; omega)
            | exact (TGoX.out (t := 12) (fun x hx => by cases hx) (hB 35 (by decide)) rfl ⟨Or.inr ⟨by rw [hF, h5, h14, es]; exact tw2_f ev (by omega), rfl⟩, rfl, rfl, rfl⟩)
          · refine TGo.ll dX19_of_128 rfl ?_
            refine TGo.ldc2 (-1000000000) dX19_of_130 q1338 (by decide) ?_
            refine TGo.lc_ge 142 dX19_of_133 dX19_of_134 (by decide) (by omega) (fun h133 => ?_) (fun h133 => ?_)
            · refine TGo.ll dX19_of_142 rfl ?_
              refine TGo.lret dX19_of_144 rfl ?_
              first
              | (exfalso; omega)
              | exact ⟨Or.inl ⟨_, by rw [hF, h5, h14, es]; exact tw2_v ev (by omega), by omega, rfl⟩, rfl, rfl, rfl⟩
            · refine TGo.al1 dX19_of_137 rfl ?_
              refine TGo.getS (t := 11) 0 0 (B + 35) (hB 34 (by decide)) rfl fgX19_26_3 dX19_of_138 rfl rfl rfl ?_
              refine TGo.athrow dX19_of_141 ?_
              first
              | (exfalso; omega)
              | exact (TGoX.out (t := 12) (fun x hx => by cases hx) (hB 35 (by decide)) rfl ⟨Or.inr ⟨by rw [hF, h5, h14, es]; exact tw2_f ev (by omega), rfl⟩, rfl, rfl, rfl⟩)
      · have es : sg = 43 := by omega
        have ev : rkZ (opC 43) x y = some (x + y) := rfl
        have hb18 := rkZ_r (by omega) (by omega) ev
        refine TGo.ll2 dX19_of_58 rfl ?_
        refine TGo.ll dX19_of_59 rfl ?_
        refine TGo.ladd dX19_of_61 ?_
        refine TGo.goto 117 dX19_of_62 (by decide) ?_
        refine TGo.ls dX19_of_117 rfl rfl ?_
        refine TGo.ll dX19_of_119 rfl ?_
        refine TGo.ldc2 1000000000 dX19_of_121 q1337 (by decide) ?_
        refine TGo.lc_gt 137 dX19_of_124 dX19_of_125 (by decide) (by omega) (fun h124 => ?_) (fun h124 => ?_)
        · refine TGo.al1 dX19_of_137 rfl ?_
          refine TGo.getS (t := 11) 0 0 (B + 35) (hB 34 (by decide)) rfl fgX19_26_3 dX19_of_138 rfl rfl rfl ?_
          refine TGo.athrow dX19_of_141 ?_
          first
          | (exfalso; omega)
          | exact (TGoX.out (t := 12) (fun x hx => by cases hx) (hB 35 (by decide)) rfl ⟨Or.inr ⟨by rw [hF, h5, h14, es]; exact tw2_f ev (by omega), rfl⟩, rfl, rfl, rfl⟩)
        · refine TGo.ll dX19_of_128 rfl ?_
          refine TGo.ldc2 (-1000000000) dX19_of_130 q1338 (by decide) ?_
          refine TGo.lc_ge 142 dX19_of_133 dX19_of_134 (by decide) (by omega) (fun h133 => ?_) (fun h133 => ?_)
          · refine TGo.ll dX19_of_142 rfl ?_
            refine TGo.lret dX19_of_144 rfl ?_
            first
            | (exfalso; omega)
            | exact ⟨Or.inl ⟨_, by rw [hF, h5, h14, es]; exact tw2_v ev (by omega), by omega, rfl⟩, rfl, rfl, rfl⟩
          · refine TGo.al1 dX19_of_137 rfl ?_
            refine TGo.getS (t := 11) 0 0 (B + 35) (hB 34 (by decide)) rfl fgX19_26_3 dX19_of_138 rfl rfl rfl ?_
            refine TGo.athrow dX19_of_141 ?_
            first
            | (exfalso; omega)
            | exact (TGoX.out (t := 12) (fun x hx => by cases hx) (hB 35 (by decide)) rfl ⟨Or.inr ⟨by rw [hF, h5, h14, es]; exact tw2_f ev (by omega), rfl⟩, rfl, rfl, rfl⟩)
    · refine TGo.al1 dX19_of_44 rfl ?_
      refine TGo.getS (t := 11) 0 0 (B + 35) (hB 34 (by decide)) rfl fgX19_26_3 dX19_of_45 rfl rfl rfl ?_
      refine TGo.athrow dX19_of_48 ?_
      first
      | (exfalso; omega)
      | exact (TGoX.out (t := 12) (fun x hx => by cases hx) (hB 35 (by decide)) rfl ⟨Or.inr ⟨by have ey : y = 0 := (by omega); rw [hF, h5, h14, ey]; exact tw2_0 (by omega), rfl⟩, rfl, rfl, rfl⟩)
  · refine TGo.al0 dX19_of_28 rfl ?_
    refine TGo.getI (t := 27) 0 0 ha rfl fgX19_9_19 dX19_of_29 rfl rfl rfl ?_
    refine TGo.toz _ (hg) ?_
    refine TGo.bip 37 dX19_of_32 (by decide) ?_
    refine TGo.icmp_ne 49 dX19_of_34 (by decide) (by omega) (fun h34 => ?_) (fun h34 => ?_)
    · refine TGo.al0 dX19_of_49 rfl ?_
      refine TGo.getI (t := 27) 0 0 ha rfl fgX19_9_19 dX19_of_50 rfl rfl rfl ?_
      refine TGo.toz _ (hg) ?_
      refine TGo.bip 43 dX19_of_53 (by decide) ?_
      refine TGo.icmp_ne 65 dX19_of_55 (by decide) (by omega) (fun h55 => ?_) (fun h55 => ?_)
      · refine TGo.al0 dX19_of_65 rfl ?_
        refine TGo.getI (t := 27) 0 0 ha rfl fgX19_9_19 dX19_of_66 rfl rfl rfl ?_
        refine TGo.toz _ (hg) ?_
        refine TGo.bip 45 dX19_of_69 (by decide) ?_
        refine TGo.icmp_ne 81 dX19_of_71 (by decide) (by omega) (fun h71 => ?_) (fun h71 => ?_)
        · refine TGo.al0 dX19_of_81 rfl ?_
          refine TGo.getI (t := 27) 0 0 ha rfl fgX19_9_19 dX19_of_82 rfl rfl rfl ?_
          refine TGo.toz _ (hg) ?_
          refine TGo.bip 42 dX19_of_85 (by decide) ?_
          refine TGo.icmp_ne 97 dX19_of_87 (by decide) (by omega) (fun h87 => ?_) (fun h87 => ?_)
          · refine TGo.al0 dX19_of_97 rfl ?_
            refine TGo.getI (t := 27) 0 0 ha rfl fgX19_9_19 dX19_of_98 rfl rfl rfl ?_
            refine TGo.toz _ (hg) ?_
            refine TGo.bip 47 dX19_of_101 (by decide) ?_
            refine TGo.icmp_ne 113 dX19_of_103 (by decide) (by omega) (fun h103 => ?_) (fun h103 => ?_)
            · have es : sg = 37 := by omega
              have ey : y ≠ 0 := by omega
              have ev : rkZ (opC 37) x y = some (x.tmod y) := (show (if y = 0 then none else some (x.tmod y)) = _ from if_neg ey)
              have hb18 := rkZ_r (by omega) (by omega) ev
              refine TGo.ll2 dX19_of_113 rfl ?_
              refine TGo.ll dX19_of_114 rfl ?_
              refine TGo.lrem dX19_of_116 (by omega) (by omega) ?_
              refine TGo.ls dX19_of_117 rfl rfl ?_
              refine TGo.ll dX19_of_119 rfl ?_
              refine TGo.ldc2 1000000000 dX19_of_121 q1337 (by decide) ?_
              refine TGo.lc_gt 137 dX19_of_124 dX19_of_125 (by decide) (by omega) (fun h124 => ?_) (fun h124 => ?_)
              · refine TGo.al1 dX19_of_137 rfl ?_
                refine TGo.getS (t := 11) 0 0 (B + 35) (hB 34 (by decide)) rfl fgX19_26_3 dX19_of_138 rfl rfl rfl ?_
                refine TGo.athrow dX19_of_141 ?_
                first
                | (exfalso; omega)
                | exact (TGoX.out (t := 12) (fun x hx => by cases hx) (hB 35 (by decide)) rfl ⟨Or.inr ⟨by rw [hF, h5, h14, es]; exact tw2_f ev (by omega), rfl⟩, rfl, rfl, rfl⟩)
              · refine TGo.ll dX19_of_128 rfl ?_
                refine TGo.ldc2 (-1000000000) dX19_of_130 q1338 (by decide) ?_
                refine TGo.lc_ge 142 dX19_of_133 dX19_of_134 (by decide) (by omega) (fun h133 => ?_) (fun h133 => ?_)
                · refine TGo.ll dX19_of_142 rfl ?_
                  refine TGo.lret dX19_of_144 rfl ?_
                  first
                  | (exfalso; omega)
                  | exact ⟨Or.inl ⟨_, by rw [hF, h5, h14, es]; exact tw2_v ev (by omega), by omega, rfl⟩, rfl, rfl, rfl⟩
                · refine TGo.al1 dX19_of_137 rfl ?_
                  refine TGo.getS (t := 11) 0 0 (B + 35) (hB 34 (by decide)) rfl fgX19_26_3 dX19_of_138 rfl rfl rfl ?_
                  refine TGo.athrow dX19_of_141 ?_
                  first
                  | (exfalso; omega)
                  | exact (TGoX.out (t := 12) (fun x hx => by cases hx) (hB 35 (by decide)) rfl ⟨Or.inr ⟨by rw [hF, h5, h14, es]; exact tw2_f ev (by omega), rfl⟩, rfl, rfl, rfl⟩)
            · have es : sg = 47 := by omega
              have ey : y ≠ 0 := by omega
              have ev : rkZ (opC 47) x y = some (x.tdiv y) := (show (if y = 0 then none else some (x.tdiv y)) = _ from if_neg ey)
              have hb18 := rkZ_r (by omega) (by omega) ev
              refine TGo.ll2 dX19_of_106 rfl ?_
              refine TGo.ll dX19_of_107 rfl ?_
              refine TGo.ldiv dX19_of_109 (by omega) (by omega) ?_
              refine TGo.goto 117 dX19_of_110 (by decide) ?_
              refine TGo.ls dX19_of_117 rfl rfl ?_
              refine TGo.ll dX19_of_119 rfl ?_
              refine TGo.ldc2 1000000000 dX19_of_121 q1337 (by decide) ?_
              refine TGo.lc_gt 137 dX19_of_124 dX19_of_125 (by decide) (by omega) (fun h124 => ?_) (fun h124 => ?_)
              · refine TGo.al1 dX19_of_137 rfl ?_
                refine TGo.getS (t := 11) 0 0 (B + 35) (hB 34 (by decide)) rfl fgX19_26_3 dX19_of_138 rfl rfl rfl ?_
                refine TGo.athrow dX19_of_141 ?_
                first
                | (exfalso; omega)
                | exact (TGoX.out (t := 12) (fun x hx => by cases hx) (hB 35 (by decide)) rfl ⟨Or.inr ⟨by rw [hF, h5, h14, es]; exact tw2_f ev (by omega), rfl⟩, rfl, rfl, rfl⟩)
              · refine TGo.ll dX19_of_128 rfl ?_
                refine TGo.ldc2 (-1000000000) dX19_of_130 q1338 (by decide) ?_
                refine TGo.lc_ge 142 dX19_of_133 dX19_of_134 (by decide) (by omega) (fun h133 => ?_) (fun h133 => ?_)
                · refine TGo.ll dX19_of_142 rfl ?_
                  refine TGo.lret dX19_of_144 rfl ?_
                  first
                  | (exfalso; omega)
                  | exact ⟨Or.inl ⟨_, by rw [hF, h5, h14, es]; exact tw2_v ev (by omega), by omega, rfl⟩, rfl, rfl, rfl⟩
                · refine TGo.al1 dX19_of_137 rfl ?_
                  refine TGo.getS (t := 11) 0 0 (B + 35) (hB 34 (by decide)) rfl fgX19_26_3 dX19_of_138 rfl rfl rfl ?_
                  refine TGo.athrow dX19_of_141 ?_
                  first
                  | (exfalso; omega)
                  | exact (TGoX.out (t := 12) (fun x hx => by cases hx) (hB 35 (by decide)) rfl ⟨Or.inr ⟨by rw [hF, h5, h14, es]; exact tw2_f ev (by omega), rfl⟩, rfl, rfl, rfl⟩)
          · have es : sg = 42 := by omega
            have ev : rkZ (opC 42) x y = some (x * y) := rfl
            have hb18 := rkZ_r (by omega) (by omega) ev
            refine TGo.ll2 dX19_of_90 rfl ?_
            refine TGo.ll dX19_of_91 rfl ?_
            refine TGo.lmul dX19_of_93 ?_
            refine TGo.goto 117 dX19_of_94 (by decide) ?_
            refine TGo.ls dX19_of_117 rfl rfl ?_
            refine TGo.ll dX19_of_119 rfl ?_
            refine TGo.ldc2 1000000000 dX19_of_121 q1337 (by decide) ?_
            refine TGo.lc_gt 137 dX19_of_124 dX19_of_125 (by decide) (by omega) (fun h124 => ?_) (fun h124 => ?_)
            · refine TGo.al1 dX19_of_137 rfl ?_
              refine TGo.getS (t := 11) 0 0 (B + 35) (hB 34 (by decide)) rfl fgX19_26_3 dX19_of_138 rfl rfl rfl ?_
              refine TGo.athrow dX19_of_141 ?_
              first
              | (exfalso; omega)
              | exact (TGoX.out (t := 12) (fun x hx => by cases hx) (hB 35 (by decide)) rfl ⟨Or.inr ⟨by rw [hF, h5, h14, es]; exact tw2_f ev (by omega), rfl⟩, rfl, rfl, rfl⟩)
            · refine TGo.ll dX19_of_128 rfl ?_
              refine TGo.ldc2 (-1000000000) dX19_of_130 q1338 (by decide) ?_
              refine TGo.lc_ge 142 dX19_of_133 dX19_of_134 (by decide) (by omega) (fun h133 => ?_) (fun h133 => ?_)
              · refine TGo.ll dX19_of_142 rfl ?_
                refine TGo.lret dX19_of_144 rfl ?_
                first
                | (exfalso; omega)
                | exact ⟨Or.inl ⟨_, by rw [hF, h5, h14, es]; exact tw2_v ev (by omega), by omega, rfl⟩, rfl, rfl, rfl⟩
              · refine TGo.al1 dX19_of_137 rfl ?_
                refine TGo.getS (t := 11) 0 0 (B + 35) (hB 34 (by decide)) rfl fgX19_26_3 dX19_of_138 rfl rfl rfl ?_
                refine TGo.athrow dX19_of_141 ?_
                first
                | (exfalso; omega)
                | exact (TGoX.out (t := 12) (fun x hx => by cases hx) (hB 35 (by decide)) rfl ⟨Or.inr ⟨by rw [hF, h5, h14, es]; exact tw2_f ev (by omega), rfl⟩, rfl, rfl, rfl⟩)
        · have es : sg = 45 := by omega
          have ev : rkZ (opC 45) x y = some (x - y) := rfl
          have hb18 := rkZ_r (by omega) (by omega) ev
          refine TGo.ll2 dX19_of_74 rfl ?_
          refine TGo.ll dX19_of_75 rfl ?_
          refine TGo.lsub dX19_of_77 ?_
          refine TGo.goto 117 dX19_of_78 (by decide) ?_
          refine TGo.ls dX19_of_117 rfl rfl ?_
          refine TGo.ll dX19_of_119 rfl ?_
          refine TGo.ldc2 1000000000 dX19_of_121 q1337 (by decide) ?_
          refine TGo.lc_gt 137 dX19_of_124 dX19_of_125 (by decide) (by omega) (fun h124 => ?_) (fun h124 => ?_)
          · refine TGo.al1 dX19_of_137 rfl ?_
            refine TGo.getS (t := 11) 0 0 (B + 35) (hB 34 (by decide)) rfl fgX19_26_3 dX19_of_138 rfl rfl rfl ?_
            refine TGo.athrow dX19_of_141 ?_
            first
            | (exfalso; omega)
            | exact (TGoX.out (t := 12) (fun x hx => by cases hx) (hB 35 (by decide)) rfl ⟨Or.inr ⟨by rw [hF, h5, h14, es]; exact tw2_f ev (by omega), rfl⟩, rfl, rfl, rfl⟩)
          · refine TGo.ll dX19_of_128 rfl ?_
            refine TGo.ldc2 (-1000000000) dX19_of_130 q1338 (by decide) ?_
            refine TGo.lc_ge 142 dX19_of_133 dX19_of_134 (by decide) (by omega) (fun h133 => ?_) (fun h133 => ?_)
            · refine TGo.ll dX19_of_142 rfl ?_
              refine TGo.lret dX19_of_144 rfl ?_
              first
              | (exfalso; omega)
              | exact ⟨Or.inl ⟨_, by rw [hF, h5, h14, es]; exact tw2_v ev (by omega), by omega, rfl⟩, rfl, rfl, rfl⟩
            · refine TGo.al1 dX19_of_137 rfl ?_
              refine TGo.getS (t := 11) 0 0 (B + 35) (hB 34 (by decide)) rfl fgX19_26_3 dX19_of_138 rfl rfl rfl ?_
              refine TGo.athrow dX19_of_141 ?_
              first
              | (exfalso; omega)
              | exact (TGoX.out (t := 12) (fun x hx => by cases hx) (hB 35 (by decide)) rfl ⟨Or.inr ⟨by rw [hF, h5, h14, es]; exact tw2_f ev (by omega), rfl⟩, rfl, rfl, rfl⟩)
      · have es : sg = 43 := by omega
        have ev : rkZ (opC 43) x y = some (x + y) := rfl
        have hb18 := rkZ_r (by omega) (by omega) ev
        refine TGo.ll2 dX19_of_58 rfl ?_
        refine TGo.ll dX19_of_59 rfl ?_
        refine TGo.ladd dX19_of_61 ?_
        refine TGo.goto 117 dX19_of_62 (by decide) ?_
        refine TGo.ls dX19_of_117 rfl rfl ?_
        refine TGo.ll dX19_of_119 rfl ?_
        refine TGo.ldc2 1000000000 dX19_of_121 q1337 (by decide) ?_
        refine TGo.lc_gt 137 dX19_of_124 dX19_of_125 (by decide) (by omega) (fun h124 => ?_) (fun h124 => ?_)
        · refine TGo.al1 dX19_of_137 rfl ?_
          refine TGo.getS (t := 11) 0 0 (B + 35) (hB 34 (by decide)) rfl fgX19_26_3 dX19_of_138 rfl rfl rfl ?_
          refine TGo.athrow dX19_of_141 ?_
          first
          | (exfalso; omega)
          | exact (TGoX.out (t := 12) (fun x hx => by cases hx) (hB 35 (by decide)) rfl ⟨Or.inr ⟨by rw [hF, h5, h14, es]; exact tw2_f ev (by omega), rfl⟩, rfl, rfl, rfl⟩)
        · refine TGo.ll dX19_of_128 rfl ?_
          refine TGo.ldc2 (-1000000000) dX19_of_130 q1338 (by decide) ?_
          refine TGo.lc_ge 142 dX19_of_133 dX19_of_134 (by decide) (by omega) (fun h133 => ?_) (fun h133 => ?_)
          · refine TGo.ll dX19_of_142 rfl ?_
            refine TGo.lret dX19_of_144 rfl ?_
            first
            | (exfalso; omega)
            | exact ⟨Or.inl ⟨_, by rw [hF, h5, h14, es]; exact tw2_v ev (by omega), by omega, rfl⟩, rfl, rfl, rfl⟩
          · refine TGo.al1 dX19_of_137 rfl ?_
            refine TGo.getS (t := 11) 0 0 (B + 35) (hB 34 (by decide)) rfl fgX19_26_3 dX19_of_138 rfl rfl rfl ?_
            refine TGo.athrow dX19_of_141 ?_
            first
            | (exfalso; omega)
            | exact (TGoX.out (t := 12) (fun x hx => by cases hx) (hB 35 (by decide)) rfl ⟨Or.inr ⟨by rw [hF, h5, h14, es]; exact tw2_f ev (by omega), rfl⟩, rfl, rfl, rfl⟩)
    · refine TGo.ll dX19_of_37 rfl ?_
      refine TGo.lc0 dX19_of_39 ?_
      refine TGo.lc_ne 49 dX19_of_40 dX19_of_41 (by decide) (by omega) (fun h40 => ?_) (fun h40 => ?_)
      · refine TGo.al0 dX19_of_49 rfl ?_
        refine TGo.getI (t := 27) 0 0 ha rfl fgX19_9_19 dX19_of_50 rfl rfl rfl ?_
        refine TGo.toz _ (hg) ?_
        refine TGo.bip 43 dX19_of_53 (by decide) ?_
        refine TGo.icmp_ne 65 dX19_of_55 (by decide) (by omega) (fun h55 => ?_) (fun h55 => ?_)
        · refine TGo.al0 dX19_of_65 rfl ?_
          refine TGo.getI (t := 27) 0 0 ha rfl fgX19_9_19 dX19_of_66 rfl rfl rfl ?_
          refine TGo.toz _ (hg) ?_
          refine TGo.bip 45 dX19_of_69 (by decide) ?_
          refine TGo.icmp_ne 81 dX19_of_71 (by decide) (by omega) (fun h71 => ?_) (fun h71 => ?_)
          · refine TGo.al0 dX19_of_81 rfl ?_
            refine TGo.getI (t := 27) 0 0 ha rfl fgX19_9_19 dX19_of_82 rfl rfl rfl ?_
            refine TGo.toz _ (hg) ?_
            refine TGo.bip 42 dX19_of_85 (by decide) ?_
            refine TGo.icmp_ne 97 dX19_of_87 (by decide) (by omega) (fun h87 => ?_) (fun h87 => ?_)
            · refine TGo.al0 dX19_of_97 rfl ?_
              refine TGo.getI (t := 27) 0 0 ha rfl fgX19_9_19 dX19_of_98 rfl rfl rfl ?_
              refine TGo.toz _ (hg) ?_
              refine TGo.bip 47 dX19_of_101 (by decide) ?_
              refine TGo.icmp_ne 113 dX19_of_103 (by decide) (by omega) (fun h103 => ?_) (fun h103 => ?_)
              · have es : sg = 37 := by omega
                have ey : y ≠ 0 := by omega
                have ev : rkZ (opC 37) x y = some (x.tmod y) := (show (if y = 0 then none else some (x.tmod y)) = _ from if_neg ey)
                have hb18 := rkZ_r (by omega) (by omega) ev
                refine TGo.ll2 dX19_of_113 rfl ?_
                refine TGo.ll dX19_of_114 rfl ?_
                refine TGo.lrem dX19_of_116 (by omega) (by omega) ?_
                refine TGo.ls dX19_of_117 rfl rfl ?_
                refine TGo.ll dX19_of_119 rfl ?_
                refine TGo.ldc2 1000000000 dX19_of_121 q1337 (by decide) ?_
                refine TGo.lc_gt 137 dX19_of_124 dX19_of_125 (by decide) (by omega) (fun h124 => ?_) (fun h124 => ?_)
                · refine TGo.al1 dX19_of_137 rfl ?_
                  refine TGo.getS (t := 11) 0 0 (B + 35) (hB 34 (by decide)) rfl fgX19_26_3 dX19_of_138 rfl rfl rfl ?_
                  refine TGo.athrow dX19_of_141 ?_
                  first
                  | (exfalso; omega)
                  | exact (TGoX.out (t := 12) (fun x hx => by cases hx) (hB 35 (by decide)) rfl ⟨Or.inr ⟨by rw [hF, h5, h14, es]; exact tw2_f ev (by omega), rfl⟩, rfl, rfl, rfl⟩)
                · refine TGo.ll dX19_of_128 rfl ?_
                  refine TGo.ldc2 (-1000000000) dX19_of_130 q1338 (by decide) ?_
                  refine TGo.lc_ge 142 dX19_of_133 dX19_of_134 (by decide) (by omega) (fun h133 => ?_) (fun h133 => ?_)
                  · refine TGo.ll dX19_of_142 rfl ?_
                    refine TGo.lret dX19_of_144 rfl ?_
                    first
                    | (exfalso; omega)
                    | exact ⟨Or.inl ⟨_, by rw [hF, h5, h14, es]; exact tw2_v ev (by omega), by omega, rfl⟩, rfl, rfl, rfl⟩
                  · refine TGo.al1 dX19_of_137 rfl ?_
                    refine TGo.getS (t := 11) 0 0 (B + 35) (hB 34 (by decide)) rfl fgX19_26_3 dX19_of_138 rfl rfl rfl ?_
                    refine TGo.athrow dX19_of_141 ?_
                    first
                    | (exfalso; omega)
                    | exact (TGoX.out (t := 12) (fun x hx => by cases hx) (hB 35 (by decide)) rfl ⟨Or.inr ⟨by rw [hF, h5, h14, es]; exact tw2_f ev (by omega), rfl⟩, rfl, rfl, rfl⟩)
              · have es : sg = 47 := by omega
                have ey : y ≠ 0 := by omega
                have ev : rkZ (opC 47) x y = some (x.tdiv y) := (show (if y = 0 then none else some (x.tdiv y)) = _ from if_neg ey)
                have hb18 := rkZ_r (by omega) (by omega) ev
                refine TGo.ll2 dX19_of_106 rfl ?_
                refine TGo.ll dX19_of_107 rfl ?_
                refine TGo.ldiv dX19_of_109 (by omega) (by omega) ?_
                refine TGo.goto 117 dX19_of_110 (by decide) ?_
                refine TGo.ls dX19_of_117 rfl rfl ?_
                refine TGo.ll dX19_of_119 rfl ?_
                refine TGo.ldc2 1000000000 dX19_of_121 q1337 (by decide) ?_
                refine TGo.lc_gt 137 dX19_of_124 dX19_of_125 (by decide) (by omega) (fun h124 => ?_) (fun h124 => ?_)
                · refine TGo.al1 dX19_of_137 rfl ?_
                  refine TGo.getS (t := 11) 0 0 (B + 35) (hB 34 (by decide)) rfl fgX19_26_3 dX19_of_138 rfl rfl rfl ?_
                  refine TGo.athrow dX19_of_141 ?_
                  first
                  | (exfalso; omega)
                  | exact (TGoX.out (t := 12) (fun x hx => by cases hx) (hB 35 (by decide)) rfl ⟨Or.inr ⟨by rw [hF, h5, h14, es]; exact tw2_f ev (by omega), rfl⟩, rfl, rfl, rfl⟩)
                · refine TGo.ll dX19_of_128 rfl ?_
                  refine TGo.ldc2 (-1000000000) dX19_of_130 q1338 (by decide) ?_
                  refine TGo.lc_ge 142 dX19_of_133 dX19_of_134 (by decide) (by omega) (fun h133 => ?_) (fun h133 => ?_)
                  · refine TGo.ll dX19_of_142 rfl ?_
                    refine TGo.lret dX19_of_144 rfl ?_
                    first
                    | (exfalso; omega)
                    | exact ⟨Or.inl ⟨_, by rw [hF, h5, h14, es]; exact tw2_v ev (by omega), by omega, rfl⟩, rfl, rfl, rfl⟩
                  · refine TGo.al1 dX19_of_137 rfl ?_
                    refine TGo.getS (t := 11) 0 0 (B + 35) (hB 34 (by decide)) rfl fgX19_26_3 dX19_of_138 rfl rfl rfl ?_
                    refine TGo.athrow dX19_of_141 ?_
                    first
                    | (exfalso; omega)
                    | exact (TGoX.out (t := 12) (fun x hx => by cases hx) (hB 35 (by decide)) rfl ⟨Or.inr ⟨by rw [hF, h5, h14, es]; exact tw2_f ev (by omega), rfl⟩, rfl, rfl, rfl⟩)
            · have es : sg = 42 := by omega
              have ev : rkZ (opC 42) x y = some (x * y) := rfl
              have hb18 := rkZ_r (by omega) (by omega) ev
              refine TGo.ll2 dX19_of_90 rfl ?_
              refine TGo.ll dX19_of_91 rfl ?_
              refine TGo.lmul dX19_of_93 ?_
              refine TGo.goto 117 dX19_of_94 (by decide) ?_
              refine TGo.ls dX19_of_117 rfl rfl ?_
              refine TGo.ll dX19_of_119 rfl ?_
              refine TGo.ldc2 1000000000 dX19_of_121 q1337 (by decide) ?_
              refine TGo.lc_gt 137 dX19_of_124 dX19_of_125 (by decide) (by omega) (fun h124 => ?_) (fun h124 => ?_)
              · refine TGo.al1 dX19_of_137 rfl ?_
                refine TGo.getS (t := 11) 0 0 (B + 35) (hB 34 (by decide)) rfl fgX19_26_3 dX19_of_138 rfl rfl rfl ?_
                refine TGo.athrow dX19_of_141 ?_
                first
                | (exfalso; omega)
                | exact (TGoX.out (t := 12) (fun x hx => by cases hx) (hB 35 (by decide)) rfl ⟨Or.inr ⟨by rw [hF, h5, h14, es]; exact tw2_f ev (by omega), rfl⟩, rfl, rfl, rfl⟩)
              · refine TGo.ll dX19_of_128 rfl ?_
                refine TGo.ldc2 (-1000000000) dX19_of_130 q1338 (by decide) ?_
                refine TGo.lc_ge 142 dX19_of_133 dX19_of_134 (by decide) (by omega) (fun h133 => ?_) (fun h133 => ?_)
                · refine TGo.ll dX19_of_142 rfl ?_
                  refine TGo.lret dX19_of_144 rfl ?_
                  first
                  | (exfalso; omega)
                  | exact ⟨Or.inl ⟨_, by rw [hF, h5, h14, es]; exact tw2_v ev (by omega), by omega, rfl⟩, rfl, rfl, rfl⟩
                · refine TGo.al1 dX19_of_137 rfl ?_
                  refine TGo.getS (t := 11) 0 0 (B + 35) (hB 34 (by decide)) rfl fgX19_26_3 dX19_of_138 rfl rfl rfl ?_
                  refine TGo.athrow dX19_of_141 ?_
                  first
                  | (exfalso; omega)
                  | exact (TGoX.out (t := 12) (fun x hx => by cases hx) (hB 35 (by decide)) rfl ⟨Or.inr ⟨by rw [hF, h5, h14, es]; exact tw2_f ev (by omega), rfl⟩, rfl, rfl, rfl⟩)
          · have es : sg = 45 := by omega
            have ev : rkZ (opC 45) x y = some (x - y) := rfl
            have hb18 := rkZ_r (by omega) (by omega) ev
            refine TGo.ll2 dX19_of_74 rfl ?_
            refine TGo.ll dX19_of_75 rfl ?_
            refine TGo.lsub dX19_of_77 ?_
            refine TGo.goto 117 dX19_of_78 (by decide) ?_
            refine TGo.ls dX19_of_117 rfl rfl ?_
            refine TGo.ll dX19_of_119 rfl ?_
            refine TGo.ldc2 1000000000 dX19_of_121 q1337 (by decide) ?_
            refine TGo.lc_gt 137 dX19_of_124 dX19_of_125 (by decide) (by omega) (fun h124 => ?_) (fun h124 => ?_)
            · refine TGo.al1 dX19_of_137 rfl ?_
              refine TGo.getS (t := 11) 0 0 (B + 35) (hB 34 (by decide)) rfl fgX19_26_3 dX19_of_138 rfl rfl rfl ?_
              refine TGo.athrow dX19_of_141 ?_
              first
              | (exfalso; omega)
              | exact (TGoX.out (t := 12) (fun x hx => by cases hx) (hB 35 (by decide)) rfl ⟨Or.inr ⟨by rw [hF, h5, h14, es]; exact tw2_f ev (by omega), rfl⟩, rfl, rfl, rfl⟩)
            · refine TGo.ll dX19_of_128 rfl ?_
              refine TGo.ldc2 (-1000000000) dX19_of_130 q1338 (by decide) ?_
              refine TGo.lc_ge 142 dX19_of_133 dX19_of_134 (by decide) (by omega) (fun h133 => ?_) (fun h133 => ?_)
              · refine TGo.ll dX19_of_142 rfl ?_
                refine TGo.lret dX19_of_144 rfl ?_
                first
                | (exfalso; omega)
                | exact ⟨Or.inl ⟨_, by rw [hF, h5, h14, es]; exact tw2_v ev (by omega), by omega, rfl⟩, rfl, rfl, rfl⟩
              · refine TGo.al1 dX19_of_137 rfl ?_
                refine TGo.getS (t := 11) 0 0 (B + 35) (hB 34 (by decide)) rfl fgX19_26_3 dX19_of_138 rfl rfl rfl ?_
                refine TGo.athrow dX19_of_141 ?_
                first
                | (exfalso; omega)
                | exact (TGoX.out (t := 12) (fun x hx => by cases hx) (hB 35 (by decide)) rfl ⟨Or.inr ⟨by rw [hF, h5, h14, es]; exact tw2_f ev (by omega), rfl⟩, rfl, rfl, rfl⟩)
        · have es : sg = 43 := by omega
          have ev : rkZ (opC 43) x y = some (x + y) := rfl
          have hb18 := rkZ_r (by omega) (by omega) ev
          refine TGo.ll2 dX19_of_58 rfl ?_
          refine TGo.ll dX19_of_59 rfl ?_
          refine TGo.ladd dX19_of_61 ?_
          refine TGo.goto 117 dX19_of_62 (by decide) ?_
          refine TGo.ls dX19_of_117 rfl rfl ?_
          refine TGo.ll dX19_of_119 rfl ?_
          refine TGo.ldc2 1000000000 dX19_of_121 q1337 (by decide) ?_
          refine TGo.lc_gt 137 dX19_of_124 dX19_of_125 (by decide) (by omega) (fun h124 => ?_) (fun h124 => ?_)
          · refine TGo.al1 dX19_of_137 rfl ?_
            refine TGo.getS (t := 11) 0 0 (B + 35) (hB 34 (by decide)) rfl fgX19_26_3 dX19_of_138 rfl rfl rfl ?_
            refine TGo.athrow dX19_of_141 ?_
            first
            | (exfalso; omega)
            | exact (TGoX.out (t := 12) (fun x hx => by cases hx) (hB 35 (by decide)) rfl ⟨Or.inr ⟨by rw [hF, h5, h14, es]; exact tw2_f ev (by omega), rfl⟩, rfl, rfl, rfl⟩)
          · refine TGo.ll dX19_of_128 rfl ?_
            refine TGo.ldc2 (-1000000000) dX19_of_130 q1338 (by decide) ?_
            refine TGo.lc_ge 142 dX19_of_133 dX19_of_134 (by decide) (by omega) (fun h133 => ?_) (fun h133 => ?_)
            · refine TGo.ll dX19_of_142 rfl ?_
              refine TGo.lret dX19_of_144 rfl ?_
              first
              | (exfalso; omega)
              | exact ⟨Or.inl ⟨_, by rw [hF, h5, h14, es]; exact tw2_v ev (by omega), by omega, rfl⟩, rfl, rfl, rfl⟩
            · refine TGo.al1 dX19_of_137 rfl ?_
              refine TGo.getS (t := 11) 0 0 (B + 35) (hB 34 (by decide)) rfl fgX19_26_3 dX19_of_138 rfl rfl rfl ?_
              refine TGo.athrow dX19_of_141 ?_
              first
              | (exfalso; omega)
              | exact (TGoX.out (t := 12) (fun x hx => by cases hx) (hB 35 (by decide)) rfl ⟨Or.inr ⟨by rw [hF, h5, h14, es]; exact tw2_f ev (by omega), rfl⟩, rfl, rfl, rfl⟩)
      · refine TGo.al1 dX19_of_44 rfl ?_
        refine TGo.getS (t := 11) 0 0 (B + 35) (hB 34 (by decide)) rfl fgX19_26_3 dX19_of_45 rfl rfl rfl ?_
        refine TGo.athrow dX19_of_48 ?_
        first
        | (exfalso; omega)
        | exact (TGoX.out (t := 12) (fun x hx => by cases hx) (hB 35 (by decide)) rfl ⟨Or.inr ⟨by have ey : y = 0 := (by omega); rw [hF, h5, h14, ey]; exact tw2_0 (by omega), rfl⟩, rfl, rfl, rfl⟩)
theorem SumOK.all {E : ET} : ∀ n : Nat, SumOK E n := by
  intro n
  induction n with
  | zero => intro sh nn V ow B a val F _ _ _ h; exact absurd h id
  | succ n ih =>
    intro sh nn V ow B a val F hB hs h9 h
    obtain ⟨-, h⟩ := h
    rcases h with ⟨e, h1, h2⟩ | ⟨e, h1, h2⟩ | ⟨e, h1, l, r, Fl, Fr, h2, h3, h4, h5, h6⟩
    · refine ⟨fun _ => (kX17_of e rfl h1).monoE (fun o sh' nn' V' _ q => ⟨Or.inl ⟨_, h2 val, by omega, q.1⟩, q.2⟩), fun q => ?_, fun q => ?_⟩ <;> (rw [e] at q; cases q)
    · refine ⟨fun q => ?_, fun _ => (kX18_of e hB hs rfl h1).monoE (fun o sh' nn' V' _ q => ⟨Or.inl ⟨_, h2 val, h9 _ (by omega) (by omega), q.1⟩, q.2⟩), fun q => ?_⟩ <;> (rw [e] at q; cases q)
    · refine ⟨fun q => ?_, fun q => ?_, fun _ => kX19_of e hB hs h9 ih rfl h1 h2 h3 h4 h5 h6⟩ <;> (rw [e] at q; cases q)
set_option maxHeartbeats 4000000 in
theorem kX21_is {E : ET} {sh : SHT} {nn : Nat × Nat} {V : VT} {a B n l r : Nat} {ow : Nat → Nat} {val : Int → Int} {Fl Fr : FnT} (ha : sh a = (29, 0)) (hB : XSh B sh) (hs : SetV B V val) (h9 : B9Z val) (H : SumOK E n) {sg : Int} (hg : V.1 a 0 = sg) (hsg : sg = 60 ∨ sg = 62 ∨ sg = 61) (hl : V.2.2 a 1 = some l) (hr : V.2.2 a 2 = some r) (hL : SmR ow sh V n l Fl) (hR : SmR ow sh V n r Fr) {F : FnT} (hF : ∀ v, F v = tw2 sg (Fl v) (Fr v)) : TC E mX21_is (n + 1 + 8) [.ref a, .ref (B + 34)] sh nn V (TestP B (F val) sh nn V) := by
  refine TC.intro [some (.ref a), some (.ref (B + 34)), none, none, none, none] rfl ?_
  refine TGo.al0 dX21_is_0 rfl ?_
  refine TGo.getQ (t := 29) 1 1 l ha rfl fgX21_13_21 dX21_is_1 rfl ⟨rfl, hl⟩ rfl ?_
  refine TGo.al1 dX21_is_4 rfl ?_
  refine TGo.cSum (n := n) (val := val) dX21_is_5 q1325 rfl (Nat.ble_eq_true_of_le (by omega)) H hB hs h9 hL (fun h5 => (TGoX.out (t := 12) (fun x hx => by cases hx) (hB 35 (by decide)) rfl ⟨Or.inr ⟨by rw [hF, h5]; rfl, rfl⟩, rfl, rfl, rfl⟩)) (fun x h5 hb5 => ?_)
  refine TGo.ls2 dX21_is_8 rfl rfl ?_
  refine TGo.al0 dX21_is_9 rfl ?_
  refine TGo.getQ (t := 29) 2 2 r ha rfl fgX21_17_21 dX21_is_10 rfl ⟨rfl, hr⟩ rfl ?_
  refine TGo.al1 dX21_is_13 rfl ?_
  refine TGo.cSum (n := n) (val := val) dX21_is_14 q1325 rfl (Nat.ble_eq_true_of_le (by omega)) H hB hs h9 hR (fun h14 => (TGoX.out (t := 12) (fun x hx => by cases hx) (hB 35 (by decide)) rfl ⟨Or.inr ⟨by rw [hF, h14]; exact tw2_n2, rfl⟩, rfl, rfl, rfl⟩)) (fun y h14 hb14 => ?_)
  refine TGo.ls dX21_is_17 rfl rfl ?_
  refine TGo.al0 dX21_is_19 rfl ?_
  refine TGo.getI (t := 29) 0 0 ha rfl fgX21_7_21 dX21_is_20 rfl rfl rfl ?_
  refine TGo.toz _ (hg) ?_
  refine TGo.bip 60 dX21_is_23 (by decide) ?_
  refine TGo.icmp_ne 43 dX21_is_25 (by decide) (by omega) (fun h25 => ?_) (fun h25 => ?_)
  · refine TGo.al0 dX21_is_43 rfl ?_
    refine TGo.getI (t := 29) 0 0 ha rfl fgX21_7_21 dX21_is_44 rfl rfl rfl ?_
    refine TGo.toz _ (hg) ?_
    refine TGo.bip 62 dX21_is_47 (by decide) ?_
    refine TGo.icmp_ne 67 dX21_is_49 (by decide) (by omega) (fun h49 => ?_) (fun h49 => ?_)
    · have es : sg = 61 := by omega
      have ev : rkZ (opC 61) x y = some (if x = y then 1 else 0) := rfl
      refine TGo.ll2 dX21_is_67 rfl ?_
      refine TGo.ll dX21_is_68 rfl ?_
      refine TGo.lc_ne 78 dX21_is_70 dX21_is_71 (by decide) (by omega) (fun h70 => ?_) (fun h70 => ?_)
      · refine TGo.ic0 dX21_is_78 ?_
        refine TGo.zret dX21_is_79 rfl (by first | exact Or.inl rfl | exact Or.inr rfl | exact bZ_or _ | assumption) ?_
        first
        | (exfalso; omega)
        | exact ⟨Or.inl ⟨1, by rw [hF, h5, h14, es]; rw [if_pos (by omega)] at ev; exact tw2_v ev (by omega), Or.inr rfl, rfl⟩, rfl, rfl, rfl⟩
        | exact ⟨Or.inl ⟨0, by rw [hF, h5, h14, es]; rw [if_neg (by omega)] at ev; exact tw2_v ev (by omega), Or.inl rfl, rfl⟩, rfl, rfl, rfl⟩
      · refine TGo.ic1 dX21_is_74 ?_
        refine TGo.goto 79 dX21_is_75 (by decide) ?_
        refine TGo.zret dX21_is_79 rfl (by first | exact Or.inl rfl | exact Or.inr rfl | exact bZ_or _ | assumption) ?_
        first
        | (exfalso; omega)
        | exact ⟨Or.inl ⟨1, by rw [hF, h5, h14, es]; rw [if_pos (by omega)] at ev; exact tw2_v ev (by omega), Or.inr rfl, rfl⟩, rfl, rfl, rfl⟩
        | exact ⟨Or.inl ⟨0, by rw [hF, h5, h14, es]; rw [if_neg (by omega)] at ev; exact tw2_v ev (by omega), Or.inl rfl, rfl⟩, rfl, rfl, rfl⟩
    · have es : sg = 62 := by omega
      have ev : rkZ (opC 62) x y = some (if y < x then 1 else 0) := rfl
      refine TGo.ll2 dX21_is_52 rfl ?_
      refine TGo.ll dX21_is_53 rfl ?_
      refine TGo.lc_le 63 dX21_is_55 dX21_is_56 (by decide) (by omega) (fun h55 => ?_) (fun h55 => ?_)
      · refine TGo.ic0 dX21_is_63 ?_
        refine TGo.goto 79 dX21_is_64 (by decide) ?_
        refine TGo.zret dX21_is_79 rfl (by first | exact Or.inl rfl | exact Or.inr rfl | exact bZ_or _ | assumption) ?_
        first
        | (exfalso; omega)
        | exact ⟨Or.inl ⟨1, by rw [hF, h5, h14, es]; rw [if_pos (by omega)] at ev; exact tw2_v ev (by omega), Or.inr rfl, rfl⟩, rfl, rfl, rfl⟩
        | exact ⟨Or.inl ⟨0, by rw [hF, h5, h14, es]; rw [if_neg (by omega)] at ev; exact tw2_v ev (by omega), Or.inl rfl, rfl⟩, rfl, rfl, rfl⟩
      · refine TGo.ic1 dX21_is_59 ?_
        refine TGo.goto 79 dX21_is_60 (by decide) ?_
        refine TGo.zret dX21_is_79 rfl (by first | exact Or.inl rfl | exact Or.inr rfl | exact bZ_or _ | assumption) ?_
        first
        | (exfalso; omega)
        | exact ⟨Or.inl ⟨1, by rw [hF, h5, h14, es]; rw [if_pos (by omega)] at ev; exact tw2_v ev (by omega), Or.inr rfl, rfl⟩, rfl, rfl, rfl⟩
        | exact ⟨Or.inl ⟨0, by rw [hF, h5, h14, es]; rw [if_neg (by omega)] at ev; exact tw2_v ev (by omega), Or.inl rfl, rfl⟩, rfl, rfl, rfl⟩
  · have es : sg = 60 := by omega
    have ev : rkZ (opC 60) x y = some (if x < y then 1 else 0) := rfl
    refine TGo.ll2 dX21_is_28 rfl ?_
    refine TGo.ll dX21_is_29 rfl ?_
    refine TGo.lc_ge 39 dX21_is_31 dX21_is_32 (by decide) (by omega) (fun h31 => ?_) (fun h31 => ?_)
    · refine TGo.ic0 dX21_is_39 ?_
      refine TGo.goto 79 dX21_is_40 (by decide) ?_
      refine TGo.zret dX21_is_79 rfl (by first | exact Or.inl rfl | exact Or.inr rfl | exact bZ_or _ | assumption) ?_
      first
      | (exfalso; omega)
      | exact ⟨Or.inl ⟨1, by rw [hF, h5, h14, es]; rw [if_pos (by omega)] at ev; exact tw2_v ev (by omega), Or.inr rfl, rfl⟩, rfl, rfl, rfl⟩
      | exact ⟨Or.inl ⟨0, by rw [hF, h5, h14, es]; rw [if_neg (by omega)] at ev; exact tw2_v ev (by omega), Or.inl rfl, rfl⟩, rfl, rfl, rfl⟩
    · refine TGo.ic1 dX21_is_35 ?_
      refine TGo.goto 79 dX21_is_36 (by decide) ?_
      refine TGo.zret dX21_is_79 rfl (by first | exact Or.inl rfl | exact Or.inr rfl | exact bZ_or _ | assumption) ?_
      first
      | (exfalso; omega)
      | exact ⟨Or.inl ⟨1, by rw [hF, h5, h14, es]; rw [if_pos (by omega)] at ev; exact tw2_v ev (by omega), Or.inr rfl, rfl⟩, rfl, rfl, rfl⟩
      | exact ⟨Or.inl ⟨0, by rw [hF, h5, h14, es]; rw [if_neg (by omega)] at ev; exact tw2_v ev (by omega), Or.inl rfl, rfl⟩, rfl, rfl, rfl⟩
set_option maxHeartbeats 4000000 in
theorem kX22_is {E : ET} {sh : SHT} {nn : Nat × Nat} {V : VT} {a B n l : Nat} {ow : Nat → Nat} {val : Int → Int} {Fl : FnT} (ha : sh a = (30, 0)) (hB : XSh B sh) (hs : SetV B V val) (h9 : B9Z val) (HT : TestOK E n) (hl : V.2.2 a 0 = some l) (hL : TsR ow sh V n l Fl) {F : FnT} (hF : ∀ v, F v = (Fl v).map (fun x => 1 - x)) : TC E mX22_is (n + 1 + 8) [.ref a, .ref (B + 34)] sh nn V (TestP B (F val) sh nn V) := by
  refine TC.intro [some (.ref a), some (.ref (B + 34))] rfl ?_
  refine TGo.al0 dX22_is_0 rfl ?_
  refine TGo.getQ (t := 30) 0 0 l ha rfl fgX22_7_22 dX22_is_1 rfl ⟨rfl, hl⟩ rfl ?_
  refine TGo.al1 dX22_is_4 rfl ?_
  refine TGo.cTest (n := n) (val := val) dX22_is_5 q1343 rfl (Nat.ble_eq_true_of_le (by omega)) HT hB hs h9 hL (fun h5 => (TGoX.out (t := 12) (fun x hx => by cases hx) (hB 35 (by decide)) rfl ⟨Or.inr ⟨by rw [hF, h5]; rfl, rfl⟩, rfl, rfl, rfl⟩)) (fun x h5 hb5 => ?_)
  refine TGo.if_ne 15 dX22_is_8 (by decide) (by omega) (fun h8 => ?_) (fun h8 => ?_)
  · refine TGo.ic0 dX22_is_15 ?_
    refine TGo.zret dX22_is_16 rfl (by first | exact Or.inl rfl | exact Or.inr rfl | exact bZ_or _ | assumption) ?_
    first
    | exact ⟨Or.inl ⟨1, by rw [hF, h5, show x = 0 by omega]; rfl, Or.inr rfl, rfl⟩, rfl, rfl, rfl⟩
    | exact ⟨Or.inl ⟨0, by rw [hF, h5, show x = 1 by omega]; rfl, Or.inl rfl, rfl⟩, rfl, rfl, rfl⟩
  · refine TGo.ic1 dX22_is_11 ?_
    refine TGo.goto 16 dX22_is_12 (by decide) ?_
    refine TGo.zret dX22_is_16 rfl (by first | exact Or.inl rfl | exact Or.inr rfl | exact bZ_or _ | assumption) ?_
    first
    | exact ⟨Or.inl ⟨1, by rw [hF, h5, show x = 0 by omega]; rfl, Or.inr rfl, rfl⟩, rfl, rfl, rfl⟩
    | exact ⟨Or.inl ⟨0, by rw [hF, h5, show x = 1 by omega]; rfl, Or.inl rfl, rfl⟩, rfl, rfl, rfl⟩
set_option maxHeartbeats 4000000 in
theorem lX23_is {E : ET} {sh : SHT} {nn : Nat × Nat} {V : VT} {a B u A c m : Nat} {g : Nat → Nat} {G : Nat → FnT} {ow : Nat → Nat} {val : Int → Int} {r : Option Int} (hz : True) (ha : sh a = (31, 0)) (hB : XSh B sh) (hs : SetV B V val) (h9 : B9Z val) (HT : TestOK E u) {al : Int} (hg : V.1 a 0 = al) (hal : al = 0 ∨ al = 1) (hL : StL ow sh V 4 (a + 1) A c m g) (hG : ∀ k, k < m → TsR ow sh V u (g k) (G k)) : ∀ (n j : Nat), m - j < n → j ≤ m → sevZ al G val (m - j) j = r → TGo E mX23_is (u + 1 + 8) 2 [some (.ref a), some (.ref (B + 34)), some (.int (iI (((j) : Nat) : Int)))] [] sh nn V (TestP B r sh nn V) := by
  intro n
  induction n with
  | zero => intro j h; omega
  | succ n ih =>
    intro j hn hj hx
    have hm := hL.1.2.2.2.2.1
    refine TGo.il2 dX23_is_2 rfl ?_
    refine TGo.al0 dX23_is_3 rfl ?_
    refine TGo.getS (t := 31) 1 1 (a + 1) ha rfl fgX23_12_23 dX23_is_4 rfl rfl rfl ?_
    refine TGo.cF (csV0 (y2 := mJ2_size) (t := 20) 1 rfl hL.1.1 rfl rfl dX23_is_7 q1346 q757 q758 okJ2_size npJ2_size rfl rfl) (kJ2_size hL.1) ?_
    refine TGo.icmp_ge 54 dX23_is_10 (by decide) (by omega) (fun h10 => ?_) (fun h10 => ?_)
    · refine TGo.al0 dX23_is_54 rfl ?_
      refine TGo.getI (t := 31) 0 0 ha rfl fgX23_18_23 dX23_is_55 rfl rfl rfl ?_
      refine TGo.toz _ (hg) ?_
      refine TGo.zret dX23_is_58 rfl (by first | exact Or.inl rfl | exact Or.inr rfl | exact bZ_or _ | assumption) ?_
      obtain rfl : j = m := by omega
      rw [Nat.sub_self] at hx
      exact ⟨Or.inl ⟨al, hx.symm, hal, rfl⟩, rfl, rfl, rfl⟩
    · refine TGo.al0 dX23_is_13 rfl ?_
      refine TGo.getS (t := 31) 1 1 (a + 1) ha rfl fgX23_12_23 dX23_is_14 rfl rfl rfl ?_
      refine TGo.il2 dX23_is_17 rfl ?_
      refine TGo.cF (csV1 (y2 := mJ2_get) (t := 20) 3 rfl hL.1.1 rfl rfl dX23_is_18 q1347 q761 q762 okJ2_get npJ2_get rfl rfl) (kJ2_get hL.1 (k := j) (by omega)) ?_
      refine TGo.castT dX23_is_21 q1348 (hG j (by omega)) ?_
      refine TGo.al1 dX23_is_24 rfl ?_
      refine TGo.cTest (n := u) (val := val) (F := G j) dX23_is_25 q1349 rfl (Nat.ble_eq_true_of_le (by omega)) HT hB hs h9 (hG j (by omega)) (fun h25 => (TGoX.out (t := 12) (fun x hx => by cases hx) (hB 35 (by decide)) rfl ⟨Or.inr ⟨by rw [show m - j = (m - (j + 1)) + 1 by omega, sevZ, h25] at hx; exact hx.symm, rfl⟩, rfl, rfl, rfl⟩)) (fun x h25 hb25 => ?_)
      refine TGo.al0 dX23_is_28 rfl ?_
      refine TGo.getI (t := 31) 0 0 ha rfl fgX23_18_23 dX23_is_29 rfl rfl rfl ?_
      refine TGo.toz _ (hg) ?_
      refine TGo.icmp_eq 48 dX23_is_32 (by decide) (by omega) (fun h32 => ?_) (fun h32 => ?_)
      · refine TGo.iinc dX23_is_48 rfl rfl rfl ?_
        refine TGo.goto 2 dX23_is_51 (by decide) ?_
        exact TGo.seq [some (.ref a), some (.ref (B + 34)), some (.int (iI ((((j + 1)) : Nat) : Int)))] [] _ (rfl) rfl rfl (ih (j + 1) (by omega) (by omega) (by rw [show m - j = (m - (j + 1)) + 1 by omega, sevZ, h25] at hx; simp only at hx; rw [if_pos (by omega)] at hx; exact hx))
      · refine TGo.al0 dX23_is_35 rfl ?_
        refine TGo.getI (t := 31) 0 0 ha rfl fgX23_18_23 dX23_is_36 rfl rfl rfl ?_
        refine TGo.toz _ (hg) ?_
        refine TGo.if_ne 46 dX23_is_39 (by decide) (by omega) (fun h39 => ?_) (fun h39 => ?_)
        · refine TGo.ic0 dX23_is_46 ?_
          refine TGo.zret dX23_is_47 rfl (by first | exact Or.inl rfl | exact Or.inr rfl | exact bZ_or _ | assumption) ?_
          rw [show m - j = (m - (j + 1)) + 1 by omega, sevZ, h25] at hx
          simp only at hx
          rw [if_neg (by omega)] at hx
          first
          | exact ⟨Or.inl ⟨1, by rw [← hx]; exact congrArg some (by omega), Or.inr rfl, rfl⟩, rfl, rfl, rfl⟩
          | exact ⟨Or.inl ⟨0, by rw [← hx]; exact congrArg some (by omega), Or.inl rfl, rfl⟩, rfl, rfl, rfl⟩
        · refine TGo.ic1 dX23_is_42 ?_
          refine TGo.goto 47 dX23_is_43 (by decide) ?_
          refine TGo.zret dX23_is_47 rfl (by first | exact Or.inl rfl | exact Or.inr rfl | exact bZ_or _ | assumption) ?_
          rw [show m - j = (m - (j + 1)) + 1 by omega, sevZ, h25] at hx
          simp only at hx
          rw [if_neg (by omega)] at hx
          first
          | exact ⟨Or.inl ⟨1, by rw [← hx]; exact congrArg some (by omega), Or.inr rfl, rfl⟩, rfl, rfl, rfl⟩
          | exact ⟨Or.inl ⟨0, by rw [← hx]; exact congrArg some (by omega), Or.inl rfl, rfl⟩, rfl, rfl, rfl⟩
set_option maxHeartbeats 4000000 in
theorem kX23_is {E : ET} {sh : SHT} {nn : Nat × Nat} {V : VT} {a B u A c m : Nat} {g : Nat → Nat} {G : Nat → FnT} {ow : Nat → Nat} {val : Int → Int} (ha : sh a = (31, 0)) (hB : XSh B sh) (hs : SetV B V val) (h9 : B9Z val) (HT : TestOK E u) {al : Int} (hg : V.1 a 0 = al) (hal : al = 0 ∨ al = 1) (hL : StL ow sh V 4 (a + 1) A c m g) (hG : ∀ k, k < m → TsR ow sh V u (g k) (G k)) : TC E mX23_is (u + 1 + 8) [.ref a, .ref (B + 34)] sh nn V (TestP B (sevZ al G val m 0) sh nn V) := by
  refine TC.intro [some (.ref a), some (.ref (B + 34)), none] rfl ?_
  refine TGo.ic0 dX23_is_0 ?_
  refine TGo.is2 dX23_is_1 rfl rfl ?_
  exact lX23_is (V := V) trivial ha hB hs h9 HT hg hal hL hG (m + 1) 0 (by omega) (by omega) (by rw [Nat.sub_zero])
theorem TestOK.all {E : ET} : ∀ n : Nat, TestOK E n := by
  intro n
  induction n with
  | zero => intro sh nn V ow B a val F _ _ _ h; exact absurd h id
  | succ n ih =>
    intro sh nn V ow B a val F hB hs h9 h
    obtain ⟨-, h⟩ := h
    rcases h with ⟨e, h1, l, r, Fl, Fr, h2, h3, h4, h5, h6⟩ | ⟨e, l, Fl, h2, h3, h4⟩ | ⟨e, h1, A, c, m, g, G, h2, h3, h4⟩
    · refine ⟨fun _ => kX21_is e hB hs h9 (SumOK.all n) rfl h1 h2 h3 h4 h5 h6, fun q => ?_, fun q => ?_⟩ <;> (rw [e] at q; cases q)
    · refine ⟨fun q => ?_, fun _ => kX22_is e hB hs h9 ih h2 h3 h4, fun q => ?_⟩ <;> (rw [e] at q; cases q)
    · refine ⟨fun q => ?_, fun q => ?_, fun _ => ?_⟩
      · rw [e] at q; cases q
      · rw [e] at q; cases q
      · rw [h4 val]; exact kX23_is e hB hs h9 ih rfl h1 h2 h3
def tnZ : Option Int → Int
  | none => -4000000000
  | some v => v
set_option maxHeartbeats 4000000 in
theorem eX15_tells {E : ET} {a B : Nat} {sh : SHT} {nn : Nat × Nat} {V : VT} : TGo E mX15_tells 209 42 [some (.ref a), some (.ref (B + 34)), none] [.ref (B + 35)] sh nn V (fun o sh' nn' V' => o = .inl (some (.long (lI (-4000000000)))) ∧ sh' = sh ∧ nn' = nn ∧ V' = V) := by
  refine TGo.as2 dX15_tells_42 rfl rfl ?_
  refine TGo.ldc2 (-4000000000) dX15_tells_43 q1432 (by decide) ?_
  refine TGo.lret dX15_tells_46 rfl ?_
  exact ⟨rfl, rfl, rfl, rfl⟩
set_option maxHeartbeats 4000000 in
theorem kX15_tells {E : ET} {sh : SHT} {nn : Nat × Nat} {V : VT} {a B : Nat} {h : Int} {ow : Nat → Nat} {val : Int → Int} {F : FnT} (hB : XSh B sh) (hs : SetV B V val) (h9 : B9Z val) (hcl : ClR ow sh V a h F) : TF E mX15_tells 209 [.ref a, .ref (B + 34)] sh nn V (.long (lI (tnZ (F val)))) := by
  obtain ⟨-, hsh, hh, S, T, hS, hT, hF⟩ := hcl
  refine TC.intro [some (.ref a), some (.ref (B + 34)), none] rfl ?_
  refine TGo.al0 dX15_tells_0 rfl ?_
  refine TGo.getR (t := 23) 2 2 hsh rfl fgX15_15_15 dX15_tells_1 rfl rfl rfl ?_
  refine TGo.ifnull 22 dX15_tells_4 (by decide) (fun h4 => ?_) (fun a4 h4 => ?_)
  · have hT1 : T val = some 1 := (hT.resolve_right (fun ⟨t, n, e, _⟩ => by rw [e] at h4; cases h4)).2 val
    refine TGo.al0 dX15_tells_22 rfl ?_
    refine TGo.getR (t := 23) 1 1 hsh rfl fgX15_27_15 dX15_tells_23 rfl rfl rfl ?_
    refine TGo.ifnonnull 33 dX15_tells_26 (by decide) (fun a26 h26 => ?_) (fun h26 => ?_)
    · obtain ⟨s, n, es, hn, hs2⟩ := hS.resolve_left (fun q => by rw [q.1] at h26; cases h26)
      refine TGo.al0 dX15_tells_33 rfl ?_
      refine TGo.getQ (t := 23) 1 1 s hsh rfl fgX15_27_15 dX15_tells_34 rfl ⟨rfl, es⟩ rfl ?_
      refine TGo.al1 dX15_tells_37 rfl ?_
      refine TGo.cSum (n := n) (val := val) dX15_tells_38 q1433 rfl (Nat.ble_eq_true_of_le (by omega)) (SumOK.all n) hB hs h9 hs2 (fun h38 => ?_) (fun y h38 hb38 => ?_)
      · have hN : F val = none := by rw [hF, if_pos hT1]; exact h38
        exact TGoX.catch [_] _ [] 42 rfl (by decide) (by decide) (by decide) (hB 35 (by decide)) rfl rfl q1430 q282 rfl (eX15_tells.mono (fun o s n v q => ⟨by rw [hN]; exact q.1, q.2⟩))
      refine TGo.lret dX15_tells_41 rfl ?_
      first
      | exact ⟨by rw [hF, if_pos hT1, h38]; rfl, rfl, rfl, rfl⟩
      | exact ⟨by rw [hF, if_pos hT1, (hS.resolve_right (fun ⟨t, n, e, _⟩ => by rw [e] at h26; cases h26)).2 val]; rfl, rfl, rfl, rfl⟩
    · refine TGo.lc1 dX15_tells_29 ?_
      refine TGo.goto 41 dX15_tells_30 (by decide) ?_
      refine TGo.lret dX15_tells_41 rfl ?_
      first
      | exact ⟨by rw [hF, if_pos hT1, h38]; rfl, rfl, rfl, rfl⟩
      | exact ⟨by rw [hF, if_pos hT1, (hS.resolve_right (fun ⟨t, n, e, _⟩ => by rw [e] at h26; cases h26)).2 val]; rfl, rfl, rfl, rfl⟩
  · obtain ⟨t, n, et, hn, ht⟩ := hT.resolve_left (fun q => by rw [q.1] at h4; cases h4)
    refine TGo.al0 dX15_tells_7 rfl ?_
    refine TGo.getQ (t := 23) 2 2 t hsh rfl fgX15_15_15 dX15_tells_8 rfl ⟨rfl, et⟩ rfl ?_
    refine TGo.al1 dX15_tells_11 rfl ?_
    refine TGo.cTest (n := n) (val := val) dX15_tells_12 q1431 rfl (Nat.ble_eq_true_of_le (by omega)) (TestOK.all n) hB hs h9 ht (fun h12 => ?_) (fun x h12 hb12 => ?_)
    · have hN : F val = none := by rw [hF, h12]; exact if_neg (by simp)
      exact TGoX.catch [] _ [_] 42 rfl (by decide) (by decide) (by decide) (hB 35 (by decide)) rfl rfl q1430 q282 rfl (eX15_tells.mono (fun o s n v q => ⟨by rw [hN]; exact q.1, q.2⟩))
    refine TGo.if_ne 22 dX15_tells_15 (by decide) (by omega) (fun h15 => ?_) (fun h15 => ?_)
    · have hT1 : T val = some 1 := by rw [h12, show x = 1 by omega]
      refine TGo.al0 dX15_tells_22 rfl ?_
      refine TGo.getR (t := 23) 1 1 hsh rfl fgX15_27_15 dX15_tells_23 rfl rfl rfl ?_
      refine TGo.ifnonnull 33 dX15_tells_26 (by decide) (fun a26 h26 => ?_) (fun h26 => ?_)
      · obtain ⟨s, n, es, hn, hs2⟩ := hS.resolve_left (fun q => by rw [q.1] at h26; cases h26)
        refine TGo.al0 dX15_tells_33 rfl ?_
        refine TGo.getQ (t := 23) 1 1 s hsh rfl fgX15_27_15 dX15_tells_34 rfl ⟨rfl, es⟩ rfl ?_
        refine TGo.al1 dX15_tells_37 rfl ?_
        refine TGo.cSum (n := n) (val := val) dX15_tells_38 q1433 rfl (Nat.ble_eq_true_of_le (by omega)) (SumOK.all n) hB hs h9 hs2 (fun h38 => ?_) (fun y h38 hb38 => ?_)
        · have hN : F val = none := by rw [hF, if_pos hT1]; exact h38
          exact TGoX.catch [_] _ [] 42 rfl (by decide) (by decide) (by decide) (hB 35 (by decide)) rfl rfl q1430 q282 rfl (eX15_tells.mono (fun o s n v q => ⟨by rw [hN]; exact q.1, q.2⟩))
        refine TGo.lret dX15_tells_41 rfl ?_
        first
        | exact ⟨by rw [hF, if_pos hT1, h38]; rfl, rfl, rfl, rfl⟩
        | exact ⟨by rw [hF, if_pos hT1, (hS.resolve_right (fun ⟨t, n, e, _⟩ => by rw [e] at h26; cases h26)).2 val]; rfl, rfl, rfl, rfl⟩
      · refine TGo.lc1 dX15_tells_29 ?_
        refine TGo.goto 41 dX15_tells_30 (by decide) ?_
        refine TGo.lret dX15_tells_41 rfl ?_
        first
        | exact ⟨by rw [hF, if_pos hT1, h38]; rfl, rfl, rfl, rfl⟩
        | exact ⟨by rw [hF, if_pos hT1, (hS.resolve_right (fun ⟨t, n, e, _⟩ => by rw [e] at h26; cases h26)).2 val]; rfl, rfl, rfl, rfl⟩
    · refine TGo.ldc2 (-4000000000) dX15_tells_18 q1432 (by decide) ?_
      refine TGo.lret dX15_tells_21 rfl ?_
      have hN : F val = none := by rw [hF, h12, show x = 0 by omega]; exact if_neg (by simp)
      exact ⟨by rw [hN]; rfl, rfl, rfl, rfl⟩
theorem txZ_e {f : Int → Int} {i : Int} (h : 780 ≤ i) : txZ f i = f i := if_pos h
theorem spZ_up {op ag val : Int → Int} {l k : Int} {st : List Int} {q : Int × List Int} (h : spZ op ag val l k st = some (some q)) : k < q.1 := by
  unfold spZ at h
  repeat' split at h
  all_goals first
    | (cases h; done)
    | (cases h; simp only; omega)
theorem evZ_cg {op ag op' ag' val : Int → Int} {l : Int} (h : ∀ k, 0 ≤ k → op' k = op k ∧ ag' k = ag k) : ∀ (n : Nat) (k : Int) (st : List Int), 0 ≤ k → evZ op' ag' val l n k st = evZ op ag val l n k st := by
  intro n
  induction n with
  | zero => intro k st _; rfl
  | succ n ih =>
    intro k st hk
    have e : spZ op' ag' val l k st = spZ op ag val l k st := by unfold spZ; rw [(h k hk).1, (h k hk).2]
    rw [evZ, evZ, e]
    by_cases hl : l ≤ k
    · rw [if_pos hl, if_pos hl]
    · rw [if_neg hl, if_neg hl]
      cases hq : spZ op ag val l k st with
      | none => rfl
      | some x =>
        cases x with
        | none => rfl
        | some q => exact ih q.1 q.2 (by have := spZ_up hq; omega)
theorem vaZ_cg {op ag op' ag' val : Int → Int} {i l : Int} (h : ∀ k, 0 ≤ k → op' k = op k ∧ ag' k = ag k) (hi : 0 ≤ i) : vaZ op' ag' val i l = vaZ op ag val i l := by
  unfold vaZ
  rw [evZ_cg h _ _ _ hi]
theorem csZ_tx {f : Int → Int} {l k : Int} {val : Int → Int} (hl : 0 ≤ l) (hk : 780 ≤ k) (hc : ClZ f (780 + 900 * l) k) : csZ (txZ f) (780 + 900 * l) val k = csZ f (780 + 900 * l) val k := by
  obtain ⟨-, c2, c3, -⟩ := hc
  have ho : ∀ j, 0 ≤ j → opL (txZ f) (780 + 900 * l) j = opL f (780 + 900 * l) j ∧ agL (txZ f) (780 + 900 * l) j = agL f (780 + 900 * l) j := fun j hj => ⟨txZ_e (by omega), txZ_e (by omega)⟩
  unfold csZ
  rw [txZ_e (show 780 ≤ k by omega), txZ_e (show 780 ≤ k + 5 by omega), txZ_e (show 780 ≤ k + 6 by omega), txZ_e (show 780 ≤ k + 3 by omega), txZ_e (show 780 ≤ k + 4 by omega), vaZ_cg ho c2.1, vaZ_cg ho c3.1]
theorem tlZ_d {f : Int → Int} {L h : Int} {val : Int → Int} {w : Int} (hL : LwZ f L) (hv : B9Z val) : ∀ c : Nat, (c : Int) ≤ f (L + 1) → tlZ f L h val w c = if tlZ f L h val (-4000000000) c = -4000000000 then w else tlZ f L h val (-4000000000) c := by
  intro c
  induction c with
  | zero => intro _; exact (if_pos rfl).symm
  | succ c ih =>
    intro hc
    have h1 := ih (by omega)
    by_cases e : f (L + 2 + 8 * (c : Int)) = h
    · cases hq : csZ f L val (L + 2 + 8 * (c : Int)) with
      | none => rw [tlZ_n (Or.inr hq), tlZ_n (Or.inr hq)]; exact h1
      | some v =>
        have q := (csZ_r (hL.2 (c : Int) (by omega) (by omega)) hv hq).1
        rw [tlZ_y e hq, tlZ_y e hq, if_neg (by omega)]
    · rw [tlZ_n (Or.inl e), tlZ_n (Or.inl e)]; exact h1
theorem tlZ_bar {f : Int → Int} {L : Int} {val : Int → Int} (hL : LwZ f L) (hv : B9Z val) : ∀ c : Nat, (c : Int) ≤ f (L + 1) → tlZ f L 2 val (-4000000000) c = -4000000000 ∨ tlZ f L 2 val (-4000000000) c = 1 := by
  intro c
  induction c with
  | zero => intro _; exact Or.inl rfl
  | succ c ih =>
    intro hc
    have h1 := ih (by omega)
    by_cases e : f (L + 2 + 8 * (c : Int)) = 2
    · cases hq : csZ f L val (L + 2 + 8 * (c : Int)) with
      | none => rw [tlZ_n (Or.inr hq)]; exact h1
      | some v =>
        rw [tlZ_y e hq]
        exact Or.inr ((csZ_r (hL.2 (c : Int) (by omega) (by omega)) hv hq).2 e)
    · rw [tlZ_n (Or.inl e)]; exact h1
set_option maxHeartbeats 4000000 in
theorem lX26_told {E : ET} {sh : SHT} {nn : Nat × Nat} {a B C A c : Nat} {ow : Nat → Nat} {g : Nat → Nat} {Fk : Nat → FnT} {f : Int → Int} {l h : Int} {val : Int → Int} {V0 : VT} (ha : sh a = (34, 0)) (hB : XSh B sh) (hs : SetV B V0 val) (h9 : B9Z val) (hC : V0.2.2 a 0 = some C) (hL : StL ow sh V0 4 C A c (txZ f (780 + 900 * l + 1)).toNat g) (hk : ∀ k : Nat, (k : Int) < txZ f (780 + 900 * l + 1) → ClR ow sh V0 (g k) (txZ f (780 + 900 * l + 2 + 8 * (k : Int))) (Fk k) ∧ ∀ val, B9Z val → Fk k val = csZ (txZ f) (780 + 900 * l) val (780 + 900 * l + 2 + 8 * (k : Int))) (hl : 0 ≤ l) (hw : LwZ f (780 + 900 * l)) (hh : R32 h) : ∀ (n j : Nat) (V : VT) (x y : Option Value), (f (780 + 900 * l + 1)).toNat - j < n → j ≤ (f (780 + 900 * l + 1)).toNat → V0 = V → TGo E mX26_told 210 7 [some (.ref a), some (.int (iI h)), some (.ref (B + 34)), some (.long (lI (tlZ f (780 + 900 * l) h val (-4000000000) (j)))), none, some (.int (iI (((j) : Nat) : Int))), x, y] [] sh nn V (fun o sh' nn' V' => o = .inl (some (.long (lI (tlZ f (780 + 900 * l) h val (-4000000000) ((f (780 + 900 * l + 1)).toNat))))) ∧ sh' = sh ∧ nn' = nn ∧ V' = V0) := by
  intro n
  induction n with
  | zero => intro j V x y h; omega
  | succ n ih =>
    intro j V x y hn hj hz
    subst hz
    have e1 : txZ f (780 + 900 * l + 1) = f (780 + 900 * l + 1) := txZ_e (by omega)
    have hw1 := hw.1
    rw [e1] at hL hk
    refine TGo.il dX26_told_7 rfl ?_
    refine TGo.al0 dX26_told_9 rfl ?_
    refine TGo.getQ (t := 34) 0 0 C ha rfl fgX26_9_26 dX26_told_10 rfl ⟨rfl, hC⟩ rfl ?_
    refine TGo.cF (csV0 (y2 := mJ2_size) (t := 20) 1 rfl hL.1.1 rfl rfl dX26_told_13 q1423 q757 q758 okJ2_size npJ2_size rfl rfl) (kJ2_size hL.1) ?_
    refine TGo.icmp_ge 77 dX26_told_16 (by decide) (by omega) (fun h16 => ?_) (fun h16 => ?_)
    · refine TGo.ll3 dX26_told_77 rfl ?_
      refine TGo.lret dX26_told_78 rfl ?_
      obtain rfl : j = (f (780 + 900 * l + 1)).toNat := by omega
      exact ⟨rfl, rfl, rfl, rfl⟩
    · have hcl := hk j (by omega)
      have hclz := hw.2 (j : Int) (by omega) (by omega)
      have hcs := hcl.2 val h9
      rw [csZ_tx hl (by omega) hclz] at hcs
      have e2 : txZ f (780 + 900 * l + 2 + 8 * (j : Int)) = f (780 + 900 * l + 2 + 8 * (j : Int)) := txZ_e (by omega)
      rw [e2] at hcl
      have hhr : 0 ≤ f (780 + 900 * l + 2 + 8 * (j : Int)) ∧ f (780 + 900 * l + 2 + 8 * (j : Int)) ≤ 2 := hclz.1
      refine TGo.al0 dX26_told_19 rfl ?_
      refine TGo.getQ (t := 34) 0 0 C ha rfl fgX26_9_26 dX26_told_20 rfl ⟨rfl, hC⟩ rfl ?_
      refine TGo.il dX26_told_23 rfl ?_
      refine TGo.cF (csV1 (y2 := mJ2_get) (t := 20) 3 rfl hL.1.1 rfl rfl dX26_told_25 q1424 q761 q762 okJ2_get npJ2_get rfl rfl) (kJ2_get hL.1 (k := j) (by omega)) ?_
      refine TGo.castO (t := 23) dX26_told_28 q1425 hcl.1.2.1 rfl rfl (Or.inl rfl) ?_
      refine TGo.getI (t := 23) 0 0 hcl.1.2.1 rfl fgX26_29_15 dX26_told_31 rfl rfl rfl ?_
      refine TGo.toz _ (hcl.1.2.2.1) ?_
      refine TGo.il1 dX26_told_34 rfl ?_
      refine TGo.icmp_eq 41 dX26_told_35 (by decide) (by omega) (fun h35 => ?_) (fun h35 => ?_)
      · refine TGo.al0 dX26_told_41 rfl ?_
        refine TGo.getQ (t := 34) 0 0 C ha rfl fgX26_9_26 dX26_told_42 rfl ⟨rfl, hC⟩ rfl ?_
        refine TGo.il dX26_told_45 rfl ?_
        refine TGo.cF (csV1 (y2 := mJ2_get) (t := 20) 3 rfl hL.1.1 rfl rfl dX26_told_47 q1424 q761 q762 okJ2_get npJ2_get rfl rfl) (kJ2_get hL.1 (k := j) (by omega)) ?_
        refine TGo.castO (t := 23) dX26_told_50 q1425 hcl.1.2.1 rfl rfl (Or.inl rfl) ?_
        refine TGo.al2 dX26_told_53 rfl ?_
        refine TGo.cF (csH1 (y2 := mX15_tells) (t := 23) 209 rfl hcl.1.2.1 rfl rfl dX26_told_54 q1426 q1427 q1428 okX15_tells npX15_tells rfl rfl) (kX15_tells hB hs h9 hcl.1) ?_
        
        have htb : -4000000000 ≤ tnZ (Fk j val) ∧ tnZ (Fk j val) ≤ 1000000000 := by
          rw [hcs]
          cases hq : csZ f (780 + 900 * l) val (780 + 900 * l + 2 + 8 * (j : Int)) with
          | none => exact ⟨by decide, by decide⟩
          | some v => have q := (csZ_r hclz h9 hq).1; exact ⟨by show -4000000000 ≤ v; omega, by show v ≤ 1000000000; omega⟩
        refine TGo.ls dX26_told_57 rfl rfl ?_
        refine TGo.ll dX26_told_59 rfl ?_
        refine TGo.ldc2 (-4000000000) dX26_told_61 q1422 (by decide) ?_
        refine TGo.lc_eq 71 dX26_told_64 dX26_told_65 (by decide) (by omega) (fun h64 => ?_) (fun h64 => ?_)
        · refine TGo.iinc dX26_told_71 rfl rfl rfl ?_
          refine TGo.goto 7 dX26_told_74 (by decide) ?_
          exact TGo.seq [some (.ref a), some (.int (iI h)), some (.ref (B + 34)), some (.long (lI (tlZ f (780 + 900 * l) h val (-4000000000) ((j + 1))))), none, some (.int (iI ((((j + 1)) : Nat) : Int))), some (.long (lI (tnZ (Fk j val)))), none] [] _ (by
            first
            | (rw [tlZ_n (Or.inl (by omega))]; rfl)
            | (cases hq : csZ f (780 + 900 * l) val (780 + 900 * l + 2 + 8 * (j : Int)) with
               | none =>
                 rw [tlZ_n (Or.inr hq)]
                 first
                 | rfl
                 | (rw [hq] at hcs; exact absurd (show tnZ (Fk j val) = -4000000000 by rw [hcs]; rfl) h64)
               | some v =>
                 rw [tlZ_y (by omega) hq]
                 first
                 | (rw [hcs, hq]; rfl)
                 | (rw [hcs, hq]; done)
                 | (exfalso
                    have q := (csZ_r hclz h9 hq).1
                    have q2 : tnZ (Fk j val) = v := by rw [hcs, hq]; rfl
                    omega))) rfl rfl (ih (j + 1) _ (some (.long (lI (tnZ (Fk j val))))) none (by omega) (by omega) rfl)
        · refine TGo.ll dX26_told_68 rfl ?_
          refine TGo.ls3 dX26_told_70 rfl rfl ?_
          refine TGo.iinc dX26_told_71 rfl rfl rfl ?_
          refine TGo.goto 7 dX26_told_74 (by decide) ?_
          exact TGo.seq [some (.ref a), some (.int (iI h)), some (.ref (B + 34)), some (.long (lI (tlZ f (780 + 900 * l) h val (-4000000000) ((j + 1))))), none, some (.int (iI ((((j + 1)) : Nat) : Int))), some (.long (lI (tnZ (Fk j val)))), none] [] _ (by
            first
            | (rw [tlZ_n (Or.inl (by omega))]; rfl)
            | (cases hq : csZ f (780 + 900 * l) val (780 + 900 * l + 2 + 8 * (j : Int)) with
               | none =>
                 rw [tlZ_n (Or.inr hq)]
                 first
                 | rfl
                 | (rw [hq] at hcs; exact absurd (show tnZ (Fk j val) = -4000000000 by rw [hcs]; rfl) h64)
               | some v =>
                 rw [tlZ_y (by omega) hq]
                 first
                 | (rw [hcs, hq]; rfl)
                 | (rw [hcs, hq]; done)
                 | (exfalso
                    have q := (csZ_r hclz h9 hq).1
                    have q2 : tnZ (Fk j val) = v := by rw [hcs, hq]; rfl
                    omega))) rfl rfl (ih (j + 1) _ (some (.long (lI (tnZ (Fk j val))))) none (by omega) (by omega) rfl)
      · refine TGo.goto 71 dX26_told_38 (by decide) ?_
        refine TGo.iinc dX26_told_71 rfl rfl rfl ?_
        refine TGo.goto 7 dX26_told_74 (by decide) ?_
        exact TGo.seq [some (.ref a), some (.int (iI h)), some (.ref (B + 34)), some (.long (lI (tlZ f (780 + 900 * l) h val (-4000000000) ((j + 1))))), none, some (.int (iI ((((j + 1)) : Nat) : Int))), x, y] [] _ (by
          first
          | (rw [tlZ_n (Or.inl (by omega))]; rfl)
          | (cases hq : csZ f (780 + 900 * l) val (780 + 900 * l + 2 + 8 * (j : Int)) with
             | none =>
               rw [tlZ_n (Or.inr hq)]
               first
               | rfl
               | (rw [hq] at hcs; exact absurd (show tnZ (Fk j val) = -4000000000 by rw [hcs]; rfl) h64)
             | some v =>
               rw [tlZ_y (by omega) hq]
               first
               | (rw [hcs, hq]; rfl)
               | (rw [hcs, hq]; done)
               | (exfalso
                  have q := (csZ_r hclz h9 hq).1
                  have q2 : tnZ (Fk j val) = v := by rw [hcs, hq]; rfl
                  omega))) rfl rfl (ih (j + 1) _ x y (by omega) (by omega) rfl)
set_option maxHeartbeats 4000000 in
theorem kX26_told {E : ET} {sh : SHT} {nn : Nat × Nat} {V : VT} {a B C A c : Nat} {ow : Nat → Nat} {g : Nat → Nat} {Fk : Nat → FnT} {f : Int → Int} {l : Int} {val : Int → Int} {h : Int} (ha : sh a = (34, 0)) (hB : XSh B sh) (hs : SetV B V val) (h9 : B9Z val) (hC : V.2.2 a 0 = some C) (hL : StL ow sh V 4 C A c (txZ f (780 + 900 * l + 1)).toNat g) (hk : ∀ k : Nat, (k : Int) < txZ f (780 + 900 * l + 1) → ClR ow sh V (g k) (txZ f (780 + 900 * l + 2 + 8 * (k : Int))) (Fk k) ∧ ∀ val, B9Z val → Fk k val = csZ (txZ f) (780 + 900 * l) val (780 + 900 * l + 2 + 8 * (k : Int))) (hl : 0 ≤ l) (hw : LwZ f (780 + 900 * l)) (hh : R32 h) : TF E mX26_told 210 [.ref a, .int (iI h), .ref (B + 34)] sh nn V (.long (lI (tlZ f (780 + 900 * l) h val (-4000000000) ((f (780 + 900 * l + 1)).toNat)))) := by
  refine TC.intro [some (.ref a), some (.int (iI h)), some (.ref (B + 34)), none, none, none, none, none] rfl ?_
  refine TGo.ldc2 (-4000000000) dX26_told_0 q1422 (by decide) ?_
  refine TGo.ls3 dX26_told_3 rfl rfl ?_
  refine TGo.ic0 dX26_told_4 ?_
  refine TGo.is dX26_told_5 rfl rfl ?_
  exact lX26_told (V0 := V) ha hB hs h9 hC hL hk hl hw hh ((f (780 + 900 * l + 1)).toNat + 1) 0 _ _ _ (by omega) (by omega) rfl
