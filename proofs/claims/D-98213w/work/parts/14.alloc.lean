/-! RULES THAT MAKE CELLS; constants; statics; switches; ends -/
set_option maxRecDepth 100000
/-- one cell more, of n slots -/
abbrev spush (σ : AH) (e : AE) (n : Nat) : AH := (va_up σ.1 σ.2.1 (some e), σ.2.1 + 1, σ.2.2 + n)
theorem HOK.push {E : ET} {σ : AH} {H H1 : Heap} {e : AE} {n : Nat} (h : HOK E σ H) (hz : H1.size = H.size + 1) (ho : ∀ q : Nat, q < H.size → H1[q]? = H[q]?) (he : va_at (eD E) clsL (σ.2.1, cnc E e) H1) : HOK E (spush σ e n) H1 := by
  refine ⟨by show H1.size = σ.2.1 + 1; rw [hz, h.1], Nat.le_succ_of_le h.2.1, fun q hq => ?_, fun b eb hb => ?_⟩
  · rw [ho q (by rw [h.1]; exact Nat.lt_of_lt_of_le hq h.2.1)]
    exact h.2.2.1 q hq
  · by_cases hba : b = σ.2.1
    · subst hba
      have h1 : va_up σ.1 σ.2.1 (some e) σ.2.1 = some eb := hb
      simp only [va_up, if_true] at h1
      cases h1
      exact ⟨he, h.2.1⟩
    · have h1 : σ.1 b = some eb := by
        have h1 : va_up σ.1 σ.2.1 (some e) b = some eb := hb
        simp only [va_up, if_neg hba] at h1
        exact h1
      have h2 := h.2.2.2 b eb h1
      exact ⟨h2.1.kept (ho b (by rw [h.1]; exact h.lt h1)), h2.2⟩
/-- a row that makes a cell -/
theorem Go.mk {E : ET} {y : MI} {d pc pc' n : Nat} {ls : LV} {st st' : List Value} {σ : AH} {Q : AO → AH → Prop} (e1 : AE)
    (hrow : ∀ {p : Program} {e : Env} {R : Room} {s : State} {m : MethodId} {args : Array Value} {below : List Frame} {meth : Method} {c : Code} {H : Heap} {locs : List Loc} {cells slots : Nat} {Z : State → Prop} {LS : Array Slot}, Cx E y d p R s m args meth c → HOK E σ H → cells + 1 ≤ R.cells → slots + n ≤ R.slots → (∀ H1 : Heap, H1.size = H.size + 1 → (∀ q : Nat, q < H.size → H1[q]? = H[q]?) → va_at (eD E) clsL (σ.2.1, cnc E e1) H1 → W p (eL E) e R s m args below meth c H1 locs (cells + 1) (slots + n) Z (F0 m pc' LS st')) → W p (eL E) e R s m args below meth c H locs cells slots Z (F0 m pc LS st))
    (k : Go E y d pc' ls st' (spush σ e1 n) Q) : Go E y d pc ls st σ Q := by
  obtain ⟨o, σ', hQ, h1, h2, h3⟩ := k
  have g1 : σ.2.1 + 1 ≤ σ'.2.1 := h1
  have g2 : σ.2.2 + n ≤ σ'.2.2 := h2
  refine ⟨o, σ', hQ, by omega, by omega, ?_⟩
  intro p e R s m args below meth c Z mc ms cells slots sl0 H locs LS C a1 a2 a3 a4 a5 a6 a7 a8 a9 a10
  refine hrow C a8 (by omega) (by omega) fun H1 hz ho he => ?_
  exact h3 p e R s m args below meth c Z mc ms (cells + 1) (slots + n) sl0 H1 locs LS C (by show _ = σ.2.1 + 1; omega) a2 (by show _ = σ.2.2 + n; omega) a4 a5 a6 a7 (a8.push hz ho he) a9 a10
/-- an object is made at a place -/
def NW (own : String) (idx ci N : Nat) (fs : List Value) : Prop := ∃ (C : String) (T : u_T) (ty : Nat → FieldType), clsL[ci]? = some (C, T, N) ∧ (∀ w ∈ u_ws C T N, w ∈ lw_all) ∧ (∀ k, k < N → parseFieldDescriptor (T k).2.2.1 = some (ty k)) ∧ Cond.classLink own idx C ∈ lw_all ∧ Cond.instantiable C N ∈ lw_all ∧ Cond.initialized C ∈ lw_all ∧ ∀ j, j < N → defaultValue (ty j) = vp_V fs j
theorem Go.new {E : ET} {y : MI} {d pc : Nat} {ls : LV} {st : List Value} {σ : AH} {Q : AO → AH → Prop} {idx ci N : Nat} {fs : List Value} (hN : NW y.1.cls idx ci N fs) (hd : decode y.2.1 pc = .ok (.new idx, 3)) (kk : Go E y d (pc + 3) ls (.ref σ.2.1 :: st) (spush σ (.inr (ci, fs)) N) Q) : Go E y d pc ls st σ Q := by
  obtain ⟨C, T, ty, hc, hin, hty, hcl, hinst, hini, hfs⟩ := hN
  refine Go.mk (.inr (ci, fs)) (fun {p e R s m args below meth c H locs cells slots Z LS} X hH h1 h2 kk => ?_) kk
  have hKn := X.va.1 ci _ hc
  refine W.newcK X.hx X.hb X.own (X.hts _ hcl) (X.hts _ hinst) (X.hts _ hini) rfl hd h1 h2 hKn.2.1 rfl fun H1 kC hkC e1 z1 o1 => ?_
  have hz := hH.1
  have kk := kk H1 z1 o1 (by rw [← hz]; exact ⟨_, hc, (u_born ty X.hts hin hKn hkC e1 hty).to hfs⟩)
  rw [← hz] at kk
  exact kk
theorem Go.newaG {E : ET} {y : MI} {d pc : Nat} {ls : LV} {st : List Value} {σ : AH} {Q : AO → AH → Prop} {atype : ArrayType} {t N : Nat} {n : Int32} {x : vp_A} (hd : decode y.2.1 pc = .ok (.newarray atype, 2)) (hw : Cond.arrayClass (newarray.typeOf atype) ∈ lw_all) (ht : (tysE E)[t]? = some (eA E t, newarray.typeOf atype)) (hx : ∀ cA : ClassId, vp_cell cA x = arrV cA N (fun _ => defaultValue (newarray.typeOf atype))) (hn : ¬ n < 0) (hN : n.toNatClampNeg = N) (hbytes : N * componentBytes (newarray.typeOf atype) ≤ 536870912) (kk : Go E y d (pc + 2) ls (.ref σ.2.1 :: st) (spush σ (.inl (t, x)) N) Q) : Go E y d pc ls (.int n :: st) σ Q := by
  refine Go.mk (.inl (t, x)) (fun {p e R s m args below meth c H locs cells slots Z LS} X hH h1 h2 kk => ?_) kk
  refine va_newaK X.hx X.hb (X.hts _ hw) rfl hd rfl hn hN hbytes h1 h2 rfl fun H1 cA e1 z1 o1 hAr hNm => ?_
  have hz := hH.1
  have hRA := (X.va.2 t _ ht).2
  have hcA : cA = eA E t := by
    have h3 : s.vm.findClass ("[" ++ (newarray.typeOf atype).toString) = some (eA E t) := by
      cases atype <;> exact hRA
    exact Option.some.inj (hNm.symm.trans h3)
  subst hcA
  have kk := kk H1 z1 o1 (by rw [← hz]; show H1[H.size]? = some (vp_cell _ _); rw [hx]; exact e1)
  rw [← hz] at kk
  exact kk
theorem Go.newI {E : ET} {y : MI} {d pc : Nat} {ls : LV} {st : List Value} {σ : AH} {Q : AO → AH → Prop} {n : Int32} (N : Nat) (hd : decode y.2.1 pc = .ok (.newarray .int, 2)) (hw : Cond.arrayClass .int ∈ lw_all) (hn : ¬ n < 0) (hN : n.toNatClampNeg = N) (hbytes : N * 4 ≤ 536870912) (kk : Go E y d (pc + 2) ls (.ref σ.2.1 :: st) (spush σ (.inl (0, N, .inl (fun _ => 0))) N) Q) : Go E y d pc ls (.int n :: st) σ Q := Go.newaG (t := 0) hd hw rfl (fun _ => rfl) hn hN hbytes kk
theorem Go.newB {E : ET} {y : MI} {d pc : Nat} {ls : LV} {st : List Value} {σ : AH} {Q : AO → AH → Prop} {n : Int32} (N : Nat) (hd : decode y.2.1 pc = .ok (.newarray .byte, 2)) (hw : Cond.arrayClass .byte ∈ lw_all) (hn : ¬ n < 0) (hN : n.toNatClampNeg = N) (hbytes : N * 1 ≤ 536870912) (kk : Go E y d (pc + 2) ls (.ref σ.2.1 :: st) (spush σ (.inl (1, N, .inl (fun _ => 0))) N) Q) : Go E y d pc ls (.int n :: st) σ Q := Go.newaG (t := 1) hd hw rfl (fun _ => rfl) hn hN hbytes kk
theorem Go.newJ {E : ET} {y : MI} {d pc : Nat} {ls : LV} {st : List Value} {σ : AH} {Q : AO → AH → Prop} {n : Int32} (N : Nat) (hd : decode y.2.1 pc = .ok (.newarray .long, 2)) (hw : Cond.arrayClass .long ∈ lw_all) (hn : ¬ n < 0) (hN : n.toNatClampNeg = N) (hbytes : N * 8 ≤ 536870912) (kk : Go E y d (pc + 2) ls (.ref σ.2.1 :: st) (spush σ (.inl (2, N, .inr (.inl (fun _ => 0)))) N) Q) : Go E y d pc ls (.int n :: st) σ Q := Go.newaG (t := 2) hd hw rfl (fun _ => rfl) hn hN hbytes kk
theorem Go.newZ {E : ET} {y : MI} {d pc : Nat} {ls : LV} {st : List Value} {σ : AH} {Q : AO → AH → Prop} {n : Int32} (N : Nat) (hd : decode y.2.1 pc = .ok (.newarray .boolean, 2)) (hw : Cond.arrayClass .boolean ∈ lw_all) (hn : ¬ n < 0) (hN : n.toNatClampNeg = N) (hbytes : N * 1 ≤ 536870912) (kk : Go E y d (pc + 2) ls (.ref σ.2.1 :: st) (spush σ (.inl (3, N, .inl (fun _ => 0))) N) Q) : Go E y d pc ls (.int n :: st) σ Q := Go.newaG (t := 3) hd hw rfl (fun _ => rfl) hn hN hbytes kk
theorem Go.anewO {E : ET} {y : MI} {d pc : Nat} {ls : LV} {st : List Value} {σ : AH} {Q : AO → AH → Prop} {n : Int32} {idx : Nat} (N : Nat) (hd : decode y.2.1 pc = .ok (.anewarray idx, 3)) (hcl : Cond.classLink y.1.cls idx "java/lang/Object" ∈ lw_all) (hn : ¬ n < 0) (hN : n.toNatClampNeg = N) (hbytes : N * 4 ≤ 536870912) (kk : Go E y d (pc + 3) ls (.ref σ.2.1 :: st) (spush σ (.inl (4, N, .inr (.inr (.inr (.inr (fun _ => none)))))) N) Q) : Go E y d pc ls (.int n :: st) σ Q := by
  refine Go.mk (.inl (4, N, .inr (.inr (.inr (.inr (fun _ => none)))))) (fun {p e R s m args below meth c H locs cells slots Z LS} X hH h1 h2 kk => ?_) kk
  subst hN
  have hz := hH.1
  refine W.anew X.hx X.hb X.own (X.hts _ hcl) (va_AO.use X.K.1.2.2.1.2.2) rfl hd rfl hn hbytes h1 h2 fun cA kA comp f1 f2 f3 f4 => ?_
  obtain ⟨kA', comp', g1, g2, g3, g4⟩ := (X.va.2 4 _ (rfl : (tysE E)[4]? = some (eA E 4, .object "java/lang/Object"))).2
  have hcA : cA = eA E 4 := Option.some.inj (f1.symm.trans g4)
  subst hcA
  have kk := kk (H.push { cls := eA E 4, slots := Array.replicate n.toNatClampNeg .null, vm := .none }) (by simp) (fun q hq => by rw [Array.getElem?_push, if_neg (Nat.ne_of_lt hq)]) (by
    rw [← hz]
    show (H.push _)[H.size]? = some (vp_cell _ _)
    rw [vp_cell_q, Array.getElem?_push, if_pos rfl, arrV_new]
    rfl)
  rw [← hz] at kk
  exact kk
theorem Go.anewS {E : ET} {y : MI} {d pc : Nat} {ls : LV} {st : List Value} {σ : AH} {Q : AO → AH → Prop} {n : Int32} {idx : Nat} (N : Nat) (hd : decode y.2.1 pc = .ok (.anewarray idx, 3)) (hcl : Cond.classLink y.1.cls idx "DeadUnderstudies$Script" ∈ lw_all) (hn : ¬ n < 0) (hN : n.toNatClampNeg = N) (hbytes : N * 4 ≤ 536870912) (kk : Go E y d (pc + 3) ls (.ref σ.2.1 :: st) (spush σ (.inl (5, N, .inr (.inr (.inr (.inr (fun _ => none)))))) N) Q) : Go E y d pc ls (.int n :: st) σ Q := by
  refine Go.mk (.inl (5, N, .inr (.inr (.inr (.inr (fun _ => none)))))) (fun {p e R s m args below meth c H locs cells slots Z LS} X hH h1 h2 kk => ?_) kk
  subst hN
  have hz := hH.1
  refine W.anew X.hx X.hb X.own (X.hts _ hcl) (va_AO.use X.K.1.2.2.1.1) rfl hd rfl hn hbytes h1 h2 fun cA kA comp f1 f2 f3 f4 => ?_
  obtain ⟨kA', comp', g1, g2, g3, g4⟩ := (X.va.2 5 _ (rfl : (tysE E)[5]? = some (eA E 5, .object "DeadUnderstudies$Script"))).2
  have hcA : cA = eA E 5 := Option.some.inj (f1.symm.trans g4)
  subst hcA
  have kk := kk (H.push { cls := eA E 5, slots := Array.replicate n.toNatClampNeg .null, vm := .none }) (by simp) (fun q hq => by rw [Array.getElem?_push, if_neg (Nat.ne_of_lt hq)]) (by
    rw [← hz]
    show (H.push _)[H.size]? = some (vp_cell _ _)
    rw [vp_cell_q, Array.getElem?_push, if_pos rfl, arrV_new]
    rfl)
  rw [← hz] at kk
  exact kk
theorem Go.anewT {E : ET} {y : MI} {d pc : Nat} {ls : LV} {st : List Value} {σ : AH} {Q : AO → AH → Prop} {n : Int32} {idx : Nat} (N : Nat) (hd : decode y.2.1 pc = .ok (.anewarray idx, 3)) (hcl : Cond.classLink y.1.cls idx "DeadUnderstudies$State" ∈ lw_all) (hn : ¬ n < 0) (hN : n.toNatClampNeg = N) (hbytes : N * 4 ≤ 536870912) (kk : Go E y d (pc + 3) ls (.ref σ.2.1 :: st) (spush σ (.inl (6, N, .inr (.inr (.inr (.inr (fun _ => none)))))) N) Q) : Go E y d pc ls (.int n :: st) σ Q := by
  refine Go.mk (.inl (6, N, .inr (.inr (.inr (.inr (fun _ => none)))))) (fun {p e R s m args below meth c H locs cells slots Z LS} X hH h1 h2 kk => ?_) kk
  subst hN
  have hz := hH.1
  refine W.anew X.hx X.hb X.own (X.hts _ hcl) (va_AO.use X.K.1.2.2.1.2.1) rfl hd rfl hn hbytes h1 h2 fun cA kA comp f1 f2 f3 f4 => ?_
  obtain ⟨kA', comp', g1, g2, g3, g4⟩ := (X.va.2 6 _ (rfl : (tysE E)[6]? = some (eA E 6, .object "DeadUnderstudies$State"))).2
  have hcA : cA = eA E 6 := Option.some.inj (f1.symm.trans g4)
  subst hcA
  have kk := kk (H.push { cls := eA E 6, slots := Array.replicate n.toNatClampNeg .null, vm := .none }) (by simp) (fun q hq => by rw [Array.getElem?_push, if_neg (Nat.ne_of_lt hq)]) (by
    rw [← hz]
    show (H.push _)[H.size]? = some (vp_cell _ _)
    rw [vp_cell_q, Array.getElem?_push, if_pos rfl, arrV_new]
    rfl)
  rw [← hz] at kk
  exact kk
theorem Go.ldc {E : ET} {y : MI} {d pc : Nat} {ls : LV} {st : List Value} {σ : AH} {Q : AO → AH → Prop} {idx : Nat} (v : Int32) (hd : decode y.2.1 pc = .ok (.ldc idx, 2)) (hw : Cond.constant y.1.cls idx v ∈ lw_all) (kk : Go E y d (pc + 2) ls (.int v :: st) σ Q) : Go E y d pc ls st σ Q := Go.pure (fun C _ k => lv_ldc C.hx C.hb C.own (C.hts _ hw) hd k) kk
theorem Go.ldcw {E : ET} {y : MI} {d pc : Nat} {ls : LV} {st : List Value} {σ : AH} {Q : AO → AH → Prop} {idx : Nat} (v : Int32) (hd : decode y.2.1 pc = .ok (.ldc_w idx, 3)) (hw : Cond.constant y.1.cls idx v ∈ lw_all) (kk : Go E y d (pc + 3) ls (.int v :: st) σ Q) : Go E y d pc ls st σ Q := Go.pure (fun C _ k => lv_ldcw C.hx C.hb C.own (C.hts _ hw) hd k) kk
theorem Go.ldc2 {E : ET} {y : MI} {d pc : Nat} {ls : LV} {st : List Value} {σ : AH} {Q : AO → AH → Prop} {idx : Nat} (v : Int64) (hd : decode y.2.1 pc = .ok (.ldc2_w idx, 3)) (hw : Cond.constantLong y.1.cls idx v ∈ lw_all) (kk : Go E y d (pc + 3) ls (.long v :: st) σ Q) : Go E y d pc ls st σ Q := Go.pure (fun C _ k => lv_ldc2 C.hx C.hb C.own (C.hts _ hw) hd k) kk
theorem Go.ldcS {E : ET} {y : MI} {d pc : Nat} {ls : LV} {st : List Value} {σ : AH} {Q : AO → AH → Prop} {idx : Nat} {tx : String} (i : Nat) (hd : decode y.2.1 pc = .ok (.ldc idx, 2)) (hw : strL[i]? = some (y.1.cls, idx, tx)) (kk : Go E y d (pc + 2) ls (.ref (eS E (10 + i)) :: st) σ Q) : Go E y d pc ls st σ Q := Go.pure (fun C _ k => va_ldcS C.hx C.hb C.own (C.K.2.1 i _ hw) hd k) kk
theorem Go.ldcM {E : ET} {y : MI} {d pc : Nat} {ls : LV} {st : List Value} {σ : AH} {Q : AO → AH → Prop} {idx : Nat} (hd : decode y.2.1 pc = .ok (.ldc idx, 2)) (hw : Cond.classLink y.1.cls idx "[Ljava/lang/Object;" ∈ lw_all) (kk : Go E y d (pc + 2) ls (.ref (eS E 2) :: st) σ Q) : Go E y d pc ls st σ Q := Go.pure (fun C _ k => va_ldcM C.hx C.hb C.own (C.hts _ hw) C.K.1.2.2.2.2.2.1 hd k) kk
/-- the cast of an object to its class or one above -/
theorem Go.castO {E : ET} {y : MI} {d pc : Nat} {ls : LV} {st : List Value} {σ : AH} {Q : AO → AH → Prop} {idx ci a : Nat} {fs : List Value} {r : vw_C} {nm : String} (hd : decode y.2.1 pc = .ok (.checkcast idx, 3)) (hw : Cond.classLink y.1.cls idx nm ∈ lw_all) (ha : σ.1 a = some (.inr (ci, fs))) (hc : clsL[ci]? = some r) (hca : r.1 = nm ∨ Cond.castable r.1 nm ∈ lw_tbl) (kk : Go E y d (pc + 3) ls (.ref a :: st) σ Q) : Go E y d pc ls (.ref a :: st) σ Q := by
  rcases hca with hca | hca
  · subst hca
    exact Go.rd (fun X _ hH _ k => va_castS X.hx X.hb X.own (X.hts _ hw) (X.va.1 ci r hc).2 (va_recv X.va (hH.one ha) hc (q0 := 0) rfl) hd k) kk
  · exact Go.rd (fun X _ hH _ k => va_castY X.hx X.hb X.own (X.hts _ hw) (X.bx _ hca rfl) (va_recv X.va (hH.one ha) hc (q0 := 0) rfl) hd k) kk
theorem Go.castA {E : ET} {y : MI} {d pc : Nat} {ls : LV} {st : List Value} {σ : AH} {Q : AO → AH → Prop} {idx a t : Nat} {x : vp_A} {C nm : String} (hd : decode y.2.1 pc = .ok (.checkcast idx, 3)) (hw : Cond.classLink y.1.cls idx nm ∈ lw_all) (ha : σ.1 a = some (.inl (t, x))) (ht : (tysE E)[t]? = some (eA E t, .object C)) (hnm : "[" ++ (FieldType.object C).toString = nm) (kk : Go E y d (pc + 3) ls (.ref a :: st) σ Q) : Go E y d pc ls (.ref a :: st) σ Q :=
  Go.rd (fun X _ hH _ k => va_castA X.hx X.hb X.own (X.hts _ hw) (hH.one ha) 0 rfl (va_nmO (X.va.2 t _ ht).2 hnm) hd k) kk
/-- switches -/
theorem Go.tabIn {E : ET} {y : MI} {d pc : Nat} {ls : LV} {st : List Value} {σ : AH} {Q : AO → AH → Prop} {dflt lo hi : Int} {offs : Array Int} {len : Nat} {x : Int32} {off : Int} (tgt : Nat) (hd : decode y.2.1 pc = .ok (.tableswitch dflt lo hi offs, len)) (h1 : ¬ x.toInt < lo) (h2 : ¬ hi < x.toInt) (ho : offs[(x.toInt - lo).toNat]? = some off) (ht : (pc : Int) + off = (tgt : Int)) (k : Go E y d tgt ls st σ Q) : Go E y d pc ls (.int x :: st) σ Q := Go.pure (fun C _ k => lv_tableIn C.hx C.hb hd h1 h2 ho ht k) k
theorem Go.tabOut {E : ET} {y : MI} {d pc : Nat} {ls : LV} {st : List Value} {σ : AH} {Q : AO → AH → Prop} {dflt lo hi : Int} {offs : Array Int} {len : Nat} {x : Int32} (tgt : Nat) (hd : decode y.2.1 pc = .ok (.tableswitch dflt lo hi offs, len)) (h : x.toInt < lo ∨ hi < x.toInt) (ht : (pc : Int) + dflt = (tgt : Int)) (k : Go E y d tgt ls st σ Q) : Go E y d pc ls (.int x :: st) σ Q := Go.pure (fun C _ k => lv_tableOut C.hx C.hb hd h ht k) k
theorem Go.ifnull {E : ET} {y : MI} {d pc : Nat} {ls : LV} {st : List Value} {σ : AH} {Q : AO → AH → Prop} {r : Option Nat} {off : Int} (tgt : Nat) (hd : decode y.2.1 pc = .ok (.ifnull off, 3)) (ht : (pc : Int) + off = (tgt : Int)) (k1 : r = none → Go E y d tgt ls st σ Q) (k2 : ∀ a, r = some a → Go E y d (pc + 3) ls st σ Q) : Go E y d pc ls (va_rf r :: st) σ Q := by
  cases r with
  | none => exact Go.pure (fun C _ k => lv_ifnullN C.hx C.hb hd ht k) (k1 rfl)
  | some a => exact Go.pure (fun C _ k => lv_ifnull C.hx C.hb hd k) (k2 a rfl)
theorem Go.ifnonnull {E : ET} {y : MI} {d pc : Nat} {ls : LV} {st : List Value} {σ : AH} {Q : AO → AH → Prop} {r : Option Nat} {off : Int} (tgt : Nat) (hd : decode y.2.1 pc = .ok (.ifnonnull off, 3)) (ht : (pc : Int) + off = (tgt : Int)) (k1 : ∀ a, r = some a → Go E y d tgt ls st σ Q) (k2 : r = none → Go E y d (pc + 3) ls st σ Q) : Go E y d pc ls (va_rf r :: st) σ Q := by
  cases r with
  | none => exact Go.pure (fun C _ k => lv_ifnonnullN C.hx C.hb hd k) (k2 rfl)
  | some a => exact Go.pure (fun C _ k => lv_ifnonnull C.hx C.hb hd ht k) (k1 a rfl)
theorem Go.acmp_eq {E : ET} {y : MI} {d pc : Nat} {ls : LV} {st : List Value} {σ : AH} {Q : AO → AH → Prop} {rx ry : Option Nat} {off : Int} (tgt : Nat) (hd : decode y.2.1 pc = .ok (.if_acmp .eq off, 3)) (ht : (pc : Int) + off = (tgt : Int)) (k1 : rx = ry → Go E y d tgt ls st σ Q) (k2 : ¬ rx = ry → Go E y d (pc + 3) ls st σ Q) : Go E y d pc ls (va_rf ry :: va_rf rx :: st) σ Q := Go.br (fun C _ k1 k2 => lv_acmp_eq C.hx C.hb hd ht k1 k2) k1 k2
theorem Go.acmp_ne {E : ET} {y : MI} {d pc : Nat} {ls : LV} {st : List Value} {σ : AH} {Q : AO → AH → Prop} {rx ry : Option Nat} {off : Int} (tgt : Nat) (hd : decode y.2.1 pc = .ok (.if_acmp .ne off, 3)) (ht : (pc : Int) + off = (tgt : Int)) (k1 : ¬ rx = ry → Go E y d tgt ls st σ Q) (k2 : rx = ry → Go E y d (pc + 3) ls st σ Q) : Go E y d pc ls (va_rf ry :: va_rf rx :: st) σ Q := by
  by_cases hb : rx = ry
  · exact Go.pure (fun C _ k => lv_acmp_ne C.hx C.hb hd ht (fun h => absurd hb h) (fun _ => k)) (k2 hb)
  · exact Go.pure (fun C _ k => lv_acmp_ne C.hx C.hb hd ht (fun _ => k) (fun h => absurd h hb)) (k1 hb)
/-- statics -/
theorem Go.getsU {E : ET} {y : MI} {d pc : Nat} {ls : LV} {st : List Value} {σ : AH} {Q : AO → AH → Prop} {idx : Nat} (hd : decode y.2.1 pc = .ok (.getstatic idx, 3)) (hw : Cond.fieldLink y.1.cls idx "java/lang/Throwable" "UNASSIGNED_STACK" "[Ljava/lang/StackTraceElement;" ∈ lw_all) (kk : Go E y d (pc + 3) ls (va_rf (eV E 0) :: st) σ Q) : Go E y d pc ls st σ Q := Go.rd (fun X _ hH hS k => va_gets X.hx X.hb (va_Z.kept X.K.1.2.2.2.2.1.1 (fun q _ h2 => X.2.2.2.2.2.2.2.2.2.2.2.2.2 q (Nat.not_le.mp h2))) hS X.own (X.hts _ hw) (fun _ h => h) hd k) kk
theorem Go.getsN {E : ET} {y : MI} {d pc : Nat} {ls : LV} {st : List Value} {σ : AH} {Q : AO → AH → Prop} {idx : Nat} (hd : decode y.2.1 pc = .ok (.getstatic idx, 3)) (hw : Cond.fieldLink y.1.cls idx "java/lang/Throwable" "SUPPRESSED_SENTINEL" "Ljava/util/List;" ∈ lw_all) (kk : Go E y d (pc + 3) ls (va_rf (eV E 1) :: st) σ Q) : Go E y d pc ls st σ Q := Go.rd (fun X _ hH hS k => va_gets X.hx X.hb (va_Z.kept X.K.1.2.2.2.2.1.2.1 (fun q _ h2 => X.2.2.2.2.2.2.2.2.2.2.2.2.2 q (Nat.not_le.mp h2))) hS X.own (X.hts _ hw) (fun _ h => h) hd k) kk
theorem Go.getsC {E : ET} {y : MI} {d pc : Nat} {ls : LV} {st : List Value} {σ : AH} {Q : AO → AH → Prop} {idx : Nat} (hd : decode y.2.1 pc = .ok (.getstatic idx, 3)) (hw : Cond.fieldLink y.1.cls idx "java/lang/String" "COMPACT_STRINGS" "Z" ∈ lw_all) (kk : Go E y d (pc + 3) ls (.int 1 :: st) σ Q) : Go E y d pc ls st σ Q := Go.rd (fun X _ hH hS k => va_gets X.hx X.hb (va_Z.kept X.K.1.2.2.2.2.1.2.2 (fun q _ h2 => X.2.2.2.2.2.2.2.2.2.2.2.2.2 q (Nat.not_le.mp h2))) hS X.own (X.hts _ hw) (fun _ h => h) hd k) kk
/-- the ends -/
theorem Go.ends {E : ET} {y : MI} {d pc : Nat} {ls : LV} {st : List Value} {σ : AH} {Q : AO → AH → Prop} {v : Option Value} (hr : RetAt y pc v st) (hQ : Q (.inl v) σ) : Go E y d pc ls st σ Q := by
  refine ⟨.inl v, σ, hQ, Nat.le_refl _, Nat.le_refl _, ?_⟩
  intro p e R s m args below meth c Z mc ms cells slots sl0 H locs LS C a1 a2 a3 a4 a5 a6 a7 a8 a9 a10
  have e1 : mc = cells := by omega
  have e2 : ms = slots := by omega
  subst e1; subst e2
  exact a7.1 v rfl H locs pc LS st a8 a9 hr
theorem Go.iret {E : ET} {y : MI} {d pc : Nat} {ls : LV} {σ : AH} {Q : AO → AH → Prop} {x : Int32} (hd : decode y.2.1 pc = .ok (.ireturn, 1)) (hr : y.2.2.2.1 = some .int) (hQ : Q (.inl (some (.int x))) σ) : Go E y d pc ls [.int x] σ Q := Go.ends (Or.inl ⟨x, .int, rfl, rfl, hd, hr, rfl⟩) hQ
theorem Go.zret {E : ET} {y : MI} {d pc : Nat} {ls : LV} {σ : AH} {Q : AO → AH → Prop} {x : Int32} (hd : decode y.2.1 pc = .ok (.ireturn, 1)) (hr : y.2.2.2.1 = some .boolean) (hx : narrow .boolean (.int x) = .int x) (hQ : Q (.inl (some (.int x))) σ) : Go E y d pc ls [.int x] σ Q := Go.ends (Or.inl ⟨x, .boolean, rfl, rfl, hd, hr, hx⟩) hQ
theorem Go.kret {E : ET} {y : MI} {d pc : Nat} {ls : LV} {σ : AH} {Q : AO → AH → Prop} {x : Int32} {ty : FieldType} (hd : decode y.2.1 pc = .ok (.ireturn, 1)) (hr : y.2.2.2.1 = some ty) (hx : narrow ty (.int x) = .int x) (hQ : Q (.inl (some (.int x))) σ) : Go E y d pc ls [.int x] σ Q := Go.ends (Or.inl ⟨x, ty, rfl, rfl, hd, hr, hx⟩) hQ
theorem Go.lret {E : ET} {y : MI} {d pc : Nat} {ls : LV} {σ : AH} {Q : AO → AH → Prop} {x : Int64} (hd : decode y.2.1 pc = .ok (.lreturn, 1)) (hr : y.2.2.2.1 = some .long) (hQ : Q (.inl (some (.long x))) σ) : Go E y d pc ls [.long x] σ Q := Go.ends (Or.inr (Or.inl ⟨x, rfl, rfl, hd, hr⟩)) hQ
theorem Go.vret {E : ET} {y : MI} {d pc : Nat} {ls : LV} {σ : AH} {Q : AO → AH → Prop} (hd : decode y.2.1 pc = .ok (.return_, 1)) (hr : y.2.2.2.1 = none) (hQ : Q (.inl none) σ) : Go E y d pc ls [] σ Q := Go.ends (Or.inr (Or.inr (Or.inl ⟨rfl, rfl, hd, hr⟩))) hQ
theorem Go.aret {E : ET} {y : MI} {d pc : Nat} {ls : LV} {σ : AH} {Q : AO → AH → Prop} {a : Nat} {n : String} (hd : decode y.2.1 pc = .ok (.areturn, 1)) (hr : y.2.2.2.1 = some (.object n)) (hQ : Q (.inl (some (.ref a))) σ) : Go E y d pc ls [.ref a] σ Q := Go.ends (Or.inr (Or.inr (Or.inr ⟨.ref a, _, rfl, rfl, hd, hr, Or.inl ⟨n, rfl⟩, Or.inr ⟨a, rfl⟩⟩))) hQ
theorem Go.aretA {E : ET} {y : MI} {d pc : Nat} {ls : LV} {σ : AH} {Q : AO → AH → Prop} {a : Nat} {t : FieldType} (hd : decode y.2.1 pc = .ok (.areturn, 1)) (hr : y.2.2.2.1 = some (.array t)) (hQ : Q (.inl (some (.ref a))) σ) : Go E y d pc ls [.ref a] σ Q := Go.ends (Or.inr (Or.inr (Or.inr ⟨.ref a, _, rfl, rfl, hd, hr, Or.inr ⟨t, rfl⟩, Or.inr ⟨a, rfl⟩⟩))) hQ
theorem Go.aretq {E : ET} {y : MI} {d pc : Nat} {ls : LV} {σ : AH} {Q : AO → AH → Prop} {r : Option Nat} {n : String} (hd : decode y.2.1 pc = .ok (.areturn, 1)) (hr : y.2.2.2.1 = some (.object n)) (hQ : Q (.inl (some (va_rf r))) σ) : Go E y d pc ls [va_rf r] σ Q := Go.ends (Or.inr (Or.inr (Or.inr ⟨va_rf r, _, rfl, rfl, hd, hr, Or.inl ⟨n, rfl⟩, va_rf_or r⟩))) hQ
