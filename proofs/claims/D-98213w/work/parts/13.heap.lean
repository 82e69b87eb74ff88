/-! RULES THAT READ AND WRITE CELLS -/
set_option maxRecDepth 100000
/-- the cells as a world of the kit -/
def wsO (E : ET) (σ : AH) : va_W := (List.range σ.2.1).filterMap fun a => (σ.1 a).map fun e => (a, cnc E e)
theorem HOK.lt {E : ET} {σ : AH} {H : Heap} (h : HOK E σ H) {a : Nat} {e : AE} (ha : σ.1 a = some e) : a < σ.2.1 := by
  have h1 := (h.2.2.2 a e ha).1.lt
  rw [h.1] at h1
  exact h1
theorem wsO_mem {E : ET} {σ : AH} {k : Nat} {q : Nat × va_E} (h : (wsO E σ)[k]? = some q) : ∃ e, σ.1 q.1 = some e ∧ q.2 = cnc E e := by
  obtain ⟨a, -, ha⟩ := List.mem_filterMap.mp (List.mem_of_getElem? h)
  cases hs : σ.1 a with
  | none => rw [hs] at ha; cases ha
  | some e => rw [hs] at ha; cases ha; exact ⟨e, hs, rfl⟩
theorem HOK.P {E : ET} {σ : AH} {H : Heap} (h : HOK E σ H) : va_P (eD E) clsL (wsO E σ) H := by
  intro k q hq
  obtain ⟨e, h1, h2⟩ := wsO_mem hq
  have h3 := (h.2.2.2 _ _ h1).1
  rw [← h2] at h3
  exact h3
theorem wsO_pw (E : ET) (σ : AH) : (wsO E σ).Pairwise (fun p q => p.1 < q.1) := by
  unfold wsO
  rw [List.pairwise_filterMap]
  refine List.Pairwise.imp ?_ List.pairwise_lt_range
  intro a b hab p hp q hq
  cases ha : σ.1 a with
  | none => rw [ha] at hp; cases hp
  | some e =>
    cases hb : σ.1 b with
    | none => rw [hb] at hq; cases hq
    | some e2 => rw [ha] at hp; rw [hb] at hq; cases hp; cases hq; exact hab
theorem HOK.D {E : ET} {σ : AH} {H : Heap} (h : HOK E σ H) : va_D (eF E) (wsO E σ) := by
  refine ⟨fun i j p q hi hj hpq => ?_, fun k q hq => ?_⟩
  · have hp := List.pairwise_iff_getElem.mp (wsO_pw E σ)
    obtain ⟨li, ei⟩ := List.getElem?_eq_some_iff.mp hi
    obtain ⟨lj, ej⟩ := List.getElem?_eq_some_iff.mp hj
    rcases Nat.lt_trichotomy i j with hlt | heq | hgt
    · have := hp i j li lj hlt
      rw [ei, ej] at this
      omega
    · exact heq
    · have := hp j i lj li hgt
      rw [ei, ej] at this
      omega
  · obtain ⟨e, h1, -⟩ := wsO_mem hq
    exact (h.2.2.2 _ _ h1).2
theorem HOK.at {E : ET} {σ : AH} {H : Heap} (h : HOK E σ H) {a : Nat} {e : AE} (ha : σ.1 a = some e) : ∃ q : Nat, (wsO E σ)[q]? = some (a, cnc E e) := by
  refine List.getElem?_of_mem (List.mem_filterMap.mpr ⟨a, List.mem_range.mpr (h.lt ha), ?_⟩)
  rw [ha]; rfl
theorem HOK.one {E : ET} {σ : AH} {H : Heap} (h : HOK E σ H) {a : Nat} {e : AE} (ha : σ.1 a = some e) : va_P (eD E) clsL [(a, cnc E e)] H := by
  intro k q hq
  cases k with
  | zero => cases hq; exact (h.2.2.2 _ _ ha).1
  | succ k => simp at hq
theorem HOK.S {E : ET} {σ : AH} {H : Heap} {locs : List Loc} (_ : HOK E σ H) (hl : ∀ z ∈ locs, eB E ≤ z.base) : va_S (eF E) H H locs := ⟨Nat.le_refl _, fun _ _ _ => rfl, hl⟩
/-- from the method's entry on -/
theorem HOK.S0 {E : ET} {y : MI} {d : Nat} {p : Program} {R : Room} {s : State} {m : MethodId} {args : Array Value} {meth : Method} {c : Code} {σ : AH} {H : Heap} {locs : List Loc} {cells : Nat} (h : HOK E σ H) (C : Cx E y d p R s m args meth c) (hc : s.heap.size + cells = σ.2.1) (hl : ∀ z ∈ locs, eB E ≤ z.base) : va_S (eF E) s.heap H locs := by
  obtain ⟨-, -, -, -, -, -, -, -, -, -, -, -, -, h13⟩ := C
  refine ⟨by rw [h.1]; omega, fun q h1 h2 => ?_, hl⟩
  have h3 : q < eB E := Nat.not_le.mp h2
  rw [h.2.2.1 q h3, h13 q h3]
/-- the cells with one of them changed -/
abbrev sput (σ : AH) (a : Nat) (e : AE) : AH := (va_up σ.1 a (some e), σ.2)
theorem HOK.put {E : ET} {σ : AH} {H H1 : Heap} {a q0 : Nat} {e e' : AE} (h : HOK E σ H) (hq : (wsO E σ)[q0]? = some (a, cnc E e)) (hP : va_P (eD E) clsL ((wsO E σ).set q0 (a, cnc E e')) H1) (hS : H.size ≤ H1.size ∧ ∀ q : Nat, q < H.size → ¬ eF E q → H1[q]? = H[q]?) (hz : H1.size ≤ σ.2.1) : HOK E (sput σ a e') H1 := by
  have hl := (List.getElem?_eq_some_iff.mp hq).1
  refine ⟨by have := h.1; have := hS.1; show H1.size = σ.2.1; omega, h.2.1, fun q hqb => ?_, fun b eb hb => ?_⟩
  · rw [hS.2 q (by rw [h.1]; exact Nat.lt_of_lt_of_le hqb h.2.1) (Nat.not_le.mpr hqb)]
    exact h.2.2.1 q hqb
  · by_cases hba : b = a
    · subst hba
      have he : eb = e' := by
        have h1 : va_up σ.1 b (some e') b = some eb := hb
        simp only [va_up, if_true] at h1
        exact (Option.some.inj h1).symm
      subst he
      refine ⟨hP q0 _ (List.getElem?_set_self hl), ?_⟩
      obtain ⟨e1, h1, -⟩ := wsO_mem hq
      exact (h.2.2.2 _ _ h1).2
    · have h1 : σ.1 b = some eb := by
        have h1 : va_up σ.1 a (some e') b = some eb := hb
        simp only [va_up, if_neg hba] at h1
        exact h1
      obtain ⟨qb, hqb⟩ := h.at h1
      have hne : q0 ≠ qb := by
        intro z
        subst z
        exact hba (congrArg Prod.fst (Option.some.inj (hq.symm.trans hqb))).symm
      refine ⟨hP qb _ ?_, (h.2.2.2 _ _ h1).2⟩
      rw [List.getElem?_set_ne hne]
      exact hqb
/-- a row that reads one cell -/
theorem Go.rd {E : ET} {y : MI} {d pc pc' : Nat} {ls : LV} {st st' : List Value} {σ : AH} {Q : AO → AH → Prop} 
    (hrow : ∀ {p : Program} {e : Env} {R : Room} {s : State} {m : MethodId} {args : Array Value} {below : List Frame} {meth : Method} {c : Code} {H : Heap} {locs : List Loc} {cells slots : Nat} {Z : State → Prop} {LS : Array Slot}, Cx E y d p R s m args meth c → lvh LS y.2.2.1 ls → HOK E σ H → va_S (eF E) s.heap H locs → W p (eL E) e R s m args below meth c H locs cells slots Z (F0 m pc' LS st') → W p (eL E) e R s m args below meth c H locs cells slots Z (F0 m pc LS st))
    (k : Go E y d pc' ls st' σ Q) : Go E y d pc ls st σ Q := by
  obtain ⟨o, σ', hQ, h1, h2, h3⟩ := k
  refine ⟨o, σ', hQ, h1, h2, ?_⟩
  intro p e R s m args below meth c Z mc ms cells slots sl0 H locs LS C a1 a2 a3 a4 a5 a6 a7 a8 a9 a10
  exact hrow C a10 a8 (a8.S0 C a1 a9) (h3 p e R s m args below meth c Z mc ms cells slots sl0 H locs LS C a1 a2 a3 a4 a5 a6 a7 a8 a9 a10)
/-- a row that changes one cell -/
theorem Go.wr {E : ET} {y : MI} {d pc pc' a : Nat} {ls : LV} {st st' : List Value} {σ : AH} {Q : AO → AH → Prop} {e0 : AE} (e1 : AE) (ha : σ.1 a = some e0)
    (hrow : ∀ {p : Program} {e : Env} {R : Room} {s : State} {m : MethodId} {args : Array Value} {below : List Frame} {meth : Method} {c : Code} {H : Heap} {locs : List Loc} {cells slots q0 : Nat} {Z : State → Prop} {LS : Array Slot}, Cx E y d p R s m args meth c → lvh LS y.2.2.1 ls → HOK E σ H → va_P (eD E) clsL (wsO E σ) H → va_D (eF E) (wsO E σ) → va_S (eF E) H H locs → (wsO E σ)[q0]? = some (a, cnc E e0) → (∀ (H1 : Heap) (locs1 : List Loc), va_P (eD E) clsL ((wsO E σ).set q0 (a, cnc E e1)) H1 → va_D (eF E) ((wsO E σ).set q0 (a, cnc E e1)) → va_S (eF E) H H1 locs1 → W p (eL E) e R s m args below meth c H1 locs1 cells slots Z (F0 m pc' LS st')) → W p (eL E) e R s m args below meth c H locs cells slots Z (F0 m pc LS st))
    (k : Go E y d pc' ls st' (sput σ a e1) Q) : Go E y d pc ls st σ Q := by
  obtain ⟨o, σ', hQ, h1, h2, h3⟩ := k
  refine ⟨o, σ', hQ, h1, h2, ?_⟩
  intro p e R s m args below meth c Z mc ms cells slots sl0 H locs LS C a1 a2 a3 a4 a5 a6 a7 a8 a9 a10
  obtain ⟨q0, hq0⟩ := a8.at ha
  refine hrow C a10 a8 a8.P a8.D (a8.S a9) hq0 fun H1 locs1 hP1 hD1 hS1 => ?_
  intro T hT X
  have hz : H1.size ≤ σ.2.1 := by
    have := X.heapSize
    rw [hT] at this
    omega
  exact h3 p e R s m args below meth c Z mc ms cells slots sl0 H1 locs1 LS C a1 a2 a3 a4 a5 a6 a7 (a8.put hq0 hP1 ⟨hS1.1, hS1.2.1⟩ hz) hS1.2.2 a10 T hT X
theorem Cx.K {E : ET} {y : MI} {d : Nat} {p : Program} {R : Room} {s : State} {m : MethodId} {args : Array Value} {meth : Method} {c : Code} (h : Cx E y d p R s m args meth c) : TBL E s := h.2.2.2.2.2.2.2.2.2.2.2.1
theorem Cx.ml {E : ET} {y : MI} {d : Nat} {p : Program} {R : Room} {s : State} {m : MethodId} {args : Array Value} {meth : Method} {c : Code} (h : Cx E y d p R s m args meth c) : c.maxLocals = y.2.2.1 := h.2.2.2.1
theorem Cx.nm {E : ET} {y : MI} {d : Nat} {p : Program} {R : Room} {s : State} {m : MethodId} {args : Array Value} {meth : Method} {c : Code} (h : Cx E y d p R s m args meth c) : meth.name = y.1.name := h.2.2.2.2.2.2.2.1
theorem Cx.va {E : ET} {y : MI} {d : Nat} {p : Program} {R : Room} {s : State} {m : MethodId} {args : Array Value} {meth : Method} {c : Code} (h : Cx E y d p R s m args meth c) : va_K (eD E) clsL (tysE E) s := h.K.1.1
theorem Cx.bx {E : ET} {y : MI} {d : Nat} {p : Program} {R : Room} {s : State} {m : MethodId} {args : Array Value} {meth : Method} {c : Code} (h : Cx E y d p R s m args meth c) : TBX s := h.K.1.2.1
/-- a field of a class, read at a place -/
def FG (own : String) (idx ci k : Nat) : Prop := ∃ (C : String) (T : u_T) (N : Nat) (ref : String), clsL[ci]? = some (C, T, N) ∧ (∀ w ∈ u_ws C T N, w ∈ lw_all) ∧ k < N ∧ (ref = (T k).1 ∨ Cond.sameField ref (T k).1 (T k).2.1 (T k).2.2.1 ∈ lw_all) ∧ (Cond.fieldLink own idx ref (T k).2.1 (T k).2.2.1 ∈ lw_all ∨ ∃ host, Cond.fieldLinkNest own idx ref (T k).2.1 (T k).2.2.1 host ∈ lw_tbl)
/-- .. written -/
def FP (own : String) (idx ci k : Nat) (ty : FieldType) : Prop := ∃ (C : String) (T : u_T) (N : Nat) (ref : String) (ty0 : Nat → FieldType), clsL[ci]? = some (C, T, N) ∧ (∀ w ∈ u_ws C T N, w ∈ lw_all) ∧ k < N ∧ (ref = (T k).1 ∨ Cond.sameField ref (T k).1 (T k).2.1 (T k).2.2.1 ∈ lw_all) ∧ (Cond.fieldLink own idx ref (T k).2.1 (T k).2.2.1 ∈ lw_all ∨ ∃ host, Cond.fieldLinkNest own idx ref (T k).2.1 (T k).2.2.1 host ∈ lw_tbl) ∧ (∀ k, k < N → parseFieldDescriptor (T k).2.2.1 = some (ty0 k)) ∧ (∀ a, a < N → ∀ b, b < N → a ≠ b → (T a).2.1 ≠ (T b).2.1) ∧ parseFieldDescriptor (T k).2.2.1 = some ty ∧ (T k).2.2.2 = false
/-- .. written, in a constructor, a final one -/
def FPF (own : String) (idx ci k : Nat) (ty : FieldType) : Prop := ∃ (C : String) (T : u_T) (N : Nat) (ref : String) (ty0 : Nat → FieldType), clsL[ci]? = some (C, T, N) ∧ (∀ w ∈ u_ws C T N, w ∈ lw_all) ∧ k < N ∧ (ref = (T k).1 ∨ Cond.sameField ref (T k).1 (T k).2.1 (T k).2.2.1 ∈ lw_all) ∧ Cond.fieldLink own idx ref (T k).2.1 (T k).2.2.1 ∈ lw_all ∧ (∀ k, k < N → parseFieldDescriptor (T k).2.2.1 = some (ty0 k)) ∧ (∀ a, a < N → ∀ b, b < N → a ≠ b → (T a).2.1 ≠ (T b).2.1) ∧ parseFieldDescriptor (T k).2.2.1 = some ty ∧ (T k).2.2.2 = true ∧ (T k).1 = own
theorem FG_same {args : Array Value} {s : State} {ref o n d : String} (hts : ∀ w ∈ lw_all, w.before args s = true) (h : ref = o ∨ Cond.sameField ref o n d ∈ lw_all) : ∀ x, s.fieldFound? o n d = some x → s.fieldFound? ref n d = some x := by
  rcases h with h | h
  · subst h; exact fun x hx => hx
  · exact fun x hx => u_same (hts _ h) x hx
theorem Go.getf {E : ET} {y : MI} {d pc : Nat} {ls : LV} {st : List Value} {σ : AH} {Q : AO → AH → Prop} {idx ci k a : Nat} {fs : List Value} {v : Value} (hF : FG y.1.cls idx ci k) (hd : decode y.2.1 pc = .ok (.getfield idx, 3)) (ha : σ.1 a = some (.inr (ci, fs))) (hv : fs[k]? = some v) (kk : Go E y d (pc + 3) ls (v :: st) σ Q) : Go E y d pc ls (.ref a :: st) σ Q := by
  obtain ⟨C, T, N, ref, hc, hin, hk, hsm, hl | ⟨host, hl⟩⟩ := hF
  · exact Go.rd (fun X _ hH _ kk => va_get X.hx X.hb X.hts hin X.own X.va (hH.one ha) 0 rfl hc k hk (X.hts _ hl) (FG_same X.hts hsm) hv hd kk) kk
  · exact Go.rd (fun X _ hH _ kk => va_getN X.hx X.hb X.hts hin X.own X.va (hH.one ha) 0 rfl hc k hk (va_Nw.use rfl (X.bx _ hl rfl)) (FG_same X.hts hsm) hv hd kk) kk
theorem Go.putf {E : ET} {y : MI} {d pc : Nat} {ls : LV} {st : List Value} {σ : AH} {Q : AO → AH → Prop} {idx ci k a : Nat} {fs : List Value} {v : Value} {ty : FieldType} (hF : FP y.1.cls idx ci k ty) (hd : decode y.2.1 pc = .ok (.putfield idx, 3)) (ha : σ.1 a = some (.inr (ci, fs))) (hl : k < fs.length) (hn : narrow ty v = v) (hfit : fits ty v = true) (kk : Go E y d (pc + 3) ls st (sput σ a (.inr (ci, fs.set k v))) Q) : Go E y d pc ls (v :: .ref a :: st) σ Q := by
  obtain ⟨C, T, N, ref, ty0, hc, hin, hk, hsm, hlk | ⟨host, hlk⟩, hty, hnm, hpd, hfin⟩ := hF
  · exact Go.wr (.inr (ci, fs.set k v)) ha (fun X _ _ hP hD hS hq kk => va_put X.hx X.hb X.hts hin ty0 hty hnm X.own X.va hP hD hS _ hq hc k hk (X.hts _ hlk) (FG_same X.hts hsm) hfin hpd hn hfit hl hd kk) kk
  · exact Go.wr (.inr (ci, fs.set k v)) ha (fun X _ _ hP hD hS hq kk => va_putN X.hx X.hb X.hts hin ty0 hty hnm X.own X.va hP hD hS _ hq hc k hk (va_Nw.use rfl (X.bx _ hlk rfl)) (FG_same X.hts hsm) hfin hpd hn hfit hl hd kk) kk
theorem Go.putfF {E : ET} {y : MI} {d pc : Nat} {ls : LV} {st : List Value} {σ : AH} {Q : AO → AH → Prop} {idx ci k a : Nat} {fs : List Value} {v : Value} {ty : FieldType} (hF : FPF y.1.cls idx ci k ty) (hi : y.1.name = "<init>") (hd : decode y.2.1 pc = .ok (.putfield idx, 3)) (ha : σ.1 a = some (.inr (ci, fs))) (hl : k < fs.length) (hn : narrow ty v = v) (hfit : fits ty v = true) (kk : Go E y d (pc + 3) ls st (sput σ a (.inr (ci, fs.set k v))) Q) : Go E y d pc ls (v :: .ref a :: st) σ Q := by
  obtain ⟨C, T, N, ref, ty0, hc, hin, hk, hsm, hlk, hty, hnm, hpd, hfin, hdecl⟩ := hF
  exact Go.wr (.inr (ci, fs.set k v)) ha (fun X _ _ hP hD hS hq kk => va_putF X.hx X.hb X.hts hin ty0 hty hnm X.own X.va hP hD hS _ hq hc k hk (X.hts _ hlk) (FG_same X.hts hsm) hfin (X.nm.trans hi) hdecl hpd hn hfit hl hd kk) kk
-- GENERATED
theorem Go.iald {E : ET} {y : MI} {d pc : Nat} {ls : LV} {st : List Value} {σ : AH} {Q : AO → AH → Prop} {a n : Nat} {f : Nat → Int32} {i : Int32} (hd : decode y.2.1 pc = .ok (.iaload, 1)) (ha : σ.1 a = some (.inl (0, n, .inl f))) (hin : vp_in i n) (kk : Go E y d (pc + 1) ls (.int (f i.toNatClampNeg) :: st) σ Q) : Go E y d pc ls (.int i :: .ref a :: st) σ Q := Go.rd (fun X _ hH _ kk => va_iald X.hx X.hb X.va (hH.one ha) 0 0 rfl rfl hin hd kk) kk
theorem Go.bald {E : ET} {y : MI} {d pc : Nat} {ls : LV} {st : List Value} {σ : AH} {Q : AO → AH → Prop} {a n : Nat} {f : Nat → Int32} {i : Int32} (hd : decode y.2.1 pc = .ok (.baload, 1)) (ha : σ.1 a = some (.inl (1, n, .inl f))) (hin : vp_in i n) (kk : Go E y d (pc + 1) ls (.int (f i.toNatClampNeg) :: st) σ Q) : Go E y d pc ls (.int i :: .ref a :: st) σ Q := Go.rd (fun X _ hH _ kk => va_bald X.hx X.hb X.va (hH.one ha) 0 1 rfl rfl hin hd kk) kk
theorem Go.lald {E : ET} {y : MI} {d pc : Nat} {ls : LV} {st : List Value} {σ : AH} {Q : AO → AH → Prop} {a n : Nat} {f : Nat → Int64} {i : Int32} (hd : decode y.2.1 pc = .ok (.laload, 1)) (ha : σ.1 a = some (.inl (2, n, .inr (.inl f)))) (hin : vp_in i n) (kk : Go E y d (pc + 1) ls (.long (f i.toNatClampNeg) :: st) σ Q) : Go E y d pc ls (.int i :: .ref a :: st) σ Q := Go.rd (fun X _ hH _ kk => va_lald X.hx X.hb X.va (hH.one ha) 0 2 rfl rfl hin hd kk) kk
theorem Go.zald {E : ET} {y : MI} {d pc : Nat} {ls : LV} {st : List Value} {σ : AH} {Q : AO → AH → Prop} {a n : Nat} {f : Nat → Int32} {i : Int32} (hd : decode y.2.1 pc = .ok (.baload, 1)) (ha : σ.1 a = some (.inl (3, n, .inl f))) (hin : vp_in i n) (kk : Go E y d (pc + 1) ls (.int (f i.toNatClampNeg) :: st) σ Q) : Go E y d pc ls (.int i :: .ref a :: st) σ Q := Go.rd (fun X _ hH _ kk => va_zald X.hx X.hb X.va (hH.one ha) 0 3 rfl rfl hin hd kk) kk
theorem Go.aaldO {E : ET} {y : MI} {d pc : Nat} {ls : LV} {st : List Value} {σ : AH} {Q : AO → AH → Prop} {a n : Nat} {f : Nat → Option Nat} {i : Int32} (hd : decode y.2.1 pc = .ok (.aaload, 1)) (ha : σ.1 a = some (.inl (4, n, .inr (.inr (.inr (.inr f)))))) (hin : vp_in i n) (kk : Go E y d (pc + 1) ls (va_rf (f i.toNatClampNeg) :: st) σ Q) : Go E y d pc ls (.int i :: .ref a :: st) σ Q := Go.rd (fun X _ hH _ kk => va_aldq X.hx X.hb X.va (hH.one ha) 0 4 rfl rfl hin hd kk) kk
theorem Go.aaldS {E : ET} {y : MI} {d pc : Nat} {ls : LV} {st : List Value} {σ : AH} {Q : AO → AH → Prop} {a n : Nat} {f : Nat → Option Nat} {i : Int32} (hd : decode y.2.1 pc = .ok (.aaload, 1)) (ha : σ.1 a = some (.inl (5, n, .inr (.inr (.inr (.inr f)))))) (hin : vp_in i n) (kk : Go E y d (pc + 1) ls (va_rf (f i.toNatClampNeg) :: st) σ Q) : Go E y d pc ls (.int i :: .ref a :: st) σ Q := Go.rd (fun X _ hH _ kk => va_aldq X.hx X.hb X.va (hH.one ha) 0 5 rfl rfl hin hd kk) kk
theorem Go.aaldT {E : ET} {y : MI} {d pc : Nat} {ls : LV} {st : List Value} {σ : AH} {Q : AO → AH → Prop} {a n : Nat} {f : Nat → Option Nat} {i : Int32} (hd : decode y.2.1 pc = .ok (.aaload, 1)) (ha : σ.1 a = some (.inl (6, n, .inr (.inr (.inr (.inr f)))))) (hin : vp_in i n) (kk : Go E y d (pc + 1) ls (va_rf (f i.toNatClampNeg) :: st) σ Q) : Go E y d pc ls (.int i :: .ref a :: st) σ Q := Go.rd (fun X _ hH _ kk => va_aldq X.hx X.hb X.va (hH.one ha) 0 6 rfl rfl hin hd kk) kk
theorem Go.iast {E : ET} {y : MI} {d pc : Nat} {ls : LV} {st : List Value} {σ : AH} {Q : AO → AH → Prop} {a n : Nat} {f : Nat → Int32} {i : Int32} {x : Int32} (hd : decode y.2.1 pc = .ok (.iastore, 1)) (ha : σ.1 a = some (.inl (0, n, .inl (f)))) (hin : vp_in i n) (kk : Go E y d (pc + 1) ls st (sput σ a (.inl (0, n, .inl (upd f i.toNatClampNeg x)))) Q) : Go E y d pc ls (.int x :: .int i :: .ref a :: st) σ Q := Go.wr (.inl (0, n, .inl (upd f i.toNatClampNeg x))) ha (fun X _ _ hP hD hS hq kk => va_iast X.hx X.hb X.va hP hD hS _ 0 hq rfl hin hd kk) kk
theorem Go.bast {E : ET} {y : MI} {d pc : Nat} {ls : LV} {st : List Value} {σ : AH} {Q : AO → AH → Prop} {a n : Nat} {f : Nat → Int32} {i : Int32} {x : Int32} (hd : decode y.2.1 pc = .ok (.bastore, 1)) (ha : σ.1 a = some (.inl (1, n, .inl (f)))) (hin : vp_in i n) (kk : Go E y d (pc + 1) ls st (sput σ a (.inl (1, n, .inl (upd f i.toNatClampNeg (vp_nar .byte x))))) Q) : Go E y d pc ls (.int x :: .int i :: .ref a :: st) σ Q := Go.wr (.inl (1, n, .inl (upd f i.toNatClampNeg (vp_nar .byte x)))) ha (fun X _ _ hP hD hS hq kk => va_bast X.hx X.hb X.va hP hD hS _ 1 hq rfl hin hd kk) kk
theorem Go.last {E : ET} {y : MI} {d pc : Nat} {ls : LV} {st : List Value} {σ : AH} {Q : AO → AH → Prop} {a n : Nat} {f : Nat → Int64} {i : Int32} {x : Int64} (hd : decode y.2.1 pc = .ok (.lastore, 1)) (ha : σ.1 a = some (.inl (2, n, .inr (.inl (f))))) (hin : vp_in i n) (kk : Go E y d (pc + 1) ls st (sput σ a (.inl (2, n, .inr (.inl (vp_updL f i.toNatClampNeg x))))) Q) : Go E y d pc ls (.long x :: .int i :: .ref a :: st) σ Q := Go.wr (.inl (2, n, .inr (.inl (vp_updL f i.toNatClampNeg x)))) ha (fun X _ _ hP hD hS hq kk => va_last X.hx X.hb X.va hP hD hS _ 2 hq rfl hin hd kk) kk
theorem Go.zast {E : ET} {y : MI} {d pc : Nat} {ls : LV} {st : List Value} {σ : AH} {Q : AO → AH → Prop} {a n : Nat} {f : Nat → Int32} {i : Int32} {x : Int32} (hd : decode y.2.1 pc = .ok (.bastore, 1)) (ha : σ.1 a = some (.inl (3, n, .inl (f)))) (hin : vp_in i n) (kk : Go E y d (pc + 1) ls st (sput σ a (.inl (3, n, .inl (upd f i.toNatClampNeg (vp_nar .boolean x))))) Q) : Go E y d pc ls (.int x :: .int i :: .ref a :: st) σ Q := Go.wr (.inl (3, n, .inl (upd f i.toNatClampNeg (vp_nar .boolean x)))) ha (fun X _ _ hP hD hS hq kk => va_zast X.hx X.hb X.va hP hD hS _ 3 hq rfl hin hd kk) kk
theorem Go.aastO {E : ET} {y : MI} {d pc : Nat} {ls : LV} {st : List Value} {σ : AH} {Q : AO → AH → Prop} {a n v ci : Nat} {vs : List Value} {r : vw_C} {f : Nat → Option Nat} {i : Int32} (hd : decode y.2.1 pc = .ok (.aastore, 1)) (ha : σ.1 a = some (.inl (4, n, .inr (.inr (.inr (.inr (f))))))) (hv : σ.1 v = some (.inr (ci, vs))) (hc : clsL[ci]? = some r) (hca : Cond.castable r.1 "java/lang/Object" ∈ lw_tbl) (hin : vp_in i n) (kk : Go E y d (pc + 1) ls st (sput σ a (.inl (4, n, .inr (.inr (.inr (.inr (va_up f i.toNatClampNeg (some v)))))))) Q) : Go E y d pc ls (.ref v :: .int i :: .ref a :: st) σ Q := Go.wr (.inl (4, n, .inr (.inr (.inr (.inr (va_up f i.toNatClampNeg (some v))))))) ha (fun X _ hH hP hD hS hq kk => by
  obtain ⟨qv, hqv⟩ := hH.at hv
  exact va_astqO X.hx X.hb X.va hP hD hS _ 4 qv ci hq rfl (X.bx _ hca rfl) hqv hc hin hd kk) kk
theorem Go.aastON {E : ET} {y : MI} {d pc : Nat} {ls : LV} {st : List Value} {σ : AH} {Q : AO → AH → Prop} {a n : Nat} {f : Nat → Option Nat} {i : Int32} (hd : decode y.2.1 pc = .ok (.aastore, 1)) (ha : σ.1 a = some (.inl (4, n, .inr (.inr (.inr (.inr (f))))))) (hin : vp_in i n) (kk : Go E y d (pc + 1) ls st (sput σ a (.inl (4, n, .inr (.inr (.inr (.inr (va_up f i.toNatClampNeg none))))))) Q) : Go E y d pc ls (.null :: .int i :: .ref a :: st) σ Q := Go.wr (.inl (4, n, .inr (.inr (.inr (.inr (va_up f i.toNatClampNeg none)))))) ha (fun X _ _ hP hD hS hq kk => va_astqN X.hx X.hb X.va hP hD hS _ 4 hq rfl hin hd kk) kk
theorem Go.aastS {E : ET} {y : MI} {d pc : Nat} {ls : LV} {st : List Value} {σ : AH} {Q : AO → AH → Prop} {a n v ci : Nat} {vs : List Value} {r : vw_C} {f : Nat → Option Nat} {i : Int32} (hd : decode y.2.1 pc = .ok (.aastore, 1)) (ha : σ.1 a = some (.inl (5, n, .inr (.inr (.inr (.inr (f))))))) (hv : σ.1 v = some (.inr (ci, vs))) (hc : clsL[ci]? = some r) (hca : Cond.castable r.1 "DeadUnderstudies$Script" ∈ lw_tbl) (hin : vp_in i n) (kk : Go E y d (pc + 1) ls st (sput σ a (.inl (5, n, .inr (.inr (.inr (.inr (va_up f i.toNatClampNeg (some v)))))))) Q) : Go E y d pc ls (.ref v :: .int i :: .ref a :: st) σ Q := Go.wr (.inl (5, n, .inr (.inr (.inr (.inr (va_up f i.toNatClampNeg (some v))))))) ha (fun X _ hH hP hD hS hq kk => by
  obtain ⟨qv, hqv⟩ := hH.at hv
  exact va_astqO X.hx X.hb X.va hP hD hS _ 5 qv ci hq rfl (X.bx _ hca rfl) hqv hc hin hd kk) kk
theorem Go.aastSN {E : ET} {y : MI} {d pc : Nat} {ls : LV} {st : List Value} {σ : AH} {Q : AO → AH → Prop} {a n : Nat} {f : Nat → Option Nat} {i : Int32} (hd : decode y.2.1 pc = .ok (.aastore, 1)) (ha : σ.1 a = some (.inl (5, n, .inr (.inr (.inr (.inr (f))))))) (hin : vp_in i n) (kk : Go E y d (pc + 1) ls st (sput σ a (.inl (5, n, .inr (.inr (.inr (.inr (va_up f i.toNatClampNeg none))))))) Q) : Go E y d pc ls (.null :: .int i :: .ref a :: st) σ Q := Go.wr (.inl (5, n, .inr (.inr (.inr (.inr (va_up f i.toNatClampNeg none)))))) ha (fun X _ _ hP hD hS hq kk => va_astqN X.hx X.hb X.va hP hD hS _ 5 hq rfl hin hd kk) kk
theorem Go.aastT {E : ET} {y : MI} {d pc : Nat} {ls : LV} {st : List Value} {σ : AH} {Q : AO → AH → Prop} {a n v ci : Nat} {vs : List Value} {r : vw_C} {f : Nat → Option Nat} {i : Int32} (hd : decode y.2.1 pc = .ok (.aastore, 1)) (ha : σ.1 a = some (.inl (6, n, .inr (.inr (.inr (.inr (f))))))) (hv : σ.1 v = some (.inr (ci, vs))) (hc : clsL[ci]? = some r) (hca : Cond.castable r.1 "DeadUnderstudies$State" ∈ lw_tbl) (hin : vp_in i n) (kk : Go E y d (pc + 1) ls st (sput σ a (.inl (6, n, .inr (.inr (.inr (.inr (va_up f i.toNatClampNeg (some v)))))))) Q) : Go E y d pc ls (.ref v :: .int i :: .ref a :: st) σ Q := Go.wr (.inl (6, n, .inr (.inr (.inr (.inr (va_up f i.toNatClampNeg (some v))))))) ha (fun X _ hH hP hD hS hq kk => by
  obtain ⟨qv, hqv⟩ := hH.at hv
  exact va_astqO X.hx X.hb X.va hP hD hS _ 6 qv ci hq rfl (X.bx _ hca rfl) hqv hc hin hd kk) kk
theorem Go.aastTN {E : ET} {y : MI} {d pc : Nat} {ls : LV} {st : List Value} {σ : AH} {Q : AO → AH → Prop} {a n : Nat} {f : Nat → Option Nat} {i : Int32} (hd : decode y.2.1 pc = .ok (.aastore, 1)) (ha : σ.1 a = some (.inl (6, n, .inr (.inr (.inr (.inr (f))))))) (hin : vp_in i n) (kk : Go E y d (pc + 1) ls st (sput σ a (.inl (6, n, .inr (.inr (.inr (.inr (va_up f i.toNatClampNeg none))))))) Q) : Go E y d pc ls (.null :: .int i :: .ref a :: st) σ Q := Go.wr (.inl (6, n, .inr (.inr (.inr (.inr (va_up f i.toNatClampNeg none)))))) ha (fun X _ _ hP hD hS hq kk => va_astqN X.hx X.hb X.va hP hD hS _ 6 hq rfl hin hd kk) kk
theorem Go.alen {E : ET} {y : MI} {d pc : Nat} {ls : LV} {st : List Value} {σ : AH} {Q : AO → AH → Prop} {a t : Nat} {x : vp_A} {ty : FieldType} (hd : decode y.2.1 pc = .ok (.arraylength, 1)) (ha : σ.1 a = some (.inl (t, x))) (ht : (tysE E)[t]? = some (eA E t, ty)) (kk : Go E y d (pc + 1) ls (.int (nI x.1) :: st) σ Q) : Go E y d pc ls (.ref a :: st) σ Q := Go.rd (fun X _ hH _ kk => va_alen X.hx X.hb X.va (hH.one ha) 0 t rfl ht rfl hd kk) kk
