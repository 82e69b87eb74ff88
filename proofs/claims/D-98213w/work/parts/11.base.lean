/-! THE ABSTRACT HEAP over the kit's rows: cells by address; a method's frame and heap, and how it ends ('Ev', 'Go') -/
set_option maxRecDepth 100000
/-- a cell: an array (tag of its class, length, contents) or an object (number of its class, fields) -/
abbrev AE : Type := (Nat × vp_A) ⊕ (Nat × List Value)
/-- cells, the next address, how many slots are used -/
abbrev AH : Type := (Nat → Option AE) × Nat × Nat
/-- how a method ends: a value (or none), or a thrown object -/
abbrev AO : Type := Option Value ⊕ Nat
abbrev LV : Type := List (Option Value)
/-- a method: name, code, locals, answer, handlers -/
abbrev MI : Type := MethodName × ByteArray × Nat × Option FieldType × List (Nat × Nat × Nat × Nat)
/-- what is fixed in a run: classes and slots; array classes by tag; the heap at the law's entry; the launch; known numbers; the script; statics -/
abbrev ET : Type := va_G × (Nat → ClassId) × Heap × Launch × (Nat → Nat) × (Nat → Int32) × (Nat → Option Nat)
abbrev eD (E : ET) : va_G := E.1
abbrev eA (E : ET) : Nat → ClassId := E.2.1
abbrev eH (E : ET) : Heap := E.2.2.1
abbrev eL (E : ET) : Launch := E.2.2.2.1
abbrev eS (E : ET) : Nat → Nat := E.2.2.2.2.1
abbrev eX (E : ET) : Nat → Int32 := E.2.2.2.2.2.1
abbrev eV (E : ET) : Nat → Option Nat := E.2.2.2.2.2.2
/-- own cells begin here -/
abbrev eB (E : ET) : Nat := (eH E).size
abbrev eF (E : ET) : Nat → Prop := fun q => eB E ≤ q
abbrev clsL : List vw_C := [(RX0, TX0, 22), (RX1, TX1, 12), (RX2, TX2, 2), (RX3, TX3, 2), (RX4, TX4, 6), (RX5, TX5, 7), (RX6, TX6, 9), (RX7, TX7, 8), (RX8, TX8, 6), (RX9, TX9, 10), (RX10, TX10, 76), (RX11, TX11, 3), (RJ2, TJ2, 3), (RX13, TX13, 8), (RX14, TX14, 7), (RX15, TX15, 3), (RJ2, TJ2, 3), (RX17, TX17, 1), (RX18, TX18, 1), (RX19, TX19, 3), (RJ2, TJ2, 3), (RX21, TX21, 3), (RX22, TX22, 1), (RX23, TX23, 2), (RX24, TX24, 5), (RX25, TX25, 8), (RX26, TX26, 1), (RX27, TX27, 4)]
abbrev tysE (E : ET) : List (ClassId × FieldType) := [(eA E 0, .int), (eA E 1, .byte), (eA E 2, .long), (eA E 3, .boolean), (eA E 4, .object "java/lang/Object"), (eA E 5, .object "DeadUnderstudies$Script"), (eA E 6, .object "DeadUnderstudies$State")]
def cnc (E : ET) : AE → va_E
  | .inl (t, x) => .inl (eA E t, x)
  | .inr o => .inr o
/-- the heap H is as the abstract heap says; what is older than the run is as it was -/
def HOK (E : ET) (σ : AH) (H : Heap) : Prop := H.size = σ.2.1 ∧ eB E ≤ σ.2.1 ∧ (∀ q : Nat, q < eB E → H[q]? = (eH E)[q]?) ∧ ∀ (a : Nat) (e : AE), σ.1 a = some e → va_at (eD E) clsL (a, cnc E e) H ∧ eB E ≤ a
/-- the words that don't ride in every list -/
def extK : Cond → Bool
  | .fieldLinkNest _ _ _ _ _ _ => true
  | .methodLinkNest _ _ _ _ => true
  | .declares _ => true
  | .castable _ _ => true
  | _ => false
def TBX (U : State) : Prop := ∀ w ∈ lw_tbl, extK w = true → va_Nw w U
theorem TBX.moved {s U : State} (hW : s.WarmedH U.vm) (h : TBX s) : TBX U := by
  intro w hw hk
  have h1 := h w hw hk
  cases w <;> first | exact absurd hk Bool.false_ne_true | exact va_Nw.warmF hW h1 | exact va_Nw.warmM hW h1 | exact va_Nw.warmD hW h1 | exact va_Nw.warmC hW h1
abbrev stU (E : ET) (U : State) (H : Heap) : Prop := va_Z "java/lang/Throwable" "UNASSIGNED_STACK" "[Ljava/lang/StackTraceElement;" (va_rf (eV E 0)) (eF E) U H
abbrev stN (E : ET) (U : State) (H : Heap) : Prop := va_Z "java/lang/Throwable" "SUPPRESSED_SENTINEL" "Ljava/util/List;" (va_rf (eV E 1)) (eF E) U H
abbrev stC (E : ET) (U : State) (H : Heap) : Prop := va_Z "java/lang/String" "COMPACT_STRINGS" "Z" (.int 1) (eF E) U H
abbrev arrIx : MethodName := ⟨"java/util/Collection", "toArray", "()[Ljava/lang/Object;"⟩
/-- the tables, as they stay through the run -/
def TB0 (E : ET) (U : State) : Prop := va_K (eD E) clsL (tysE E) U ∧ TBX U ∧ (va_AO "DeadUnderstudies$Script" U ∧ va_AO "DeadUnderstudies$State" U ∧ va_AO "java/lang/Object" U) ∧ va_Fw "java/util/ArrayList" arrIx yJ2_toArray U ∧ (stU E U (eH E) ∧ stN E U (eH E) ∧ stC E U (eH E)) ∧ va_Mi "[Ljava/lang/Object;" (eS E 2) U ∧ va_X (eS E 0) (eS E 1) (eX E) U (eH E)
theorem TB0.moved {E : ET} {s U : State} (hW : s.WarmedH U.vm) (h : TB0 E s) : TB0 E U := by
  obtain ⟨h1, h2, ⟨h3, h4, h5⟩, h6, ⟨h7, h8, h9⟩, h10, h11⟩ := h
  have hv := hW.alike
  exact ⟨va_K.moved hv h1, h2.moved hW, ⟨va_AO.moved hv h3, va_AO.moved hv h4, va_AO.moved hv h5⟩, va_Fw.moved (by decide) hv h6, ⟨va_Z.moved hv h7, va_Z.moved hv h8, va_Z.moved hv h9⟩, va_Mi.moved hv h10, va_X.moved hv h11⟩
/-- the text constants -/
def strN : Nat := 41
def strOK (len : List Nat) (byt : List (List Int32)) (E : ET) (U : State) (H : Heap) : Prop := ∀ i : Nat, i < strN → va_O "java/lang/String" (eS E (10 + i)) (eF E) U H ∧ va_OF "java/lang/String" "coder" "B" (.int 0) (eS E (10 + i)) (eF E) U H ∧ va_OF "java/lang/String" "value" "[B" (.ref (eS E (60 + i))) (eS E (10 + i)) (eF E) U H ∧ va_T .byte (eS E (60 + i)) (len.getD i 0) (fun j => .int ((byt.getD i []).getD j 0)) (eF E) U H
def TB1 (L : List (String × Nat × String)) (len : List Nat) (byt : List (List Int32)) (E : ET) (U : State) : Prop := (∀ (i : Nat) (q : String × Nat × String), L[i]? = some q → vk_R q.1 q.2.1 q.2.2 (eS E (10 + i)) U) ∧ strOK len byt E U (eH E)
theorem TB1.moved {L : List (String × Nat × String)} {len : List Nat} {byt : List (List Int32)} {E : ET} {s U : State} (hW : s.WarmedH U.vm) (h : TB1 L len byt E s) : TB1 L len byt E U :=
  ⟨fun i q hq => vk_R.warm hW (h.1 i q hq), fun i hi => ⟨va_O.moved hW.alike (h.2 i hi).1, va_OF.moved hW.alike (h.2 i hi).2.1, va_OF.moved hW.alike (h.2 i hi).2.2.1, va_T.moved hW.alike (h.2 i hi).2.2.2⟩⟩
def strL : List (String × Nat × String) := [("DeadUnderstudies$LawReader", 20, "slips"), ("DeadUnderstudies$LawReader", 26, "hours"), ("DeadUnderstudies$LawReader", 28, "bars"), ("DeadUnderstudies$LawReader", 48, "if"), ("DeadUnderstudies$LawReader", 65, "person"), ("DeadUnderstudies$LawReader", 67, "memory"), ("DeadUnderstudies$LawReader", 69, "born"), ("DeadUnderstudies$LawReader", 71, "dead"), ("DeadUnderstudies$LawReader", 73, "part"), ("DeadUnderstudies$LawReader", 75, "teacher"), ("DeadUnderstudies$LawReader", 77, "year"), ("DeadUnderstudies$LawReader", 79, "mood"), ("DeadUnderstudies$PlayReader", 20, "any"), ("DeadUnderstudies$PlayReader", 30, "in"), ("DeadUnderstudies$PlayReader", 55, "at"), ("DeadUnderstudies$PlayReader", 64, "hush"), ("DeadUnderstudies$PlayReader", 66, "say"), ("DeadUnderstudies$PlayReader", 76, "go"), ("DeadUnderstudies$PlayReader", 80, "if"), ("DeadUnderstudies$PlayReader", 94, "state"), ("DeadUnderstudies$PlayReader", 95, "cue"), ("DeadUnderstudies$PlayReader", 96, "word"), ("DeadUnderstudies$PlayReader", 97, "next"), ("DeadUnderstudies$PlayReader", 98, "part"), ("DeadUnderstudies$PlayReader", 100, "mood"), ("DeadUnderstudies$Reader", 57, ";"), ("DeadUnderstudies$Reader", 66, "or"), ("DeadUnderstudies$Reader", 86, "and"), ("DeadUnderstudies$Reader", 91, "not"), ("DeadUnderstudies$Reader", 101, "("), ("DeadUnderstudies$Reader", 109, ")"), ("DeadUnderstudies$Reader", 119, "<"), ("DeadUnderstudies$Reader", 121, ">"), ("DeadUnderstudies$Reader", 123, "="), ("DeadUnderstudies$Reader", 133, "+"), ("DeadUnderstudies$Reader", 135, "-"), ("DeadUnderstudies$Reader", 143, "*"), ("DeadUnderstudies$Reader", 145, "/"), ("DeadUnderstudies$Reader", 147, "%"), ("DeadUnderstudies$Reader", 152, "["), ("DeadUnderstudies$Reader", 154, "]")]
def strLen : List Nat := [5, 5, 4, 2, 6, 6, 4, 4, 4, 7, 4, 4, 3, 2, 2, 4, 3, 2, 2, 5, 3, 4, 4, 4, 4, 1, 2, 3, 3, 1, 1, 1, 1, 1, 1, 1, 1, 1, 1, 1, 1]
def strByt : List (List Int32) := [[115, 108, 105, 112, 115], [104, 111, 117, 114, 115], [98, 97, 114, 115], [105, 102], [112, 101, 114, 115, 111, 110], [109, 101, 109, 111, 114, 121], [98, 111, 114, 110], [100, 101, 97, 100], [112, 97, 114, 116], [116, 101, 97, 99, 104, 101, 114], [121, 101, 97, 114], [109, 111, 111, 100], [97, 110, 121], [105, 110], [97, 116], [104, 117, 115, 104], [115, 97, 121], [103, 111], [105, 102], [115, 116, 97, 116, 101], [99, 117, 101], [119, 111, 114, 100], [110, 101, 120, 116], [112, 97, 114, 116], [109, 111, 111, 100], [59], [111, 114], [97, 110, 100], [110, 111, 116], [40], [41], [60], [62], [61], [43], [45], [42], [47], [37], [91], [93]]
def TBL (E : ET) (U : State) : Prop := TB0 E U ∧ TB1 strL strLen strByt E U
theorem TBL.moved {E : ET} {s U : State} (hW : s.WarmedH U.vm) (h : TBL E s) : TBL E U := ⟨h.1.moved hW, h.2.moved hW⟩
/-- the locals hold what is listed -/
def lvh (LS : Array Slot) (nL : Nat) (ls : LV) : Prop := LS.size = nL ∧ lv_wf LS ∧ ∀ (i : Nat) (v : Value), ls[i]? = some (some v) → LS[i]? = some (.val v)
def lent : List Value → LV
  | [] => []
  | v :: vs => if v.category = 2 then some v :: none :: lent vs else some v :: lent vs
/-- the locals at a method's entry -/
def ent (vs : List Value) (n : Nat) : LV := lent vs ++ List.replicate (n - (lent vs).length) none
theorem lent_len (vs : List Value) : (lent vs).length = (lg_sl vs).length := by
  induction vs with
  | nil => rfl
  | cons v vs ih =>
    by_cases hc : v.category = 2
    · simp only [lent, if_pos hc, lg_sl, List.flatMap_cons, List.length_cons, List.length_append, List.length_nil]
      rw [ih]; simp only [lg_sl]; omega
    · simp only [lent, if_neg hc, lg_sl, List.flatMap_cons, List.length_cons, List.length_append, List.length_nil]
      rw [ih]; simp only [lg_sl]; omega
theorem lent_args (vs : List Value) : ∀ (k i : Nat) (v : Value), (lent vs)[i]? = some (some v) → (k + i, v) ∈ lv_args k vs := by
  induction vs with
  | nil => intro k i v h; simp [lent] at h
  | cons w vs ih =>
    intro k i v h
    by_cases hc : w.category = 2
    · rw [lent, if_pos hc] at h
      rw [lv_args, if_pos hc]
      cases i with
      | zero => simp at h; subst h; exact List.mem_cons_self
      | succ i =>
        cases i with
        | zero => simp at h
        | succ i =>
          have h2 : (lent vs)[i]? = some (some v) := by simpa using h
          have h3 := ih (k + 2) i v h2
          rw [show k + (i + 1 + 1) = k + 2 + i by omega]
          exact List.mem_cons_of_mem _ h3
    · rw [lent, if_neg hc] at h
      rw [lv_args, if_neg hc]
      cases i with
      | zero => simp at h; subst h; exact List.mem_cons_self
      | succ i =>
        have h2 : (lent vs)[i]? = some (some v) := by simpa using h
        have h3 := ih (k + 1) i v h2
        rw [show k + (i + 1) = k + 1 + i by omega]
        exact List.mem_cons_of_mem _ h3
theorem lvh_entry (vs : List Value) {n : Nat} (h : (lent vs).length ≤ n) : lvh ((lg_sl vs ++ List.replicate (n - (lg_sl vs).length) Slot.unset).toArray) n (ent vs n) := by
  have h0 := lv_entry vs (n := n) (by rw [← lent_len]; exact h)
  refine ⟨h0.1, h0.2.1, fun i v hi => ?_⟩
  unfold ent at hi
  by_cases hl : i < (lent vs).length
  · rw [List.getElem?_append_left hl] at hi
    have h1 := lent_args vs 0 i v hi
    rw [Nat.zero_add] at h1
    exact h0.2.2 _ h1
  · rw [List.getElem?_append_right (by omega)] at hi
    rw [List.getElem?_replicate] at hi
    split at hi <;> cases hi
/-- what stays through a method's run -/
def Cx (E : ET) (y : MI) (d : Nat) (p : Program) (R : Room) (s : State) (m : MethodId) (args : Array Value) (meth : Method) (c : Code) : Prop :=
  p.tables.exec = Jvm.exec ∧ c.code = y.2.1 ∧ meth.sig.returnType = y.2.2.2.1 ∧ c.maxLocals = y.2.2.1 ∧ s.vm.findClass y.1.cls = some m.cls ∧ (∀ w ∈ lw_all, w.before args s = true) ∧ meth.locks = false ∧ meth.name = y.1.name ∧ c.exceptionTable.toList = tableOf y.2.2.2.2 ∧ d ≤ R.frames ∧ 64 * d ≤ R.locals ∧ TBL E s ∧ eB E ≤ s.heap.size ∧ ∀ q : Nat, q < eB E → s.heap[q]? = (eH E)[q]?
/-- a row that ends a method with the value v -/
def RetAt (y : MI) (pc : Nat) (v : Option Value) (st : List Value) : Prop :=
  (∃ (x : Int32) (ty : FieldType), v = some (.int x) ∧ st = [.int x] ∧ decode y.2.1 pc = .ok (.ireturn, 1) ∧ y.2.2.2.1 = some ty ∧ narrow ty (.int x) = .int x) ∨
  (∃ x : Int64, v = some (.long x) ∧ st = [.long x] ∧ decode y.2.1 pc = .ok (.lreturn, 1) ∧ y.2.2.2.1 = some .long) ∨
  (v = none ∧ st = [] ∧ decode y.2.1 pc = .ok (.return_, 1) ∧ y.2.2.2.1 = none) ∨
  (∃ (w : Value) (ty : FieldType), v = some w ∧ st = [w] ∧ decode y.2.1 pc = .ok (.areturn, 1) ∧ y.2.2.2.1 = some ty ∧ ((∃ n, ty = .object n) ∨ ∃ t, ty = .array t) ∧ (w = .null ∨ ∃ a, w = .ref a))
/-- what is owed at a method's end -/
def EndC (E : ET) (y : MI) (p : Program) (e : Env) (R : Room) (s : State) (m : MethodId) (args : Array Value) (below : List Frame) (meth : Method) (c : Code) (Z : State → Prop) (mc ms : Nat) (o : AO) (σ' : AH) : Prop :=
  (∀ v : Option Value, o = .inl v → ∀ (H : Heap) (locs : List Loc) (pc : Nat) (LS : Array Slot) (st : List Value), HOK E σ' H → (∀ z ∈ locs, eB E ≤ z.base) → RetAt y pc v st → W p (eL E) e R s m args below meth c H locs mc ms Z (F0 m pc LS st)) ∧
  ∀ q : Nat, o = .inr q → ∀ (H : Heap) (locs : List Loc) (pc : Nat) (LS : Array Slot) (st : List Value), HOK E σ' H → (∀ z ∈ locs, eB E ≤ z.base) → (∀ x ∈ c.exceptionTable.toList, covers x pc = false) → (∃ (ci : Nat) (fs : List Value), σ'.1 q = some (.inr (ci, fs))) → xq_W p (eL E) e R s m args below meth c H locs mc ms Z (F0 m pc LS st) q
/-- from this frame and these cells the method ends with o and the cells σ' -/
def Ev (E : ET) (y : MI) (d pc : Nat) (ls : LV) (st : List Value) (σ : AH) (o : AO) (σ' : AH) : Prop :=
  σ.2.1 ≤ σ'.2.1 ∧ σ.2.2 ≤ σ'.2.2 ∧ ∀ (p : Program) (e : Env) (R : Room) (s : State) (m : MethodId) (args : Array Value) (below : List Frame) (meth : Method) (c : Code) (Z : State → Prop) (mc ms cells slots sl0 : Nat) (H : Heap) (locs : List Loc) (LS : Array Slot),
    Cx E y d p R s m args meth c → s.heap.size + cells = σ.2.1 → s.heap.size + mc = σ'.2.1 → sl0 + slots = σ.2.2 → sl0 + ms = σ'.2.2 → mc ≤ R.cells → ms ≤ R.slots → EndC E y p e R s m args below meth c Z mc ms o σ' → HOK E σ H → (∀ z ∈ locs, eB E ≤ z.base) → lvh LS y.2.2.1 ls →
    W p (eL E) e R s m args below meth c H locs cells slots Z (F0 m pc LS st)
/-- the same where q is thrown in this frame -/
def EvX (E : ET) (y : MI) (d pc : Nat) (ls : LV) (st : List Value) (q : Nat) (σ : AH) (o : AO) (σ' : AH) : Prop :=
  σ.2.1 ≤ σ'.2.1 ∧ σ.2.2 ≤ σ'.2.2 ∧ ∀ (p : Program) (e : Env) (R : Room) (s : State) (m : MethodId) (args : Array Value) (below : List Frame) (meth : Method) (c : Code) (Z : State → Prop) (mc ms cells slots sl0 : Nat) (H : Heap) (locs : List Loc) (LS : Array Slot),
    Cx E y d p R s m args meth c → s.heap.size + cells = σ.2.1 → s.heap.size + mc = σ'.2.1 → sl0 + slots = σ.2.2 → sl0 + ms = σ'.2.2 → mc ≤ R.cells → ms ≤ R.slots → EndC E y p e R s m args below meth c Z mc ms o σ' → HOK E σ H → (∀ z ∈ locs, eB E ≤ z.base) → lvh LS y.2.2.1 ls →
    xq_W p (eL E) e R s m args below meth c H locs cells slots Z (F0 m pc LS st) q
def Go (E : ET) (y : MI) (d pc : Nat) (ls : LV) (st : List Value) (σ : AH) (Q : AO → AH → Prop) : Prop := ∃ (o : AO) (σ' : AH), Q o σ' ∧ Ev E y d pc ls st σ o σ'
def GoX (E : ET) (y : MI) (d pc : Nat) (ls : LV) (st : List Value) (q : Nat) (σ : AH) (Q : AO → AH → Prop) : Prop := ∃ (o : AO) (σ' : AH), Q o σ' ∧ EvX E y d pc ls st q σ o σ'
theorem Go.mono {E : ET} {y : MI} {d pc : Nat} {ls : LV} {st : List Value} {σ : AH} {Q Q' : AO → AH → Prop} (h : Go E y d pc ls st σ Q) (hQ : ∀ o σ', Q o σ' → Q' o σ') : Go E y d pc ls st σ Q' := by
  obtain ⟨o, σ', a, b⟩ := h
  exact ⟨o, σ', hQ _ _ a, b⟩
theorem Cx.le {E : ET} {y : MI} {d d' : Nat} {p : Program} {R : Room} {s : State} {m : MethodId} {args : Array Value} {meth : Method} {c : Code} (h : Cx E y d p R s m args meth c) (hd : d' ≤ d) : Cx E y d' p R s m args meth c := by
  obtain ⟨h1, h2, h3, h4, h5, h6, h7, h8, h9, h10, h11, h12, h13⟩ := h
  exact ⟨h1, h2, h3, h4, h5, h6, h7, h8, h9, by omega, by omega, h12, h13⟩
theorem Ev.le {E : ET} {y : MI} {d d' pc : Nat} {ls : LV} {st : List Value} {σ σ' : AH} {o : AO} (h : Ev E y d pc ls st σ o σ') (hd : d ≤ d') : Ev E y d' pc ls st σ o σ' := by
  refine ⟨h.1, h.2.1, ?_⟩
  intro p e R s m args below meth c Z mc ms cells slots sl0 H locs LS C
  exact h.2.2 p e R s m args below meth c Z mc ms cells slots sl0 H locs LS (C.le hd)
theorem Go.le {E : ET} {y : MI} {d d' pc : Nat} {ls : LV} {st : List Value} {σ : AH} {Q : AO → AH → Prop} (h : Go E y d pc ls st σ Q) (hd : d ≤ d') : Go E y d' pc ls st σ Q := by
  obtain ⟨o, σ', a, b⟩ := h
  exact ⟨o, σ', a, b.le hd⟩
/-- a row that moves neither cells nor locals -/
theorem Go.pure {E : ET} {y : MI} {d pc pc' : Nat} {ls : LV} {st st' : List Value} {σ : AH} {Q : AO → AH → Prop}
    (hrow : ∀ {p : Program} {e : Env} {R : Room} {s : State} {m : MethodId} {args : Array Value} {below : List Frame} {meth : Method} {c : Code} {H : Heap} {locs : List Loc} {cells slots : Nat} {Z : State → Prop} {LS : Array Slot}, Cx E y d p R s m args meth c → lvh LS y.2.2.1 ls → W p (eL E) e R s m args below meth c H locs cells slots Z (F0 m pc' LS st') → W p (eL E) e R s m args below meth c H locs cells slots Z (F0 m pc LS st))
    (k : Go E y d pc' ls st' σ Q) : Go E y d pc ls st σ Q := by
  obtain ⟨o, σ', hQ, h1, h2, h3⟩ := k
  refine ⟨o, σ', hQ, h1, h2, ?_⟩
  intro p e R s m args below meth c Z mc ms cells slots sl0 H locs LS C a1 a2 a3 a4 a5 a6 a7 a8 a9 a10
  exact hrow C a10 (h3 p e R s m args below meth c Z mc ms cells slots sl0 H locs LS C a1 a2 a3 a4 a5 a6 a7 a8 a9 a10)
/-- a row that changes the locals -/
theorem Go.pureL {E : ET} {y : MI} {d pc pc' : Nat} {ls ls' : LV} {st st' : List Value} {σ : AH} {Q : AO → AH → Prop}
    (hrow : ∀ {p : Program} {e : Env} {R : Room} {s : State} {m : MethodId} {args : Array Value} {below : List Frame} {meth : Method} {c : Code} {H : Heap} {locs : List Loc} {cells slots : Nat} {Z : State → Prop} {LS : Array Slot}, Cx E y d p R s m args meth c → lvh LS y.2.2.1 ls → (∀ LS' : Array Slot, lvh LS' y.2.2.1 ls' → W p (eL E) e R s m args below meth c H locs cells slots Z (F0 m pc' LS' st')) → W p (eL E) e R s m args below meth c H locs cells slots Z (F0 m pc LS st))
    (k : Go E y d pc' ls' st' σ Q) : Go E y d pc ls st σ Q := by
  obtain ⟨o, σ', hQ, h1, h2, h3⟩ := k
  refine ⟨o, σ', hQ, h1, h2, ?_⟩
  intro p e R s m args below meth c Z mc ms cells slots sl0 H locs LS C a1 a2 a3 a4 a5 a6 a7 a8 a9 a10
  exact hrow C a10 (fun LS' hl' => h3 p e R s m args below meth c Z mc ms cells slots sl0 H locs LS' C a1 a2 a3 a4 a5 a6 a7 a8 a9 hl')
/-- a branch -/
theorem Go.br {E : ET} {y : MI} {d pc pc1 pc2 : Nat} {ls : LV} {st st' : List Value} {σ : AH} {Q : AO → AH → Prop} {b : Prop} 
    (hrow : ∀ {p : Program} {e : Env} {R : Room} {s : State} {m : MethodId} {args : Array Value} {below : List Frame} {meth : Method} {c : Code} {H : Heap} {locs : List Loc} {cells slots : Nat} {Z : State → Prop} {LS : Array Slot}, Cx E y d p R s m args meth c → lvh LS y.2.2.1 ls → (b → W p (eL E) e R s m args below meth c H locs cells slots Z (F0 m pc1 LS st')) → (¬ b → W p (eL E) e R s m args below meth c H locs cells slots Z (F0 m pc2 LS st')) → W p (eL E) e R s m args below meth c H locs cells slots Z (F0 m pc LS st))
    (k1 : b → Go E y d pc1 ls st' σ Q) (k2 : ¬ b → Go E y d pc2 ls st' σ Q) : Go E y d pc ls st σ Q := by
  by_cases hb : b
  · exact Go.pure (fun C hl k => hrow C hl (fun _ => k) (fun h => absurd hb h)) (k1 hb)
  · exact Go.pure (fun C hl k => hrow C hl (fun h => absurd h hb) (fun _ => k)) (k2 hb)
theorem Cx.hx {E : ET} {y : MI} {d : Nat} {p : Program} {R : Room} {s : State} {m : MethodId} {args : Array Value} {meth : Method} {c : Code} (h : Cx E y d p R s m args meth c) : p.tables.exec = Jvm.exec := h.1
theorem Cx.hb {E : ET} {y : MI} {d : Nat} {p : Program} {R : Room} {s : State} {m : MethodId} {args : Array Value} {meth : Method} {c : Code} (h : Cx E y d p R s m args meth c) : c.code = y.2.1 := h.2.1
theorem Cx.own {E : ET} {y : MI} {d : Nat} {p : Program} {R : Room} {s : State} {m : MethodId} {args : Array Value} {meth : Method} {c : Code} (h : Cx E y d p R s m args meth c) : s.vm.findClass y.1.cls = some m.cls := h.2.2.2.2.1
theorem Cx.hts {E : ET} {y : MI} {d : Nat} {p : Program} {R : Room} {s : State} {m : MethodId} {args : Array Value} {meth : Method} {c : Code} (h : Cx E y d p R s m args meth c) : ∀ w ∈ lw_all, w.before args s = true := h.2.2.2.2.2.1
