/-! CALLS, AND WHAT IS THROWN -/
set_option maxRecDepth 100000
def PcE (E : ET) (As : List Value) (σ : AH) : Array Value → State → Prop := fun a U => a = As.toArray ∧ HOK E σ U.heap ∧ TBL E U
def QcE (E : ET) (o : AO) (σ' : AH) : Array Value → State → Outcome → State → Prop := fun _ _ oc t => ∃ v, o = .inl v ∧ oc = .returned v ∧ HOK E σ' t.heap
def XCE (E : ET) (o : AO) (σ' : AH) : Addr → String → State → State → Prop := fun q C _ t => o = .inr q ∧ HOK E σ' t.heap ∧ ∃ (ci : Nat) (fs : List Value) (r : vw_C), σ'.1 q = some (.inr (ci, fs)) ∧ clsL[ci]? = some r ∧ r.1 = C
theorem PcE.blind (E : ET) (As : List Value) (σ : AH) : FrameBlind (PcE E As σ) := fun a U g mk h => ⟨h.1, h.2.1, TBL.moved (s := U) (U := U.calling g mk a) (State.WarmedH.refl U) h.2.2⟩
abbrev rmE (d : Nat) (σ σ' : AH) : Room := { frames := d, cells := σ'.2.1 - σ.2.1, slots := σ'.2.2 - σ.2.2, locals := 64 * d }
/-- the end of a method whose end the caller waits for -/
theorem EndC.of {E : ET} {y : MI} {p : Program} {e : Env} {R : Room} {s : State} {m : MethodId} {args : Array Value} {below : List Frame} {meth : Method} {c : Code} {mc ms d : Nat} {o : AO} {σ' : AH} (X : Cx E y d p R s m args meth c) : EndC E y p e R s m args below meth c (xq_MQ below (QcE E o σ') (XCE E o σ') args s mc ms (eF E)) mc ms o σ' := by
  obtain ⟨hx, hb, hr, -, -, -, hlocks, -, -, -, -, hT, -, -⟩ := X
  refine ⟨fun v ho H locs pc LS st hH hL hR => ?_, fun q ho H locs pc LS st hH hL hcov hq => ?_⟩
  · refine xq_ret ?_
    rcases hR with ⟨x, ty, rfl, rfl, hd, ht, hn⟩ | ⟨x, rfl, rfl, hd, ht⟩ | ⟨rfl, rfl, hd, ht⟩ | ⟨w, ty, rfl, rfl, hd, ht, hty, hw⟩
    · exact W.zret hx hb (hr.trans ht) hn (fun t ht2 _ => ⟨_, ho, rfl, by rw [ht2]; exact hH⟩) hL hd hlocks
    · exact W.lret hx hb (hr.trans ht) (fun t ht2 _ => ⟨_, ho, rfl, by rw [ht2]; exact hH⟩) hL hd hlocks
    · exact W.vret hx hb (hr.trans ht) (fun t ht2 _ => ⟨_, ho, rfl, by rw [ht2]; exact hH⟩) hL hd hlocks
    · exact W.aret hx hb (hr.trans ht) hty hw (fun t ht2 _ => ⟨_, ho, rfl, by rw [ht2]; exact hH⟩) hL hd hlocks
  · obtain ⟨ci, fs, hq⟩ := hq
    obtain ⟨r, hc, cell, g1, g2, g3, -⟩ := hH.one hq 0 _ rfl
    have g4 := (hT.1.1.1 ci r hc).2.1
    exact xq_out hcov hlocks g1 g3 (by rw [g2]; exact g4) (fun t ht2 _ => ⟨ho, by rw [ht2]; exact hH, ci, fs, r, hq, hc, rfl⟩) hL (Nat.le_refl _) (Nat.le_refl _)
/-- what is asked of every method that is called -/
def MOK (y : MI) : Prop := plainName y.1.cls = true ∧ y.2.2.1 ≤ 45 ∧ (y.1.cls ≠ "java/lang/invoke/MethodHandle" ∧ y.1.cls ≠ "java/lang/invoke/VarHandle") ∧ Cond.initialized y.1.cls ∈ lw_all ∧ Cond.code y.1 y.2.1 y.2.2.1 y.2.2.2.1 ∈ lw_all ∧ y.2.2.2.2 = []
def MOKW (y : MI) : Prop := plainName y.1.cls = true ∧ y.2.2.1 ≤ 45 ∧ (y.1.cls ≠ "java/lang/invoke/MethodHandle" ∧ y.1.cls ≠ "java/lang/invoke/VarHandle") ∧ Cond.initialized y.1.cls ∈ lw_all ∧ Cond.codeWith y.1 y.2.1 y.2.2.1 y.2.2.2.1 y.2.2.2.2 ∈ lw_all
theorem Ev.met {E : ET} {y : MI} {d : Nat} {As : List Value} {σ σ' : AH} {o : AO} (hm : MOK y) (hl : (lent As).length ≤ y.2.2.1) (k : Ev E y d 0 (ent As y.2.2.1) [] σ o σ') : xq_Met (eL E) y.1 (ws_ y.1 y.2.1 y.2.2.1 y.2.2.2.1) (rmE d σ σ') (PcE E As σ) (QcE E o σ') (XCE E o σ') (σ'.2.1 - σ.2.1) (σ'.2.2 - σ.2.2) (eF E) := by
  refine xq_ofW (cc := y.2.1) (maxL := y.2.2.1) (ret := y.2.2.2.1) hm.1 rfl ?_
  intro p e s m args below meth c s₁ B hml hno hv
  obtain ⟨rfl, hH, hT⟩ := hv
  have hts0 := atoms_spec (ws := ws_ y.1 y.2.1 y.2.2.1 y.2.2.2.1) B.pre
  have hts : ∀ w ∈ lw_all, w.before _ s = true := fun w h => hts0 w (List.mem_cons_of_mem _ h)
  have hex : c.exceptionTable.toList = tableOf y.2.2.2.2 := by
    rw [hm.2.2.2.2.2]
    exact List.eq_nil_iff_forall_not_mem.mpr hno
  have hC : Cx E y d p (headSpec (ws_ y.1 y.2.1 y.2.2.1 y.2.2.2.1) (rmE d σ σ')).room s m As.toArray meth c := ⟨B.exec, B.bytes, B.returns, hml, findClass_of_methodNamed B.named, hts, B.notSynchronized, (name_of_methodNamed B.named B.method).1, hex, Nat.le_refl _, Nat.le_refl _, hT, by rw [hH.1]; exact hH.2.1, hH.2.2.1⟩
  rw [lg_entry_eq]
  have h1 := hH.1
  have g1 := k.1
  have g2 := k.2.1
  exact k.2.2 p e _ s m As.toArray below meth c _ (σ'.2.1 - σ.2.1) (σ'.2.2 - σ.2.2) 0 0 σ.2.2 s.heap [] _ hC (by omega) (by omega) (by omega) (by omega) (Nat.le_refl _) (Nat.le_refl _) (EndC.of hC) hH (fun _ h => by cases h) (lvh_entry As hl)
theorem Ev.metW {E : ET} {y : MI} {d : Nat} {As : List Value} {σ σ' : AH} {o : AO} (hm : MOKW y) (hl : (lent As).length ≤ y.2.2.1) (k : Ev E y d 0 (ent As y.2.2.1) [] σ o σ') : xq_Met (eL E) y.1 (wsW_ y.1 y.2.1 y.2.2.1 y.2.2.2.1 y.2.2.2.2) (rmE d σ σ') (PcE E As σ) (QcE E o σ') (XCE E o σ') (σ'.2.1 - σ.2.1) (σ'.2.2 - σ.2.2) (eF E) := by
  refine xq_ofWH (cc := y.2.1) (maxL := y.2.2.1) (ret := y.2.2.2.1) (hh := y.2.2.2.2) hm.1 rfl ?_
  intro p e s m args below meth c s₁ B hml hv
  obtain ⟨rfl, hH, hT⟩ := hv
  have hts0 := atoms_spec (ws := wsW_ y.1 y.2.1 y.2.2.1 y.2.2.2.1 y.2.2.2.2) B.pre
  have hts : ∀ w ∈ lw_all, w.before _ s = true := fun w h => hts0 w (List.mem_cons_of_mem _ h)
  have hex : c.exceptionTable.toList = tableOf y.2.2.2.2 := xq_table (x := y.1) B (hts0 _ List.mem_cons_self)
  have hC : Cx E y d p (headSpec (wsW_ y.1 y.2.1 y.2.2.1 y.2.2.2.1 y.2.2.2.2) (rmE d σ σ')).room s m As.toArray meth c := ⟨B.exec, B.bytes, B.returns, hml, findClass_of_methodNamed B.named, hts, B.notSynchronized, (name_of_methodNamed B.named B.method).1, hex, Nat.le_refl _, Nat.le_refl _, hT, by rw [hH.1]; exact hH.2.1, hH.2.2.1⟩
  rw [lg_entry_eq]
  have h1 := hH.1
  have g1 := k.1
  have g2 := k.2.1
  exact k.2.2 p e _ s m As.toArray below meth c _ (σ'.2.1 - σ.2.1) (σ'.2.2 - σ.2.2) 0 0 σ.2.2 s.heap [] _ hC (by omega) (by omega) (by omega) (by omega) (Nat.le_refl _) (Nat.le_refl _) (EndC.of hC) hH (fun _ h => by cases h) (lvh_entry As hl)
/-- what goes on behind a call (of n bytes) -/
def After (E : ET) (y : MI) (d pc n : Nat) (ls : LV) (rest : List Value) (Q : AO → AH → Prop) : AO → AH → Prop := fun o σ1 => match o with
  | .inl none => Go E y d (pc + n) ls rest σ1 Q
  | .inl (some v) => Go E y d (pc + n) ls (v :: rest) σ1 Q
  | .inr q => GoX E y d pc ls rest q σ1 Q
theorem Go.run {E : ET} {y : MI} {d pc : Nat} {ls : LV} {st rest : List Value} {σ : AH} {Q : AO → AH → Prop} {y2 : MI} {d2 : Nat} {Bs : List Value}
    (hrun : ∀ {p : Program} {e : Env} {R : Room} {s : State} {m : MethodId} {args : Array Value} {below : List Frame} {meth : Method} {c : Code} {H : Heap} {locs : List Loc} {cells slots : Nat} {LS : Array Slot} (o1 : AO) (σ1 : AH), Cx E y d p R s m args meth c → HOK E σ H → LS.size = y.2.2.1 → Ev E y2 d2 0 (ent Bs y2.2.2.1) [] σ o1 σ1 → cells + (σ1.2.1 - σ.2.1) ≤ R.cells ∧ slots + (σ1.2.2 - σ.2.2) ≤ R.slots → xq_Run p (eL E) e R s m args below meth c H locs cells slots (σ1.2.1 - σ.2.1) (σ1.2.2 - σ.2.2) (F0 m pc LS st) rest (QcE E o1 σ1 Bs.toArray) (XCE E o1 σ1) (eF E))
    (k : Go E y2 d2 0 (ent Bs y2.2.2.1) [] σ (After E y d pc 3 ls rest Q)) : Go E y d pc ls st σ Q := by
  obtain ⟨o1, σ1, hA, kE⟩ := k
  have g1 := kE.1
  have g2 := kE.2.1
  have key : ∃ (o : AO) (σ' : AH), Q o σ' ∧ σ1.2.1 ≤ σ'.2.1 ∧ σ1.2.2 ≤ σ'.2.2 ∧ (∀ v : Option Value, o1 = .inl v → Ev E y d (pc + 3) ls (v.toList ++ rest) σ1 o σ') ∧ ∀ q : Nat, o1 = .inr q → EvX E y d pc ls rest q σ1 o σ' := by
    match o1, hA with
    | .inl none, hA =>
      obtain ⟨o, σ', hQ, h⟩ := hA
      exact ⟨o, σ', hQ, h.1, h.2.1, fun v hv => (by cases hv; exact h), fun q hq => (by cases hq)⟩
    | .inl (some w), hA =>
      obtain ⟨o, σ', hQ, h⟩ := hA
      exact ⟨o, σ', hQ, h.1, h.2.1, fun v hv => (by cases hv; exact h), fun q hq => (by cases hq)⟩
    | .inr q0, hA =>
      obtain ⟨o, σ', hQ, h⟩ := hA
      exact ⟨o, σ', hQ, h.1, h.2.1, fun v hv => (by cases hv), fun q hq => by cases hq; exact h⟩
  obtain ⟨o, σ', hQ, m1, m2, hret, hthr⟩ := key
  refine ⟨o, σ', hQ, Nat.le_trans g1 m1, Nat.le_trans g2 m2, ?_⟩
  intro p e R s m args below meth c Z mc ms cells slots sl0 H locs LS C a1 a2 a3 a4 a5 a6 a7 a8 a9 a10
  have hr := hrun (p := p) (e := e) (R := R) (s := s) (m := m) (args := args) (below := below) (meth := meth) (c := c) (H := H) (locs := locs) (cells := cells) (slots := slots) (LS := LS) o1 σ1 C a8 a10.1 kE ⟨by omega, by omega⟩
  intro T hT X
  rcases hr T hT X with ⟨v, st₀, t, T', L, -, X', hL, e1, -, ⟨v', ho, hov, hH1⟩, goes⟩ | ⟨q, st₀, t, T', L, C', ce, -, X', hL, e1, -, ⟨ho, hH1, -⟩, -, -, -, steps⟩
  · cases hov
    have hL2 : ∀ z ∈ locs ++ L, eB E ≤ z.base := fun z hz => (List.mem_append.mp hz).elim (a9 z) (hL z)
    obtain ⟨t2, b1, b2⟩ := (hret v ho).2.2 p e R s m args below meth c Z mc ms (cells + (σ1.2.1 - σ.2.1)) (slots + (σ1.2.2 - σ.2.2)) sl0 T'.heap (locs ++ L) LS C (by omega) a2 (by omega) a4 a5 a6 a7 (by rw [e1]; exact hH1) hL2 a10 T' rfl X'
    exact ⟨t2, goes t2 b1, b2⟩
  · have hL2 : ∀ z ∈ locs ++ L, eB E ≤ z.base := fun z hz => (List.mem_append.mp hz).elim (a9 z) (hL z)
    obtain ⟨t2, b1, b2⟩ := (hthr q ho).2.2 p e R s m args below meth c Z mc ms (cells + (σ1.2.1 - σ.2.1)) (slots + (σ1.2.2 - σ.2.2)) sl0 T'.heap (locs ++ L) LS C (by omega) a2 (by omega) a4 a5 a6 a7 (by rw [e1]; exact hH1) hL2 a10 T' rfl X'
    exact ⟨t2, steps.trans b1, b2⟩
theorem Go.run5 {E : ET} {y : MI} {d pc : Nat} {ls : LV} {st rest : List Value} {σ : AH} {Q : AO → AH → Prop} {y2 : MI} {d2 : Nat} {Bs : List Value}
    (hrun : ∀ {p : Program} {e : Env} {R : Room} {s : State} {m : MethodId} {args : Array Value} {below : List Frame} {meth : Method} {c : Code} {H : Heap} {locs : List Loc} {cells slots : Nat} {LS : Array Slot} (o1 : AO) (σ1 : AH), Cx E y d p R s m args meth c → HOK E σ H → LS.size = y.2.2.1 → Ev E y2 d2 0 (ent Bs y2.2.2.1) [] σ o1 σ1 → cells + (σ1.2.1 - σ.2.1) ≤ R.cells ∧ slots + (σ1.2.2 - σ.2.2) ≤ R.slots → xq_Run5 p (eL E) e R s m args below meth c H locs cells slots (σ1.2.1 - σ.2.1) (σ1.2.2 - σ.2.2) (F0 m pc LS st) rest (QcE E o1 σ1 Bs.toArray) (XCE E o1 σ1) (eF E))
    (k : Go E y2 d2 0 (ent Bs y2.2.2.1) [] σ (After E y d pc 5 ls rest Q)) : Go E y d pc ls st σ Q := by
  obtain ⟨o1, σ1, hA, kE⟩ := k
  have g1 := kE.1
  have g2 := kE.2.1
  have key : ∃ (o : AO) (σ' : AH), Q o σ' ∧ σ1.2.1 ≤ σ'.2.1 ∧ σ1.2.2 ≤ σ'.2.2 ∧ (∀ v : Option Value, o1 = .inl v → Ev E y d (pc + 5) ls (v.toList ++ rest) σ1 o σ') ∧ ∀ q : Nat, o1 = .inr q → EvX E y d pc ls rest q σ1 o σ' := by
    match o1, hA with
    | .inl none, hA =>
      obtain ⟨o, σ', hQ, h⟩ := hA
      exact ⟨o, σ', hQ, h.1, h.2.1, fun v hv => (by cases hv; exact h), fun q hq => (by cases hq)⟩
    | .inl (some w), hA =>
      obtain ⟨o, σ', hQ, h⟩ := hA
      exact ⟨o, σ', hQ, h.1, h.2.1, fun v hv => (by cases hv; exact h), fun q hq => (by cases hq)⟩
    | .inr q0, hA =>
      obtain ⟨o, σ', hQ, h⟩ := hA
      exact ⟨o, σ', hQ, h.1, h.2.1, fun v hv => (by cases hv), fun q hq => by cases hq; exact h⟩
  obtain ⟨o, σ', hQ, m1, m2, hret, hthr⟩ := key
  refine ⟨o, σ', hQ, Nat.le_trans g1 m1, Nat.le_trans g2 m2, ?_⟩
  intro p e R s m args below meth c Z mc ms cells slots sl0 H locs LS C a1 a2 a3 a4 a5 a6 a7 a8 a9 a10
  have hr := hrun (p := p) (e := e) (R := R) (s := s) (m := m) (args := args) (below := below) (meth := meth) (c := c) (H := H) (locs := locs) (cells := cells) (slots := slots) (LS := LS) o1 σ1 C a8 a10.1 kE ⟨by omega, by omega⟩
  intro T hT X
  rcases hr T hT X with ⟨v, st₀, t, T', L, -, X', hL, e1, -, ⟨v', ho, hov, hH1⟩, goes⟩ | ⟨q, st₀, t, T', L, C', ce, -, X', hL, e1, -, ⟨ho, hH1, -⟩, -, -, -, steps⟩
  · cases hov
    have hL2 : ∀ z ∈ locs ++ L, eB E ≤ z.base := fun z hz => (List.mem_append.mp hz).elim (a9 z) (hL z)
    obtain ⟨t2, b1, b2⟩ := (hret v ho).2.2 p e R s m args below meth c Z mc ms (cells + (σ1.2.1 - σ.2.1)) (slots + (σ1.2.2 - σ.2.2)) sl0 T'.heap (locs ++ L) LS C (by omega) a2 (by omega) a4 a5 a6 a7 (by rw [e1]; exact hH1) hL2 a10 T' rfl X'
    exact ⟨t2, goes t2 b1, b2⟩
  · have hL2 : ∀ z ∈ locs ++ L, eB E ≤ z.base := fun z hz => (List.mem_append.mp hz).elim (a9 z) (hL z)
    obtain ⟨t2, b1, b2⟩ := (hthr q ho).2.2 p e R s m args below meth c Z mc ms (cells + (σ1.2.1 - σ.2.1)) (slots + (σ1.2.2 - σ.2.2)) sl0 T'.heap (locs ++ L) LS C (by omega) a2 (by omega) a4 a5 a6 a7 (by rw [e1]; exact hH1) hL2 a10 T' rfl X'
    exact ⟨t2, steps.trans b1, b2⟩
theorem Cx.fr {E : ET} {y : MI} {d : Nat} {p : Program} {R : Room} {s : State} {m : MethodId} {args : Array Value} {meth : Method} {c : Code} (h : Cx E y d p R s m args meth c) : d ≤ R.frames ∧ 64 * d ≤ R.locals := ⟨h.2.2.2.2.2.2.2.2.2.1, h.2.2.2.2.2.2.2.2.2.2.1⟩
theorem Cx.fix {E : ET} {y : MI} {d : Nat} {p : Program} {R : Room} {s : State} {m : MethodId} {args : Array Value} {meth : Method} {c : Code} (h : Cx E y d p R s m args meth c) : CallFix p m c y.2.1 y.2.2.1 s args lw_all y.1.cls := ⟨h.hx, h.hb, h.ml, h.own, h.hts⟩
theorem PcE.pre {E : ET} {As : List Value} {σ : AH} {s : State} {H : Heap} (hH : HOK E σ H) (hT : TBL E s) : ∀ U : State, U.heap = H → s.WarmedH U.vm → PcE E As σ As.toArray U := fun U hU hW => ⟨rfl, by rw [hU]; exact hH, hT.moved hW⟩
/-- how many arguments a method takes -/
def nPar (y : MethodName) (n : Nat) : Prop := (parseMethodDescriptor y.desc).map (fun d => d.parameters.length) = some n
theorem nPar.len {y : MethodName} {n : Nat} (h : nPar y n) : ∀ sig, parseMethodDescriptor y.desc = some sig → n = sig.parameters.length := by
  intro sig h2
  unfold nPar at h
  rw [h2] at h
  exact (Option.some.inj h).symm
theorem CbE {E : ET} {y y2 : MI} {d d2 n idx : Nat} {p : Program} {R : Room} {s : State} {m : MethodId} {args : Array Value} {meth : Method} {c : Code} {σ σ1 : AH} (X : Cx E y d p R s m args meth c) (hm : MOK y2) (hd : d2 + 1 ≤ d) (hl : Cond.methodLink y.1.cls idx y2.1 ∈ lw_all) (hn : nPar y2.1 n) : CallB R s args y.1.cls idx y2.1 y2.2.1 y2.2.2.1 y2.2.2.2.1 (ws_ y2.1 y2.2.1 y2.2.2.1 y2.2.2.2.1) (rmE d2 σ σ1) (σ1.2.1 - σ.2.1) (σ1.2.2 - σ.2.2) n := by
  have hf := X.fr
  have h45 := hm.2.1
  exact ⟨rfl, rfl, by show d2 + 1 ≤ R.frames; omega, by show 8 + (y2.2.2.1 + 11) + 64 * d2 ≤ R.locals; omega, pay_in X.hts (lw_meth hm.2.2.2.2.1), List.mem_cons_self, X.hts _ hm.2.2.2.2.1, X.hts _ hm.2.2.2.1, hm.2.2.1, hn.len, X.hts _ hl⟩
theorem CnE {E : ET} {y y2 : MI} {d d2 n idx : Nat} {host : String} {p : Program} {R : Room} {s : State} {m : MethodId} {args : Array Value} {meth : Method} {c : Code} {σ σ1 : AH} (X : Cx E y d p R s m args meth c) (hm : MOK y2) (hd : d2 + 1 ≤ d) (hl : Cond.methodLinkNest y.1.cls idx y2.1 host ∈ lw_tbl) (hn : nPar y2.1 n) : va_CN R s args y.1.cls idx y2.1 host y2.2.1 y2.2.2.1 y2.2.2.2.1 (ws_ y2.1 y2.2.1 y2.2.2.1 y2.2.2.2.1) (rmE d2 σ σ1) (σ1.2.1 - σ.2.1) (σ1.2.2 - σ.2.2) n := by
  have hf := X.fr
  have h45 := hm.2.1
  exact ⟨⟨rfl, rfl, by show d2 + 1 ≤ R.frames; omega, by show 8 + (y2.2.2.1 + 11) + 64 * d2 ≤ R.locals; omega, pay_in X.hts (lw_meth hm.2.2.2.2.1), List.mem_cons_self⟩, X.hts _ hm.2.2.2.2.1, X.hts _ hm.2.2.2.1, hm.2.2.1, hn.len, va_Nw.use rfl (X.bx _ hl rfl)⟩
theorem RvE {E : ET} {y : MI} {d : Nat} {p : Program} {R : Room} {s : State} {m : MethodId} {args : Array Value} {meth : Method} {c : Code} {σ : AH} {H : Heap} {b ci : Nat} {fs : List Value} {r : vw_C} (X : Cx E y d p R s m args meth c) (hH : HOK E σ H) (hb : σ.1 b = some (.inr (ci, fs))) (hc : clsL[ci]? = some r) : ∃ cellB : Cell, H[b]? = some cellB ∧ cellB.vm.isStatics = false ∧ s.vm.findClass r.1 = some cellB.cls := va_recv X.va (hH.one hb) hc (q0 := 0) rfl
/-- a method of the receiver's own class -/
theorem Go.callV {E : ET} {y : MI} {d pc : Nat} {ls : LV} {st rest : List Value} {σ : AH} {Q : AO → AH → Prop} {y2 : MI} {d2 idx : Nat} {As : List Value} {b ci : Nat} {fs : List Value} {r : vw_C} (hd : decode y.2.1 pc = .ok (.invokevirtual idx, 3)) (hl : Cond.methodLink y.1.cls idx y2.1 ∈ lw_all) (hi : Cond.instanceMethod y2.1 ∈ lw_all) (hs : Cond.selects r.1 y2.1 y2.1 ∈ lw_all) (hm : MOK y2) (hd2 : d2 + 1 ≤ d) (hn : nPar y2.1 As.length) (hst : As.reverse ++ .ref b :: rest = st) (hW : Nat.ble ((rest.map fun v => v.category).sum) 8 = true) (hl9 : Nat.ble (lent (.ref b :: As)).length y2.2.2.1 = true) (ls2 : LV) (he : ent (.ref b :: As) y2.2.2.1 = ls2) (hb : σ.1 b = some (.inr (ci, fs))) (hc : clsL[ci]? = some r) (k : Go E y2 d2 0 ls2 [] σ (After E y d pc 3 ls rest Q)) : Go E y d pc ls st σ Q := by
  subst he
  exact Go.run (fun o1 σ1 X hH hsz kE hf => xq_runV (C := r.1) X.fix (Ev.met hm (Nat.le_of_ble_eq_true hl9) kE) ⟨CbE X hm hd2 hl hn, X.hts _ hi, X.hts _ hs⟩ ⟨PcE.blind _ _ _, RvE X hH hb hc, PcE.pre hH X.K⟩ rfl rfl hsz hst.symm (lv_room (Nat.le_of_ble_eq_true hW)) hd hf) k
/-- .. with handlers -/
theorem Go.callVW {E : ET} {y : MI} {d pc : Nat} {ls : LV} {st rest : List Value} {σ : AH} {Q : AO → AH → Prop} {y2 : MI} {d2 idx : Nat} {As : List Value} {b ci : Nat} {fs : List Value} {r : vw_C} (hd : decode y.2.1 pc = .ok (.invokevirtual idx, 3)) (hl : Cond.methodLink y.1.cls idx y2.1 ∈ lw_all) (hi : Cond.instanceMethod y2.1 ∈ lw_all) (hs : Cond.selects r.1 y2.1 y2.1 ∈ lw_all) (hm : MOKW y2) (hd2 : d2 + 1 ≤ d) (hn : nPar y2.1 As.length) (hst : As.reverse ++ .ref b :: rest = st) (hW : Nat.ble ((rest.map fun v => v.category).sum) 8 = true) (hl9 : Nat.ble (lent (.ref b :: As)).length y2.2.2.1 = true) (ls2 : LV) (he : ent (.ref b :: As) y2.2.2.1 = ls2) (hb : σ.1 b = some (.inr (ci, fs))) (hc : clsL[ci]? = some r) (k : Go E y2 d2 0 ls2 [] σ (After E y d pc 3 ls rest Q)) : Go E y d pc ls st σ Q := by
  subst he
  exact Go.run (fun {p e R s m args below meth c H locs cells slots LS} o1 σ1 X hH hsz kE hf => xq_runVX (C := r.1) X.fix (Ev.metW hm (Nat.le_of_ble_eq_true hl9) kE) (by
    have hf9 := X.fr
    have h45 := hm.2.1
    exact ⟨⟨rfl, rfl, by show d2 + 1 ≤ R.frames; omega, by show 8 + (y2.2.2.1 + 11) + 64 * d2 ≤ R.locals; omega, pay_in X.hts (lw_methW hm.2.2.2.2), List.mem_cons_self⟩, X.hts _ hm.2.2.2.2, X.hts _ hm.2.2.2.1, hm.2.2.1, hn.len, X.hts _ hl, X.hts _ hi, X.hts _ hs⟩) ⟨PcE.blind _ _ _, RvE X hH hb hc, PcE.pre hH X.K⟩ rfl rfl hsz hst.symm (lv_room (Nat.le_of_ble_eq_true hW)) hd hf) k
theorem Go.callS {E : ET} {y : MI} {d pc : Nat} {ls : LV} {st rest : List Value} {σ : AH} {Q : AO → AH → Prop} {y2 : MI} {d2 idx : Nat} {As : List Value} (hd : decode y.2.1 pc = .ok (.invokestatic idx, 3)) (hl : Cond.methodLink y.1.cls idx y2.1 ∈ lw_all) (hi : Cond.static y2.1 ∈ lw_all) (hm : MOK y2) (hd2 : d2 + 1 ≤ d) (hn : nPar y2.1 As.length) (hst : As.reverse ++ rest = st) (hW : Nat.ble ((rest.map fun v => v.category).sum) 8 = true) (hl9 : Nat.ble (lent (As)).length y2.2.2.1 = true) (ls2 : LV) (he : ent (As) y2.2.2.1 = ls2) (k : Go E y2 d2 0 ls2 [] σ (After E y d pc 3 ls rest Q)) : Go E y d pc ls st σ Q := by
  subst he
  exact Go.run (fun o1 σ1 X hH hsz kE hf => xq_runS X.fix (Ev.met hm (Nat.le_of_ble_eq_true hl9) kE) ⟨CbE X hm hd2 hl hn, X.hts _ hi⟩ ⟨PcE.blind _ _ _, PcE.pre hH X.K⟩ rfl rfl hsz hst.symm (lv_room (Nat.le_of_ble_eq_true hW)) hd hf) k
theorem Go.callI {E : ET} {y : MI} {d pc : Nat} {ls : LV} {st rest : List Value} {σ : AH} {Q : AO → AH → Prop} {y2 : MI} {d2 idx : Nat} {As : List Value} {b : Nat} (hd : decode y.2.1 pc = .ok (.invokespecial idx, 3)) (hl : Cond.methodLink y.1.cls idx y2.1 ∈ lw_all) (hi : Cond.instanceMethod y2.1 ∈ lw_all) (hnm : y2.1.name = "<init>") (hrt : y2.2.2.2.1 = none) (hm : MOK y2) (hd2 : d2 + 1 ≤ d) (hn : nPar y2.1 As.length) (hst : As.reverse ++ .ref b :: rest = st) (hW : Nat.ble ((rest.map fun v => v.category).sum) 8 = true) (hl9 : Nat.ble (lent (.ref b :: As)).length y2.2.2.1 = true) (ls2 : LV) (he : ent (.ref b :: As) y2.2.2.1 = ls2) (k : Go E y2 d2 0 ls2 [] σ (After E y d pc 3 ls rest Q)) : Go E y d pc ls st σ Q := by
  subst he
  exact Go.run (fun o1 σ1 X hH hsz kE hf => xq_runI X.fix (by have h := Ev.met hm (Nat.le_of_ble_eq_true hl9) kE; exact h) ⟨by have h := CbE (σ := σ) (σ1 := σ1) X hm hd2 hl hn; rw [hrt] at h ⊢; exact h, hnm, X.hts _ hi⟩ ⟨PcE.blind _ _ _, PcE.pre hH X.K⟩ rfl rfl hsz hst.symm (lv_room (Nat.le_of_ble_eq_true hW)) hd hf) k
/-- private members of a nest mate -/
theorem Go.callVN {E : ET} {y : MI} {d pc : Nat} {ls : LV} {st rest : List Value} {σ : AH} {Q : AO → AH → Prop} {y2 : MI} {d2 idx : Nat} {As : List Value} {b ci : Nat} {fs : List Value} {r : vw_C} {host : String} (hd : decode y.2.1 pc = .ok (.invokevirtual idx, 3)) (hl : Cond.methodLinkNest y.1.cls idx y2.1 host ∈ lw_tbl) (hi : Cond.instanceMethod y2.1 ∈ lw_all) (hs : Cond.selects r.1 y2.1 y2.1 ∈ lw_all) (hm : MOK y2) (hd2 : d2 + 1 ≤ d) (hn : nPar y2.1 As.length) (hst : As.reverse ++ .ref b :: rest = st) (hW : Nat.ble ((rest.map fun v => v.category).sum) 8 = true) (hl9 : Nat.ble (lent (.ref b :: As)).length y2.2.2.1 = true) (ls2 : LV) (he : ent (.ref b :: As) y2.2.2.1 = ls2) (hb : σ.1 b = some (.inr (ci, fs))) (hc : clsL[ci]? = some r) (k : Go E y2 d2 0 ls2 [] σ (After E y d pc 3 ls rest Q)) : Go E y d pc ls st σ Q := by
  subst he
  exact Go.run (fun o1 σ1 X hH hsz kE hf => xq_runVN (C := r.1) X.fix (Ev.met hm (Nat.le_of_ble_eq_true hl9) kE) ⟨CnE X hm hd2 hl hn, X.hts _ hi, X.hts _ hs⟩ ⟨PcE.blind _ _ _, RvE X hH hb hc, PcE.pre hH X.K⟩ rfl rfl hsz hst.symm (lv_room (Nat.le_of_ble_eq_true hW)) hd hf) k
theorem Go.callSN {E : ET} {y : MI} {d pc : Nat} {ls : LV} {st rest : List Value} {σ : AH} {Q : AO → AH → Prop} {y2 : MI} {d2 idx : Nat} {As : List Value} {host : String} (hd : decode y.2.1 pc = .ok (.invokestatic idx, 3)) (hl : Cond.methodLinkNest y.1.cls idx y2.1 host ∈ lw_tbl) (hi : Cond.static y2.1 ∈ lw_all) (hm : MOK y2) (hd2 : d2 + 1 ≤ d) (hn : nPar y2.1 As.length) (hst : As.reverse ++ rest = st) (hW : Nat.ble ((rest.map fun v => v.category).sum) 8 = true) (hl9 : Nat.ble (lent (As)).length y2.2.2.1 = true) (ls2 : LV) (he : ent (As) y2.2.2.1 = ls2) (k : Go E y2 d2 0 ls2 [] σ (After E y d pc 3 ls rest Q)) : Go E y d pc ls st σ Q := by
  subst he
  exact Go.run (fun o1 σ1 X hH hsz kE hf => xq_runSN X.fix (Ev.met hm (Nat.le_of_ble_eq_true hl9) kE) ⟨CnE X hm hd2 hl hn, X.hts _ hi, trivial⟩ ⟨PcE.blind _ _ _, PcE.pre hH X.K⟩ rfl rfl hsz hst.symm (lv_room (Nat.le_of_ble_eq_true hW)) hd hf) k
theorem Go.callIN {E : ET} {y : MI} {d pc : Nat} {ls : LV} {st rest : List Value} {σ : AH} {Q : AO → AH → Prop} {y2 : MI} {d2 idx : Nat} {As : List Value} {b : Nat} {host : String} (hd : decode y.2.1 pc = .ok (.invokespecial idx, 3)) (hl : Cond.methodLinkNest y.1.cls idx y2.1 host ∈ lw_tbl) (hi : Cond.instanceMethod y2.1 ∈ lw_all) (hnm : y2.1.name = "<init>") (hrt : y2.2.2.2.1 = none) (hm : MOK y2) (hd2 : d2 + 1 ≤ d) (hn : nPar y2.1 As.length) (hst : As.reverse ++ .ref b :: rest = st) (hW : Nat.ble ((rest.map fun v => v.category).sum) 8 = true) (hl9 : Nat.ble (lent (.ref b :: As)).length y2.2.2.1 = true) (ls2 : LV) (he : ent (.ref b :: As) y2.2.2.1 = ls2) (k : Go E y2 d2 0 ls2 [] σ (After E y d pc 3 ls rest Q)) : Go E y d pc ls st σ Q := by
  subst he
  exact Go.run (fun o1 σ1 X hH hsz kE hf => xq_runIN X.fix (Ev.met hm (Nat.le_of_ble_eq_true hl9) kE) ⟨by have h := CnE (σ := σ) (σ1 := σ1) X hm hd2 hl hn; rw [hrt] at h ⊢; exact h, hnm, X.hts _ hi⟩ ⟨PcE.blind _ _ _, PcE.pre hH X.K⟩ rfl rfl hsz hst.symm (lv_room (Nat.le_of_ble_eq_true hW)) hd hf) k
/-- an inherited method, or one that overrides -/
theorem Go.callU {E : ET} {y : MI} {d pc : Nat} {ls : LV} {st rest : List Value} {σ : AH} {Q : AO → AH → Prop} {y2 : MI} {d2 idx : Nat} {As : List Value} {b ci : Nat} {fs : List Value} {r : vw_C} {x : MethodName} {owner : String} (hd : decode y.2.1 pc = .ok (.invokevirtual idx, 3)) (hl : Cond.methodLink y.1.cls idx x ∈ lw_all) (hsm : Cond.sameMethod x.cls owner x.name x.desc ∈ lw_all) (hdc : Cond.declares ⟨owner, x.name, x.desc⟩ ∈ lw_tbl ∨ ∃ (b0 : ByteArray) (m0 : Nat) (r0 : Option FieldType), Cond.instanceMethod ⟨owner, x.name, x.desc⟩ ∈ lw_all ∧ Cond.code ⟨owner, x.name, x.desc⟩ b0 m0 r0 ∈ lw_all) (hmh : owner ≠ "java/lang/invoke/MethodHandle" ∧ owner ≠ "java/lang/invoke/VarHandle") (hi : Cond.instanceMethod y2.1 ∈ lw_all) (hs : Cond.selects r.1 x y2.1 ∈ lw_all) (hm : MOK y2) (hd2 : d2 + 1 ≤ d) (hn : nPar x As.length) (hst : As.reverse ++ .ref b :: rest = st) (hW : Nat.ble ((rest.map fun v => v.category).sum) 8 = true) (hl9 : Nat.ble (lent (.ref b :: As)).length y2.2.2.1 = true) (ls2 : LV) (he : ent (.ref b :: As) y2.2.2.1 = ls2) (hb : σ.1 b = some (.inr (ci, fs))) (hc : clsL[ci]? = some r) (k : Go E y2 d2 0 ls2 [] σ (After E y d pc 3 ls rest Q)) : Go E y d pc ls st σ Q := by
  subst he
  exact Go.run (fun {p e R s m args below meth c H locs cells slots LS} o1 σ1 X hH hsz kE hf => xq_runU (C := r.1) (x := x) (owner := owner) X.fix (Ev.met hm (Nat.le_of_ble_eq_true hl9) kE) (by
    have hf9 := X.fr
    have h45 := hm.2.1
    refine ⟨⟨rfl, rfl, by show d2 + 1 ≤ R.frames; omega, by show 8 + (y2.2.2.1 + 11) + 64 * d2 ≤ R.locals; omega, pay_in X.hts (lw_meth hm.2.2.2.2.1), List.mem_cons_self⟩, X.hts _ hm.2.2.2.2.1, X.hts _ hm.2.2.2.1, hmh, hn.len, X.hts _ hl, X.hts _ hsm, ?_, X.hts _ hs, X.hts _ hi⟩
    rcases hdc with hdc | ⟨b0, m0, r0, h1, h2⟩
    · obtain ⟨r1, meth1, q1, q2, q3, q4⟩ := Cond.declares_spec (va_Nw.use (A := args) rfl (X.bx _ hdc rfl))
      exact ⟨r1, meth1, q1, q2, q3, q4⟩
    · exact va_Decl.of (X.hts _ h1) (X.hts _ h2)) ⟨PcE.blind _ _ _, RvE X hH hb hc, PcE.pre hH X.K⟩ rfl rfl hsz hst.symm (lv_room (Nat.le_of_ble_eq_true hW)) hd hf) k
/-- the one call through an interface: Collection.toArray of an ArrayList -/
theorem Go.callF {E : ET} {y : MI} {d pc : Nat} {ls : LV} {st rest : List Value} {σ : AH} {Q : AO → AH → Prop} {y2 : MI} {d2 idx : Nat} {As : List Value} {b count : Nat} {fs : List Value} (hy2 : y2.1 = yJ2_toArray) (hd : decode y.2.1 pc = .ok (.invokeinterface idx count, 5)) (hl : Cond.methodLink y.1.cls idx arrIx ∈ lw_all) (hi : Cond.instanceMethod y2.1 ∈ lw_all) (hs : Cond.selects "java/util/ArrayList" arrIx y2.1 ∈ lw_all) (hm : MOK y2) (hd2 : d2 + 1 ≤ d) (hn : nPar arrIx As.length) (hst : As.reverse ++ .ref b :: rest = st) (hW : Nat.ble ((rest.map fun v => v.category).sum) 8 = true) (hl9 : Nat.ble (lent (.ref b :: As)).length y2.2.2.1 = true) (ls2 : LV) (he : ent (.ref b :: As) y2.2.2.1 = ls2) (hb : σ.1 b = some (.inr (12, fs))) (k : Go E y2 d2 0 ls2 [] σ (After E y d pc 5 ls rest Q)) : Go E y d pc ls st σ Q := by
  subst he
  exact Go.run5 (fun {p e R s m args below meth c H locs cells slots LS} o1 σ1 X hH hsz kE hf => xq_runF (C := "java/util/ArrayList") (x := arrIx) (X.va.1 12 _ rfl).2 X.fix (Ev.met hm (Nat.le_of_ble_eq_true hl9) kE) (by
    have hf9 := X.fr
    have h45 := hm.2.1
    have hF := X.K.1.2.2.2.1
    rw [← hy2] at hF
    exact ⟨⟨rfl, rfl, by show d2 + 1 ≤ R.frames; omega, by show 8 + (y2.2.2.1 + 11) + 64 * d2 ≤ R.locals; omega, pay_in X.hts (lw_meth hm.2.2.2.2.1), List.mem_cons_self⟩, X.hts _ hl, va_any rfl hF.1, va_any rfl hF.2.1, X.hts _ hs, X.hts _ hi, va_any rfl hF.2.2.1, va_any rfl hF.2.2.2.1, va_any rfl hF.2.2.2.2, X.hts _ hm.2.2.2.1, X.hts _ hm.2.2.2.2.1, by decide, hn.len⟩) ⟨PcE.blind _ _ _, RvE X hH hb rfl, PcE.pre hH X.K⟩ rfl rfl hsz hst.symm (lv_room (Nat.le_of_ble_eq_true hW)) hd hf) k
theorem Go.objInit {E : ET} {y : MI} {d pc : Nat} {ls : LV} {st : List Value} {σ : AH} {Q : AO → AH → Prop} {idx a : Nat} (hd : decode y.2.1 pc = .ok (.invokespecial idx, 3)) (hl : Cond.methodLink y.1.cls idx Lib.objectInit ∈ lw_all) (hi : Cond.instanceMethod Lib.objectInit ∈ lw_all) (hcd : Cond.code Lib.objectInit ⟨#[0xb1]⟩ 1 none ∈ lw_all) (hd2 : 1 ≤ d) (hW : Nat.ble ((st.map fun v => v.category).sum) 8 = true) (k : Go E y d (pc + 3) ls st σ Q) : Go E y d pc ls (.ref a :: st) σ Q :=
  Go.pure (fun {p e R s m args below meth c H locs cells slots Z LS} X hl9 k => W.objInit X.hx X.hb X.own (X.hts _ hl) (X.hts _ hi) (X.hts _ hcd) rfl (by rw [X.ml]; exact hl9.1) rfl hd (by have := X.fr; omega) (by
    have := X.fr
    have h8 := Nat.le_of_ble_eq_true hW
    show 2 * (F0 m pc LS (.ref a :: st)).monitorRoom + (st.map fun v => v.category).sum + 12 ≤ R.locals
    have h9 := lv_room (m := m) (pc := pc) (ls := LS) (rest := .ref a :: st) (st := st) h8
    omega) k) k
/-- what is thrown -/
theorem Go.athrow {E : ET} {y : MI} {d pc : Nat} {ls : LV} {st : List Value} {σ : AH} {Q : AO → AH → Prop} {q : Nat} (hd : decode y.2.1 pc = .ok (.athrow, 1)) (k : GoX E y d pc ls st q σ Q) : Go E y d pc ls (.ref q :: st) σ Q := by
  obtain ⟨o, σ', hQ, h1, h2, h3⟩ := k
  refine ⟨o, σ', hQ, h1, h2, ?_⟩
  intro p e R s m args below meth c Z mc ms cells slots sl0 H locs LS C a1 a2 a3 a4 a5 a6 a7 a8 a9 a10
  exact xq_athrow C.hx C.hb hd (h3 p e R s m args below meth c Z mc ms cells slots sl0 H locs LS C a1 a2 a3 a4 a5 a6 a7 a8 a9 a10)
/-- no handler here -/
theorem GoX.out {E : ET} {y : MI} {d pc : Nat} {ls : LV} {st : List Value} {σ : AH} {Q : AO → AH → Prop} {q ci : Nat} {fs : List Value} (hh : ∀ x ∈ tableOf y.2.2.2.2, covers x pc = false) (hq : σ.1 q = some (.inr (ci, fs))) (hQ : Q (.inr q) σ) : GoX E y d pc ls st q σ Q := by
  refine ⟨.inr q, σ, hQ, Nat.le_refl _, Nat.le_refl _, ?_⟩
  intro p e R s m args below meth c Z mc ms cells slots sl0 H locs LS C a1 a2 a3 a4 a5 a6 a7 a8 a9 a10
  have e1 : mc = cells := by omega
  have e2 : ms = slots := by omega
  subst e1; subst e2
  have hex : c.exceptionTable.toList = tableOf y.2.2.2.2 := C.2.2.2.2.2.2.2.2.1
  exact a7.2 q rfl H locs pc LS st a8 a9 (by rw [hex]; exact hh) ⟨ci, fs, hq⟩
/-- a handler of the object's class -/
theorem GoX.catch {E : ET} {y : MI} {d pc : Nat} {ls : LV} {st : List Value} {σ : AH} {Q : AO → AH → Prop} {q ci : Nat} {fs : List Value} {r : vw_C} (pre : List ExceptionTableEntry) (x : ExceptionTableEntry) (suf : List ExceptionTableEntry) (tgt : Nat) (hsplit : tableOf y.2.2.2.2 = pre ++ x :: suf) (hpass : ∀ z ∈ pre, covers z pc = false) (hx : covers x pc = true) (h0 : x.catchType ≠ 0) (hq : σ.1 q = some (.inr (ci, fs))) (hc : clsL[ci]? = some r) (hl : Cond.classLink y.1.cls x.catchType r.1 ∈ lw_all) (hca : Cond.castable r.1 r.1 ∈ lw_tbl) (ht : x.handlerPc = tgt) (k : Go E y d tgt ls [.ref q] σ Q) : GoX E y d pc ls st q σ Q := by
  subst ht
  obtain ⟨o, σ', hQ, h1, h2, h3⟩ := k
  refine ⟨o, σ', hQ, h1, h2, ?_⟩
  intro p e R s m args below meth c Z mc ms cells slots sl0 H locs LS C a1 a2 a3 a4 a5 a6 a7 a8 a9 a10
  have hex : c.exceptionTable.toList = tableOf y.2.2.2.2 := C.2.2.2.2.2.2.2.2.1
  obtain ⟨r', hc', cell, g1, g2, g3, -⟩ := a8.one hq 0 _ rfl
  cases Option.some.inj (hc.symm.trans hc')
  have g4 := (C.va.1 ci r hc).2.1
  exact xq_catch C.own pre x suf (by rw [hex]; exact hsplit) (fun z hz => Or.inl (hpass z hz)) hx h0 (C.hts _ hl) (va_Nw.use rfl (C.bx _ hca rfl)) g1 g3 (by rw [g2]; exact g4) (h3 p e R s m args below meth c Z mc ms cells slots sl0 H locs LS C a1 a2 a3 a4 a5 a6 a7 a8 a9 a10)
