/-! THE TYPED VIEW OF ALL CELLS; one rule an instruction -/
set_option maxRecDepth 100000
/-- numbers, longs, references, by cell and place (a field or an element) -/
abbrev VT : Type := (Nat → Int → Int) × (Nat → Int → Int) × (Nat → Int → Option Nat)
/-- shapes: 0 none; arrays 1 int, 2 byte, 3 long, 4 boolean, 5 Object, 6 Script, 7 State (and length); 8 + class: an object; 100 + class: one that is being made -/
abbrev SHT : Type := Nat → Nat × Nat
/-- kinds of the classes' fields: 0 number, 1 long, 2 reference, 3 + n: the n-th cell behind its own, 1003 + n: before -/
def tkL : List (List Nat) := [[0, 4, 5, 35, 36, 0, 0, 0, 37, 40, 45, 48, 51, 54, 55, 59, 63, 64, 68, 71, 0, 0], [4, 23, 24, 25, 26, 27, 29, 31, 0, 0, 0, 0], [4, 5], [4, 5], [2, 2, 2, 2, 2, 0], [4, 5, 6, 7, 0, 0, 1040], [4, 5, 0, 0, 0, 0, 0, 0, 1051], [4, 5, 6, 0, 0, 0, 0, 1055], [4, 5, 6, 0, 0, 1059], [4, 5, 6, 0, 0, 0, 0, 0, 0, 1064], [0, 0, 4, 5, 6, 7, 0, 8, 0, 0, 0, 0, 1, 0, 0, 0, 0, 9, 0, 10, 11, 0, 12, 13, 0, 0, 14, 15, 0, 16, 17, 18, 0, 1, 1, 19, 20, 0, 21, 22, 23, 24, 0, 25, 26, 0, 0, 0, 0, 0, 27, 28, 29, 30, 0, 31, 32, 33, 0, 0, 34, 35, 36, 37, 38, 39, 40, 41, 42, 0, 0, 1, 43, 44, 0, 0], [0, 0, 0], [0, 2, 0], [2, 0, 0, 0, 0, 0, 0, 4], [2, 2, 2, 2, 2, 0, 0], [0, 2, 2], [0, 2, 0], [0], [0], [0, 2, 2], [0, 2, 0], [0, 2, 2], [2], [0, 4], [0, 0, 2, 2, 2], [2, 0, 0, 0, 0, 0, 0, 4], [2], [0, 0, 0, 2]]
def tnL : List Nat := [22, 12, 2, 2, 6, 7, 9, 8, 6, 10, 76, 3, 3, 8, 7, 3, 3, 1, 1, 3, 3, 3, 1, 2, 5, 8, 1, 4]
def tci (t : Nat) : Nat := if t < 100 then t - 8 else t - 100
def tk (t k : Nat) : Nat := if 100 ≤ t ∧ 2 ≤ (tkL.getD (tci t) []).getD k 0 then 2 else (tkL.getD (tci t) []).getD k 0
def tVal (V : VT) (a t k : Nat) : Value := match tk t k with
  | 0 => .int (iI (V.1 a k))
  | 1 => .long (lI (V.2.1 a k))
  | 2 => va_rf (V.2.2 a k)
  | m + 3 => .ref (if m < 1000 then a + m else a - (m - 1000))
def tFs (V : VT) (a t : Nat) : List Value := (List.range (tnL.getD (tci t) 0)).map (tVal V a t)
def tCell (V : VT) (a : Nat) : Nat × Nat → Option AE
  | (0, _) => none
  | (1, n) => some (.inl (0, n, .inl fun j => iI (V.1 a j)))
  | (2, n) => some (.inl (1, n, .inl fun j => iI (V.1 a j)))
  | (3, n) => some (.inl (2, n, .inr (.inl fun j => lI (V.2.1 a j))))
  | (4, n) => some (.inl (3, n, .inl fun j => iI (V.1 a j)))
  | (5, n) => some (.inl (4, n, .inr (.inr (.inr (.inr fun j => V.2.2 a j)))))
  | (6, n) => some (.inl (5, n, .inr (.inr (.inr (.inr fun j => V.2.2 a j)))))
  | (7, n) => some (.inl (6, n, .inr (.inr (.inr (.inr fun j => V.2.2 a j)))))
  | (t + 8, _) => some (.inr (tci (t + 8), tFs V a (t + 8)))
theorem tCell_eq {V V' : VT} {a : Nat} {s : Nat × Nat} (h1 : V'.1 a = V.1 a) (h2 : V'.2.1 a = V.2.1 a) (h3 : V'.2.2 a = V.2.2 a) : tCell V' a s = tCell V a s := by
  have h4 : ∀ t k, tVal V' a t k = tVal V a t k := fun t k => by unfold tVal; rw [h1, h2, h3]
  have h5 : ∀ t, tFs V' a t = tFs V a t := fun t => by
    unfold tFs
    exact List.map_congr_left fun k _ => h4 t k
  obtain ⟨t, n⟩ := s
  match t with
  | 0 => rfl
  | 1 => show some _ = some _; rw [h1]
  | 2 => show some _ = some _; rw [h1]
  | 3 => show some _ = some _; rw [h2]
  | 4 => show some _ = some _; rw [h1]
  | 5 => show some _ = some _; rw [h3]
  | 6 => show some _ = some _; rw [h3]
  | 7 => show some _ = some _; rw [h3]
  | t + 8 => show some _ = some _; rw [h5]
def THolds (sh : SHT) (nn : Nat × Nat) (V : VT) (σ : AH) : Prop := σ.2 = nn ∧ (∀ a, (sh a).1 ≠ 0 → σ.1 a = tCell V a (sh a)) ∧ ∀ a, nn.1 ≤ a → (sh a).1 = 0 ∧ (∀ k, V.1 a k = 0) ∧ (∀ k, V.2.1 a k = 0) ∧ ∀ k, V.2.2 a k = none
/-- what the view doesn't hold is as it was -/
def TSame (sh : SHT) (nn : Nat × Nat) (σ σ' : AH) : Prop := ∀ a, a < nn.1 → (sh a).1 = 0 → σ'.1 a = σ.1 a
/-- shapes stay, but for what is being made -/
def TExt (sh : SHT) (nn : Nat × Nat) (sh' : SHT) (nn' : Nat × Nat) : Prop := nn.1 ≤ nn'.1 ∧ nn.2 ≤ nn'.2 ∧ ∀ a, a < nn.1 → (sh a).1 < 100 → sh' a = sh a
theorem TExt.rf {sh : SHT} {nn : Nat × Nat} : TExt sh nn sh nn := ⟨Nat.le_refl _, Nat.le_refl _, fun _ _ _ => rfl⟩
theorem TExt.tr {sh sh1 sh2 : SHT} {nn nn1 nn2 : Nat × Nat} (h : TExt sh nn sh1 nn1) (h2 : TExt sh1 nn1 sh2 nn2) : TExt sh nn sh2 nn2 :=
  ⟨Nat.le_trans h.1 h2.1, Nat.le_trans h.2.1 h2.2.1, fun a ha hs => by
    have e := h.2.2 a ha hs
    rw [h2.2.2 a (Nat.lt_of_lt_of_le ha h.1) (by rw [e]; exact hs), e]⟩
theorem TSame.rf {sh : SHT} {nn : Nat × Nat} {σ : AH} : TSame sh nn σ σ := fun _ _ _ => rfl
theorem TSame.tr {sh sh1 : SHT} {nn nn1 : Nat × Nat} {σ σ1 σ2 : AH} (h : TSame sh nn σ σ1) (e : TExt sh nn sh1 nn1) (h2 : TSame sh1 nn1 σ1 σ2) : TSame sh nn σ σ2 := fun a ha hs => by
  have e1 := e.2.2 a ha (by rw [hs]; decide)
  rw [h2 a (Nat.lt_of_lt_of_le ha e.1) (by rw [e1]; exact hs), h a ha hs]
def TGo (E : ET) (y : MI) (d pc : Nat) (ls : LV) (st : List Value) (sh : SHT) (nn : Nat × Nat) (V : VT) (Q : AO → SHT → Nat × Nat → VT → Prop) : Prop := ∀ σ : AH, THolds sh nn V σ → Go E y d pc ls st σ (fun o σ' => ∃ sh' nn' V', THolds sh' nn' V' σ' ∧ TExt sh nn sh' nn' ∧ TSame sh nn σ σ' ∧ Q o sh' nn' V')
def TGoX (E : ET) (y : MI) (d pc : Nat) (ls : LV) (st : List Value) (q : Nat) (sh : SHT) (nn : Nat × Nat) (V : VT) (Q : AO → SHT → Nat × Nat → VT → Prop) : Prop := ∀ σ : AH, THolds sh nn V σ → GoX E y d pc ls st q σ (fun o σ' => ∃ sh' nn' V', THolds sh' nn' V' σ' ∧ TExt sh nn sh' nn' ∧ TSame sh nn σ σ' ∧ Q o sh' nn' V')
theorem GoX.mono {E : ET} {y : MI} {d pc : Nat} {ls : LV} {st : List Value} {q : Nat} {σ : AH} {Q Q' : AO → AH → Prop} (h : GoX E y d pc ls st q σ Q) (hQ : ∀ o σ', Q o σ' → Q' o σ') : GoX E y d pc ls st q σ Q' := by
  obtain ⟨o, σ', a, b⟩ := h
  exact ⟨o, σ', hQ _ _ a, b⟩
theorem TGo.mono {E : ET} {y : MI} {d pc : Nat} {ls : LV} {st : List Value} {sh : SHT} {nn : Nat × Nat} {V : VT} {Q : AO → SHT → Nat × Nat → VT → Prop} {Q' : AO → SHT → Nat × Nat → VT → Prop} (h : TGo E y d pc ls st sh nn V Q) (hQ : ∀ o sh' nn' V', Q o sh' nn' V' → Q' o sh' nn' V') : TGo E y d pc ls st sh nn V Q' := fun σ hσ => (h σ hσ).mono fun o σ' ⟨sh', nn', V', h1, h2, h3, h4⟩ => ⟨sh', nn', V', h1, h2, h3, hQ _ _ _ _ h4⟩
theorem TGo.le {E : ET} {y : MI} {d pc : Nat} {ls : LV} {st : List Value} {sh : SHT} {nn : Nat × Nat} {V : VT} {Q : AO → SHT → Nat × Nat → VT → Prop} {d' : Nat} (h : TGo E y d pc ls st sh nn V Q) (hd : d ≤ d') : TGo E y d' pc ls st sh nn V Q := fun σ hσ => (h σ hσ).le hd
theorem TGo.pure {E : ET} {y : MI} {d pc pc' : Nat} {ls ls' : LV} {st st' : List Value} {sh : SHT} {nn : Nat × Nat} {V : VT} {Q : AO → SHT → Nat × Nat → VT → Prop} (h : ∀ (σ : AH) (Q' : AO → AH → Prop), Go E y d pc' ls' st' σ Q' → Go E y d pc ls st σ Q') (k : TGo E y d pc' ls' st' sh nn V Q) : TGo E y d pc ls st sh nn V Q := fun σ hσ => h σ _ (k σ hσ)
/-- a row that needs the cells -/
theorem TGo.rd {E : ET} {y : MI} {d pc pc' : Nat} {ls ls' : LV} {st st' : List Value} {sh : SHT} {nn : Nat × Nat} {V : VT} {Q : AO → SHT → Nat × Nat → VT → Prop} (h : ∀ (σ : AH) (Q' : AO → AH → Prop), THolds sh nn V σ → Go E y d pc' ls' st' σ Q' → Go E y d pc ls st σ Q') (k : TGo E y d pc' ls' st' sh nn V Q) : TGo E y d pc ls st sh nn V Q := fun σ hσ => h σ _ hσ (k σ hσ)
theorem TGo.br {E : ET} {y : MI} {d pc pc1 pc2 : Nat} {ls : LV} {st st' : List Value} {sh : SHT} {nn : Nat × Nat} {V : VT} {Q : AO → SHT → Nat × Nat → VT → Prop} {a b : Prop} (h : ∀ (σ : AH) (Q' : AO → AH → Prop), (a → Go E y d pc1 ls st' σ Q') → (b → Go E y d pc2 ls st' σ Q') → Go E y d pc ls st σ Q') (k1 : a → TGo E y d pc1 ls st' sh nn V Q) (k2 : b → TGo E y d pc2 ls st' sh nn V Q) : TGo E y d pc ls st sh nn V Q := fun σ hσ => h σ _ (fun ha => k1 ha σ hσ) (fun hb => k2 hb σ hσ)
/-- a row that changes cells: what they are then -/
theorem TGo.wr {E : ET} {y : MI} {d pc pc' : Nat} {ls ls' : LV} {st st' : List Value} {sh : SHT} {nn : Nat × Nat} {V : VT} {Q : AO → SHT → Nat × Nat → VT → Prop} {sh1 : SHT} {nn1 : Nat × Nat} {V1 : VT} (h : ∀ (σ : AH) (Q' : AO → AH → Prop), THolds sh nn V σ → (∀ σ1 : AH, THolds sh1 nn1 V1 σ1 → TExt sh nn sh1 nn1 → TSame sh nn σ σ1 → Go E y d pc' ls' st' σ1 Q') → Go E y d pc ls st σ Q') (k : TGo E y d pc' ls' st' sh1 nn1 V1 Q) : TGo E y d pc ls st sh nn V Q := fun σ hσ => h σ _ hσ fun σ1 h1 e1 s1 => (k σ1 h1).mono fun o σ' ⟨sh', nn', V', h1, h2, h3, h4⟩ => ⟨sh', nn', V', h1, e1.tr h2, s1.tr e1 h3, h4⟩
theorem TGo.seq {E : ET} {y : MI} {d pc : Nat} {ls : LV} {st : List Value} {sh : SHT} {nn : Nat × Nat} {V : VT} {Q : AO → SHT → Nat × Nat → VT → Prop} (ls' : LV) (st' : List Value) (V' : VT) (h1 : ls = ls') (h2 : st = st') (h3 : V = V') (k : TGo E y d pc ls' st' sh nn V' Q) : TGo E y d pc ls st sh nn V Q := by subst h1; subst h2; subst h3; exact k
/-- the int on top is that one -/
theorem TGo.tos {E : ET} {y : MI} {d pc : Nat} {ls : LV} {st : List Value} {sh : SHT} {nn : Nat × Nat} {V : VT} {Q : AO → SHT → Nat × Nat → VT → Prop} {x : Int32} (z : Int32) (h : x = z) (k : TGo E y d pc ls (.int z :: st) sh nn V Q) : TGo E y d pc ls (.int x :: st) sh nn V Q := h ▸ k
theorem TGo.toz {E : ET} {y : MI} {d pc : Nat} {ls : LV} {st : List Value} {sh : SHT} {nn : Nat × Nat} {V : VT} {Q : AO → SHT → Nat × Nat → VT → Prop} {x : Int} (z : Int) (h : x = z) (k : TGo E y d pc ls (.int (iI z) :: st) sh nn V Q) : TGo E y d pc ls (.int (iI x) :: st) sh nn V Q := h ▸ k
theorem TGo.tor {E : ET} {y : MI} {d pc : Nat} {ls : LV} {st : List Value} {sh : SHT} {nn : Nat × Nat} {V : VT} {Q : AO → SHT → Nat × Nat → VT → Prop} {r : Option Nat} (a : Nat) (h : r = some a) (k : TGo E y d pc ls (.ref a :: st) sh nn V Q) : TGo E y d pc ls (va_rf r :: st) sh nn V Q := by subst h; exact k
theorem TGo.ton {E : ET} {y : MI} {d pc : Nat} {ls : LV} {st : List Value} {sh : SHT} {nn : Nat × Nat} {V : VT} {Q : AO → SHT → Nat × Nat → VT → Prop} {r : Option Nat} (h : r = none) (k : TGo E y d pc ls (.null :: st) sh nn V Q) : TGo E y d pc ls (va_rf r :: st) sh nn V Q := by subst h; exact k
/-- the state is that one -/
theorem TGo.toV {E : ET} {y : MI} {d pc : Nat} {ls : LV} {st : List Value} {sh : SHT} {nn : Nat × Nat} {V : VT} {Q : AO → SHT → Nat × Nat → VT → Prop} (V' : VT) (h : V = V') (k : TGo E y d pc ls st sh nn V' Q) : TGo E y d pc ls st sh nn V Q := h ▸ k
theorem TGo.lseq {E : ET} {y : MI} {d pc : Nat} {ls : LV} {st : List Value} {sh : SHT} {nn : Nat × Nat} {V : VT} {Q : AO → SHT → Nat × Nat → VT → Prop} (ls' : LV) (h : ls = ls') (k : TGo E y d pc ls' st sh nn V Q) : TGo E y d pc ls st sh nn V Q := h ▸ k
theorem TGo.forget {E : ET} {y : MI} {d pc : Nat} {ls : LV} {st : List Value} {sh : SHT} {nn : Nat × Nat} {V : VT} {Q : AO → SHT → Nat × Nat → VT → Prop} (i : Nat) (k : TGo E y d pc (ls.set i none) st sh nn V Q) : TGo E y d pc ls st sh nn V Q := TGo.pure (fun _ _ => Go.forget i) k
theorem TGo.icm1 {E : ET} {y : MI} {d pc : Nat} {ls : LV} {st : List Value} {sh : SHT} {nn : Nat × Nat} {V : VT} {Q : AO → SHT → Nat × Nat → VT → Prop} (hd : decode y.2.1 pc = .ok (.iconst (-1), 1)) (k : TGo E y d (pc + 1) ls (.int (iI (-1)) :: st) sh nn V Q) : TGo E y d pc ls st sh nn V Q := TGo.pure (fun _ _ => Go.icm1 hd) k
theorem TGo.ic0 {E : ET} {y : MI} {d pc : Nat} {ls : LV} {st : List Value} {sh : SHT} {nn : Nat × Nat} {V : VT} {Q : AO → SHT → Nat × Nat → VT → Prop} (hd : decode y.2.1 pc = .ok (.iconst 0, 1)) (k : TGo E y d (pc + 1) ls (.int (iI 0) :: st) sh nn V Q) : TGo E y d pc ls st sh nn V Q := TGo.pure (fun _ _ => Go.ic0 hd) k
theorem TGo.ic1 {E : ET} {y : MI} {d pc : Nat} {ls : LV} {st : List Value} {sh : SHT} {nn : Nat × Nat} {V : VT} {Q : AO → SHT → Nat × Nat → VT → Prop} (hd : decode y.2.1 pc = .ok (.iconst 1, 1)) (k : TGo E y d (pc + 1) ls (.int (iI 1) :: st) sh nn V Q) : TGo E y d pc ls st sh nn V Q := TGo.pure (fun _ _ => Go.ic1 hd) k
theorem TGo.ic2 {E : ET} {y : MI} {d pc : Nat} {ls : LV} {st : List Value} {sh : SHT} {nn : Nat × Nat} {V : VT} {Q : AO → SHT → Nat × Nat → VT → Prop} (hd : decode y.2.1 pc = .ok (.iconst 2, 1)) (k : TGo E y d (pc + 1) ls (.int (iI 2) :: st) sh nn V Q) : TGo E y d pc ls st sh nn V Q := TGo.pure (fun _ _ => Go.ic2 hd) k
theorem TGo.ic3 {E : ET} {y : MI} {d pc : Nat} {ls : LV} {st : List Value} {sh : SHT} {nn : Nat × Nat} {V : VT} {Q : AO → SHT → Nat × Nat → VT → Prop} (hd : decode y.2.1 pc = .ok (.iconst 3, 1)) (k : TGo E y d (pc + 1) ls (.int (iI 3) :: st) sh nn V Q) : TGo E y d pc ls st sh nn V Q := TGo.pure (fun _ _ => Go.ic3 hd) k
theorem TGo.ic4 {E : ET} {y : MI} {d pc : Nat} {ls : LV} {st : List Value} {sh : SHT} {nn : Nat × Nat} {V : VT} {Q : AO → SHT → Nat × Nat → VT → Prop} (hd : decode y.2.1 pc = .ok (.iconst 4, 1)) (k : TGo E y d (pc + 1) ls (.int (iI 4) :: st) sh nn V Q) : TGo E y d pc ls st sh nn V Q := TGo.pure (fun _ _ => Go.ic4 hd) k
theorem TGo.ic5 {E : ET} {y : MI} {d pc : Nat} {ls : LV} {st : List Value} {sh : SHT} {nn : Nat × Nat} {V : VT} {Q : AO → SHT → Nat × Nat → VT → Prop} (hd : decode y.2.1 pc = .ok (.iconst 5, 1)) (k : TGo E y d (pc + 1) ls (.int (iI 5) :: st) sh nn V Q) : TGo E y d pc ls st sh nn V Q := TGo.pure (fun _ _ => Go.ic5 hd) k
theorem TGo.bip {E : ET} {y : MI} {d pc : Nat} {ls : LV} {st : List Value} {sh : SHT} {nn : Nat × Nat} {V : VT} {Q : AO → SHT → Nat × Nat → VT → Prop} {n : Int} (v : Int) (hd : decode y.2.1 pc = .ok (.bipush n, 2)) (hv : (Int8.ofInt n).toInt32 = iI v) (k : TGo E y d (pc + 2) ls (.int (iI v) :: st) sh nn V Q) : TGo E y d pc ls st sh nn V Q := TGo.pure (fun _ _ => Go.bip _ hd hv) k
theorem TGo.sip {E : ET} {y : MI} {d pc : Nat} {ls : LV} {st : List Value} {sh : SHT} {nn : Nat × Nat} {V : VT} {Q : AO → SHT → Nat × Nat → VT → Prop} {n : Int} (v : Int) (hd : decode y.2.1 pc = .ok (.sipush n, 3)) (hv : (Int16.ofInt n).toInt32 = iI v) (k : TGo E y d (pc + 3) ls (.int (iI v) :: st) sh nn V Q) : TGo E y d pc ls st sh nn V Q := TGo.pure (fun _ _ => Go.sip _ hd hv) k
theorem TGo.lc0 {E : ET} {y : MI} {d pc : Nat} {ls : LV} {st : List Value} {sh : SHT} {nn : Nat × Nat} {V : VT} {Q : AO → SHT → Nat × Nat → VT → Prop} (hd : decode y.2.1 pc = .ok (.lconst 0, 1)) (k : TGo E y d (pc + 1) ls (.long (lI 0) :: st) sh nn V Q) : TGo E y d pc ls st sh nn V Q := TGo.pure (fun _ _ => Go.lc0 hd) k
theorem TGo.lc1 {E : ET} {y : MI} {d pc : Nat} {ls : LV} {st : List Value} {sh : SHT} {nn : Nat × Nat} {V : VT} {Q : AO → SHT → Nat × Nat → VT → Prop} (hd : decode y.2.1 pc = .ok (.lconst 1, 1)) (k : TGo E y d (pc + 1) ls (.long (lI 1) :: st) sh nn V Q) : TGo E y d pc ls st sh nn V Q := TGo.pure (fun _ _ => Go.lc1 hd) k
theorem TGo.null {E : ET} {y : MI} {d pc : Nat} {ls : LV} {st : List Value} {sh : SHT} {nn : Nat × Nat} {V : VT} {Q : AO → SHT → Nat × Nat → VT → Prop} (hd : decode y.2.1 pc = .ok (.aconst_null, 1)) (k : TGo E y d (pc + 1) ls (.null :: st) sh nn V Q) : TGo E y d pc ls st sh nn V Q := TGo.pure (fun _ _ => Go.null hd) k
theorem TGo.il0 {E : ET} {y : MI} {d pc : Nat} {ls : LV} {st : List Value} {sh : SHT} {nn : Nat × Nat} {V : VT} {Q : AO → SHT → Nat × Nat → VT → Prop} {x : Int32} (hd : decode y.2.1 pc = .ok (.iload_n 0, 1)) (h : ls[0]? = some (some (.int x))) (k : TGo E y d (pc + 1) ls (.int x :: st) sh nn V Q) : TGo E y d pc ls st sh nn V Q := TGo.pure (fun _ _ => Go.il0 hd h) k
theorem TGo.ll0 {E : ET} {y : MI} {d pc : Nat} {ls : LV} {st : List Value} {sh : SHT} {nn : Nat × Nat} {V : VT} {Q : AO → SHT → Nat × Nat → VT → Prop} {x : Int64} (hd : decode y.2.1 pc = .ok (.lload_n 0, 1)) (h : ls[0]? = some (some (.long x))) (k : TGo E y d (pc + 1) ls (.long x :: st) sh nn V Q) : TGo E y d pc ls st sh nn V Q := TGo.pure (fun _ _ => Go.ll0 hd h) k
theorem TGo.al0 {E : ET} {y : MI} {d pc : Nat} {ls : LV} {st : List Value} {sh : SHT} {nn : Nat × Nat} {V : VT} {Q : AO → SHT → Nat × Nat → VT → Prop} {a : Nat} (hd : decode y.2.1 pc = .ok (.aload_n 0, 1)) (h : ls[0]? = some (some (.ref a))) (k : TGo E y d (pc + 1) ls (.ref a :: st) sh nn V Q) : TGo E y d pc ls st sh nn V Q := TGo.pure (fun _ _ => Go.al0 hd h) k
theorem TGo.al0q {E : ET} {y : MI} {d pc : Nat} {ls : LV} {st : List Value} {sh : SHT} {nn : Nat × Nat} {V : VT} {Q : AO → SHT → Nat × Nat → VT → Prop} {r : Option Nat} (hd : decode y.2.1 pc = .ok (.aload_n 0, 1)) (h : ls[0]? = some (some (va_rf r))) (k : TGo E y d (pc + 1) ls (va_rf r :: st) sh nn V Q) : TGo E y d pc ls st sh nn V Q := TGo.pure (fun _ _ => Go.al0q hd h) k
theorem TGo.is0 {E : ET} {y : MI} {d pc : Nat} {ls : LV} {st : List Value} {sh : SHT} {nn : Nat × Nat} {V : VT} {Q : AO → SHT → Nat × Nat → VT → Prop} {x : Int32} (hd : decode y.2.1 pc = .ok (.istore_n 0, 1)) (hn : Nat.ble (0 + 1) y.2.2.1 = true) (hc : lchk ls 0 = true) (k : TGo E y d (pc + 1) (ls.set 0 (some (.int x))) st sh nn V Q) : TGo E y d pc ls (.int x :: st) sh nn V Q := TGo.pure (fun _ _ => Go.is0 hd hn hc) k
theorem TGo.ls0 {E : ET} {y : MI} {d pc : Nat} {ls : LV} {st : List Value} {sh : SHT} {nn : Nat × Nat} {V : VT} {Q : AO → SHT → Nat × Nat → VT → Prop} {x : Int64} (hd : decode y.2.1 pc = .ok (.lstore_n 0, 1)) (hn : Nat.ble (0 + 2) y.2.2.1 = true) (hc : lchk ls 0 = true) (k : TGo E y d (pc + 1) ((ls.set 0 (some (.long x))).set (0 + 1) none) st sh nn V Q) : TGo E y d pc ls (.long x :: st) sh nn V Q := TGo.pure (fun _ _ => Go.ls0 hd hn hc) k
theorem TGo.as0 {E : ET} {y : MI} {d pc : Nat} {ls : LV} {st : List Value} {sh : SHT} {nn : Nat × Nat} {V : VT} {Q : AO → SHT → Nat × Nat → VT → Prop} {x : Nat} (hd : decode y.2.1 pc = .ok (.astore_n 0, 1)) (hn : Nat.ble (0 + 1) y.2.2.1 = true) (hc : lchk ls 0 = true) (k : TGo E y d (pc + 1) (ls.set 0 (some (.ref x))) st sh nn V Q) : TGo E y d pc ls (.ref x :: st) sh nn V Q := TGo.pure (fun _ _ => Go.as0 hd hn hc) k
theorem TGo.as0N {E : ET} {y : MI} {d pc : Nat} {ls : LV} {st : List Value} {sh : SHT} {nn : Nat × Nat} {V : VT} {Q : AO → SHT → Nat × Nat → VT → Prop} (hd : decode y.2.1 pc = .ok (.astore_n 0, 1)) (hn : Nat.ble (0 + 1) y.2.2.1 = true) (hc : lchk ls 0 = true) (k : TGo E y d (pc + 1) (ls.set 0 (some (.null))) st sh nn V Q) : TGo E y d pc ls (.null :: st) sh nn V Q := TGo.pure (fun _ _ => Go.as0N hd hn hc) k
theorem TGo.as0q {E : ET} {y : MI} {d pc : Nat} {ls : LV} {st : List Value} {sh : SHT} {nn : Nat × Nat} {V : VT} {Q : AO → SHT → Nat × Nat → VT → Prop} {r : Option Nat} (hd : decode y.2.1 pc = .ok (.astore_n 0, 1)) (hn : Nat.ble (0 + 1) y.2.2.1 = true) (hc : lchk ls 0 = true) (k : TGo E y d (pc + 1) (ls.set 0 (some (va_rf r))) st sh nn V Q) : TGo E y d pc ls (va_rf r :: st) sh nn V Q := TGo.pure (fun _ _ => Go.as0q hd hn hc) k
theorem TGo.il1 {E : ET} {y : MI} {d pc : Nat} {ls : LV} {st : List Value} {sh : SHT} {nn : Nat × Nat} {V : VT} {Q : AO → SHT → Nat × Nat → VT → Prop} {x : Int32} (hd : decode y.2.1 pc = .ok (.iload_n 1, 1)) (h : ls[1]? = some (some (.int x))) (k : TGo E y d (pc + 1) ls (.int x :: st) sh nn V Q) : TGo E y d pc ls st sh nn V Q := TGo.pure (fun _ _ => Go.il1 hd h) k
theorem TGo.ll1 {E : ET} {y : MI} {d pc : Nat} {ls : LV} {st : List Value} {sh : SHT} {nn : Nat × Nat} {V : VT} {Q : AO → SHT → Nat × Nat → VT → Prop} {x : Int64} (hd : decode y.2.1 pc = .ok (.lload_n 1, 1)) (h : ls[1]? = some (some (.long x))) (k : TGo E y d (pc + 1) ls (.long x :: st) sh nn V Q) : TGo E y d pc ls st sh nn V Q := TGo.pure (fun _ _ => Go.ll1 hd h) k
theorem TGo.al1 {E : ET} {y : MI} {d pc : Nat} {ls : LV} {st : List Value} {sh : SHT} {nn : Nat × Nat} {V : VT} {Q : AO → SHT → Nat × Nat → VT → Prop} {a : Nat} (hd : decode y.2.1 pc = .ok (.aload_n 1, 1)) (h : ls[1]? = some (some (.ref a))) (k : TGo E y d (pc + 1) ls (.ref a :: st) sh nn V Q) : TGo E y d pc ls st sh nn V Q := TGo.pure (fun _ _ => Go.al1 hd h) k
theorem TGo.al1q {E : ET} {y : MI} {d pc : Nat} {ls : LV} {st : List Value} {sh : SHT} {nn : Nat × Nat} {V : VT} {Q : AO → SHT → Nat × Nat → VT → Prop} {r : Option Nat} (hd : decode y.2.1 pc = .ok (.aload_n 1, 1)) (h : ls[1]? = some (some (va_rf r))) (k : TGo E y d (pc + 1) ls (va_rf r :: st) sh nn V Q) : TGo E y d pc ls st sh nn V Q := TGo.pure (fun _ _ => Go.al1q hd h) k
theorem TGo.is1 {E : ET} {y : MI} {d pc : Nat} {ls : LV} {st : List Value} {sh : SHT} {nn : Nat × Nat} {V : VT} {Q : AO → SHT → Nat × Nat → VT → Prop} {x : Int32} (hd : decode y.2.1 pc = .ok (.istore_n 1, 1)) (hn : Nat.ble (1 + 1) y.2.2.1 = true) (hc : lchk ls 1 = true) (k : TGo E y d (pc + 1) (ls.set 1 (some (.int x))) st sh nn V Q) : TGo E y d pc ls (.int x :: st) sh nn V Q := TGo.pure (fun _ _ => Go.is1 hd hn hc) k
theorem TGo.ls1 {E : ET} {y : MI} {d pc : Nat} {ls : LV} {st : List Value} {sh : SHT} {nn : Nat × Nat} {V : VT} {Q : AO → SHT → Nat × Nat → VT → Prop} {x : Int64} (hd : decode y.2.1 pc = .ok (.lstore_n 1, 1)) (hn : Nat.ble (1 + 2) y.2.2.1 = true) (hc : lchk ls 1 = true) (k : TGo E y d (pc + 1) ((ls.set 1 (some (.long x))).set (1 + 1) none) st sh nn V Q) : TGo E y d pc ls (.long x :: st) sh nn V Q := TGo.pure (fun _ _ => Go.ls1 hd hn hc) k
theorem TGo.as1 {E : ET} {y : MI} {d pc : Nat} {ls : LV} {st : List Value} {sh : SHT} {nn : Nat × Nat} {V : VT} {Q : AO → SHT → Nat × Nat → VT → Prop} {x : Nat} (hd : decode y.2.1 pc = .ok (.astore_n 1, 1)) (hn : Nat.ble (1 + 1) y.2.2.1 = true) (hc : lchk ls 1 = true) (k : TGo E y d (pc + 1) (ls.set 1 (some (.ref x))) st sh nn V Q) : TGo E y d pc ls (.ref x :: st) sh nn V Q := TGo.pure (fun _ _ => Go.as1 hd hn hc) k
theorem TGo.as1N {E : ET} {y : MI} {d pc : Nat} {ls : LV} {st : List Value} {sh : SHT} {nn : Nat × Nat} {V : VT} {Q : AO → SHT → Nat × Nat → VT → Prop} (hd : decode y.2.1 pc = .ok (.astore_n 1, 1)) (hn : Nat.ble (1 + 1) y.2.2.1 = true) (hc : lchk ls 1 = true) (k : TGo E y d (pc + 1) (ls.set 1 (some (.null))) st sh nn V Q) : TGo E y d pc ls (.null :: st) sh nn V Q := TGo.pure (fun _ _ => Go.as1N hd hn hc) k
theorem TGo.as1q {E : ET} {y : MI} {d pc : Nat} {ls : LV} {st : List Value} {sh : SHT} {nn : Nat × Nat} {V : VT} {Q : AO → SHT → Nat × Nat → VT → Prop} {r : Option Nat} (hd : decode y.2.1 pc = .ok (.astore_n 1, 1)) (hn : Nat.ble (1 + 1) y.2.2.1 = true) (hc : lchk ls 1 = true) (k : TGo E y d (pc + 1) (ls.set 1 (some (va_rf r))) st sh nn V Q) : TGo E y d pc ls (va_rf r :: st) sh nn V Q := TGo.pure (fun _ _ => Go.as1q hd hn hc) k
theorem TGo.il2 {E : ET} {y : MI} {d pc : Nat} {ls : LV} {st : List Value} {sh : SHT} {nn : Nat × Nat} {V : VT} {Q : AO → SHT → Nat × Nat → VT → Prop} {x : Int32} (hd : decode y.2.1 pc = .ok (.iload_n 2, 1)) (h : ls[2]? = some (some (.int x))) (k : TGo E y d (pc + 1) ls (.int x :: st) sh nn V Q) : TGo E y d pc ls st sh nn V Q := TGo.pure (fun _ _ => Go.il2 hd h) k
theorem TGo.ll2 {E : ET} {y : MI} {d pc : Nat} {ls : LV} {st : List Value} {sh : SHT} {nn : Nat × Nat} {V : VT} {Q : AO → SHT → Nat × Nat → VT → Prop} {x : Int64} (hd : decode y.2.1 pc = .ok (.lload_n 2, 1)) (h : ls[2]? = some (some (.long x))) (k : TGo E y d (pc + 1) ls (.long x :: st) sh nn V Q) : TGo E y d pc ls st sh nn V Q := TGo.pure (fun _ _ => Go.ll2 hd h) k
theorem TGo.al2 {E : ET} {y : MI} {d pc : Nat} {ls : LV} {st : List Value} {sh : SHT} {nn : Nat × Nat} {V : VT} {Q : AO → SHT → Nat × Nat → VT → Prop} {a : Nat} (hd : decode y.2.1 pc = .ok (.aload_n 2, 1)) (h : ls[2]? = some (some (.ref a))) (k : TGo E y d (pc + 1) ls (.ref a :: st) sh nn V Q) : TGo E y d pc ls st sh nn V Q := TGo.pure (fun _ _ => Go.al2 hd h) k
theorem TGo.al2q {E : ET} {y : MI} {d pc : Nat} {ls : LV} {st : List Value} {sh : SHT} {nn : Nat × Nat} {V : VT} {Q : AO → SHT → Nat × Nat → VT → Prop} {r : Option Nat} (hd : decode y.2.1 pc = .ok (.aload_n 2, 1)) (h : ls[2]? = some (some (va_rf r))) (k : TGo E y d (pc + 1) ls (va_rf r :: st) sh nn V Q) : TGo E y d pc ls st sh nn V Q := TGo.pure (fun _ _ => Go.al2q hd h) k
theorem TGo.is2 {E : ET} {y : MI} {d pc : Nat} {ls : LV} {st : List Value} {sh : SHT} {nn : Nat × Nat} {V : VT} {Q : AO → SHT → Nat × Nat → VT → Prop} {x : Int32} (hd : decode y.2.1 pc = .ok (.istore_n 2, 1)) (hn : Nat.ble (2 + 1) y.2.2.1 = true) (hc : lchk ls 2 = true) (k : TGo E y d (pc + 1) (ls.set 2 (some (.int x))) st sh nn V Q) : TGo E y d pc ls (.int x :: st) sh nn V Q := TGo.pure (fun _ _ => Go.is2 hd hn hc) k
theorem TGo.ls2 {E : ET} {y : MI} {d pc : Nat} {ls : LV} {st : List Value} {sh : SHT} {nn : Nat × Nat} {V : VT} {Q : AO → SHT → Nat × Nat → VT → Prop} {x : Int64} (hd : decode y.2.1 pc = .ok (.lstore_n 2, 1)) (hn : Nat.ble (2 + 2) y.2.2.1 = true) (hc : lchk ls 2 = true) (k : TGo E y d (pc + 1) ((ls.set 2 (some (.long x))).set (2 + 1) none) st sh nn V Q) : TGo E y d pc ls (.long x :: st) sh nn V Q := TGo.pure (fun _ _ => Go.ls2 hd hn hc) k
theorem TGo.as2 {E : ET} {y : MI} {d pc : Nat} {ls : LV} {st : List Value} {sh : SHT} {nn : Nat × Nat} {V : VT} {Q : AO → SHT → Nat × Nat → VT → Prop} {x : Nat} (hd : decode y.2.1 pc = .ok (.astore_n 2, 1)) (hn : Nat.ble (2 + 1) y.2.2.1 = true) (hc : lchk ls 2 = true) (k : TGo E y d (pc + 1) (ls.set 2 (some (.ref x))) st sh nn V Q) : TGo E y d pc ls (.ref x :: st) sh nn V Q := TGo.pure (fun _ _ => Go.as2 hd hn hc) k
theorem TGo.as2N {E : ET} {y : MI} {d pc : Nat} {ls : LV} {st : List Value} {sh : SHT} {nn : Nat × Nat} {V : VT} {Q : AO → SHT → Nat × Nat → VT → Prop} (hd : decode y.2.1 pc = .ok (.astore_n 2, 1)) (hn : Nat.ble (2 + 1) y.2.2.1 = true) (hc : lchk ls 2 = true) (k : TGo E y d (pc + 1) (ls.set 2 (some (.null))) st sh nn V Q) : TGo E y d pc ls (.null :: st) sh nn V Q := TGo.pure (fun _ _ => Go.as2N hd hn hc) k
theorem TGo.as2q {E : ET} {y : MI} {d pc : Nat} {ls : LV} {st : List Value} {sh : SHT} {nn : Nat × Nat} {V : VT} {Q : AO → SHT → Nat × Nat → VT → Prop} {r : Option Nat} (hd : decode y.2.1 pc = .ok (.astore_n 2, 1)) (hn : Nat.ble (2 + 1) y.2.2.1 = true) (hc : lchk ls 2 = true) (k : TGo E y d (pc + 1) (ls.set 2 (some (va_rf r))) st sh nn V Q) : TGo E y d pc ls (va_rf r :: st) sh nn V Q := TGo.pure (fun _ _ => Go.as2q hd hn hc) k
theorem TGo.il3 {E : ET} {y : MI} {d pc : Nat} {ls : LV} {st : List Value} {sh : SHT} {nn : Nat × Nat} {V : VT} {Q : AO → SHT → Nat × Nat → VT → Prop} {x : Int32} (hd : decode y.2.1 pc = .ok (.iload_n 3, 1)) (h : ls[3]? = some (some (.int x))) (k : TGo E y d (pc + 1) ls (.int x :: st) sh nn V Q) : TGo E y d pc ls st sh nn V Q := TGo.pure (fun _ _ => Go.il3 hd h) k
theorem TGo.ll3 {E : ET} {y : MI} {d pc : Nat} {ls : LV} {st : List Value} {sh : SHT} {nn : Nat × Nat} {V : VT} {Q : AO → SHT → Nat × Nat → VT → Prop} {x : Int64} (hd : decode y.2.1 pc = .ok (.lload_n 3, 1)) (h : ls[3]? = some (some (.long x))) (k : TGo E y d (pc + 1) ls (.long x :: st) sh nn V Q) : TGo E y d pc ls st sh nn V Q := TGo.pure (fun _ _ => Go.ll3 hd h) k
theorem TGo.al3 {E : ET} {y : MI} {d pc : Nat} {ls : LV} {st : List Value} {sh : SHT} {nn : Nat × Nat} {V : VT} {Q : AO → SHT → Nat × Nat → VT → Prop} {a : Nat} (hd : decode y.2.1 pc = .ok (.aload_n 3, 1)) (h : ls[3]? = some (some (.ref a))) (k : TGo E y d (pc + 1) ls (.ref a :: st) sh nn V Q) : TGo E y d pc ls st sh nn V Q := TGo.pure (fun _ _ => Go.al3 hd h) k
theorem TGo.al3q {E : ET} {y : MI} {d pc : Nat} {ls : LV} {st : List Value} {sh : SHT} {nn : Nat × Nat} {V : VT} {Q : AO → SHT → Nat × Nat → VT → Prop} {r : Option Nat} (hd : decode y.2.1 pc = .ok (.aload_n 3, 1)) (h : ls[3]? = some (some (va_rf r))) (k : TGo E y d (pc + 1) ls (va_rf r :: st) sh nn V Q) : TGo E y d pc ls st sh nn V Q := TGo.pure (fun _ _ => Go.al3q hd h) k
theorem TGo.is3 {E : ET} {y : MI} {d pc : Nat} {ls : LV} {st : List Value} {sh : SHT} {nn : Nat × Nat} {V : VT} {Q : AO → SHT → Nat × Nat → VT → Prop} {x : Int32} (hd : decode y.2.1 pc = .ok (.istore_n 3, 1)) (hn : Nat.ble (3 + 1) y.2.2.1 = true) (hc : lchk ls 3 = true) (k : TGo E y d (pc + 1) (ls.set 3 (some (.int x))) st sh nn V Q) : TGo E y d pc ls (.int x :: st) sh nn V Q := TGo.pure (fun _ _ => Go.is3 hd hn hc) k
theorem TGo.ls3 {E : ET} {y : MI} {d pc : Nat} {ls : LV} {st : List Value} {sh : SHT} {nn : Nat × Nat} {V : VT} {Q : AO → SHT → Nat × Nat → VT → Prop} {x : Int64} (hd : decode y.2.1 pc = .ok (.lstore_n 3, 1)) (hn : Nat.ble (3 + 2) y.2.2.1 = true) (hc : lchk ls 3 = true) (k : TGo E y d (pc + 1) ((ls.set 3 (some (.long x))).set (3 + 1) none) st sh nn V Q) : TGo E y d pc ls (.long x :: st) sh nn V Q := TGo.pure (fun _ _ => Go.ls3 hd hn hc) k
theorem TGo.as3 {E : ET} {y : MI} {d pc : Nat} {ls : LV} {st : List Value} {sh : SHT} {nn : Nat × Nat} {V : VT} {Q : AO → SHT → Nat × Nat → VT → Prop} {x : Nat} (hd : decode y.2.1 pc = .ok (.astore_n 3, 1)) (hn : Nat.ble (3 + 1) y.2.2.1 = true) (hc : lchk ls 3 = true) (k : TGo E y d (pc + 1) (ls.set 3 (some (.ref x))) st sh nn V Q) : TGo E y d pc ls (.ref x :: st) sh nn V Q := TGo.pure (fun _ _ => Go.as3 hd hn hc) k
theorem TGo.as3N {E : ET} {y : MI} {d pc : Nat} {ls : LV} {st : List Value} {sh : SHT} {nn : Nat × Nat} {V : VT} {Q : AO → SHT → Nat × Nat → VT → Prop} (hd : decode y.2.1 pc = .ok (.astore_n 3, 1)) (hn : Nat.ble (3 + 1) y.2.2.1 = true) (hc : lchk ls 3 = true) (k : TGo E y d (pc + 1) (ls.set 3 (some (.null))) st sh nn V Q) : TGo E y d pc ls (.null :: st) sh nn V Q := TGo.pure (fun _ _ => Go.as3N hd hn hc) k
theorem TGo.as3q {E : ET} {y : MI} {d pc : Nat} {ls : LV} {st : List Value} {sh : SHT} {nn : Nat × Nat} {V : VT} {Q : AO → SHT → Nat × Nat → VT → Prop} {r : Option Nat} (hd : decode y.2.1 pc = .ok (.astore_n 3, 1)) (hn : Nat.ble (3 + 1) y.2.2.1 = true) (hc : lchk ls 3 = true) (k : TGo E y d (pc + 1) (ls.set 3 (some (va_rf r))) st sh nn V Q) : TGo E y d pc ls (va_rf r :: st) sh nn V Q := TGo.pure (fun _ _ => Go.as3q hd hn hc) k
theorem TGo.il {E : ET} {y : MI} {d pc : Nat} {ls : LV} {st : List Value} {sh : SHT} {nn : Nat × Nat} {V : VT} {Q : AO → SHT → Nat × Nat → VT → Prop} {i : Nat} {x : Int32} (hd : decode y.2.1 pc = .ok (.iload i, 2)) (h : ls[i]? = some (some (.int x))) (k : TGo E y d (pc + 2) ls (.int x :: st) sh nn V Q) : TGo E y d pc ls st sh nn V Q := TGo.pure (fun _ _ => Go.il hd h) k
theorem TGo.ll {E : ET} {y : MI} {d pc : Nat} {ls : LV} {st : List Value} {sh : SHT} {nn : Nat × Nat} {V : VT} {Q : AO → SHT → Nat × Nat → VT → Prop} {i : Nat} {x : Int64} (hd : decode y.2.1 pc = .ok (.lload i, 2)) (h : ls[i]? = some (some (.long x))) (k : TGo E y d (pc + 2) ls (.long x :: st) sh nn V Q) : TGo E y d pc ls st sh nn V Q := TGo.pure (fun _ _ => Go.ll hd h) k
theorem TGo.al {E : ET} {y : MI} {d pc : Nat} {ls : LV} {st : List Value} {sh : SHT} {nn : Nat × Nat} {V : VT} {Q : AO → SHT → Nat × Nat → VT → Prop} {i : Nat} {a : Nat} (hd : decode y.2.1 pc = .ok (.aload i, 2)) (h : ls[i]? = some (some (.ref a))) (k : TGo E y d (pc + 2) ls (.ref a :: st) sh nn V Q) : TGo E y d pc ls st sh nn V Q := TGo.pure (fun _ _ => Go.al hd h) k
theorem TGo.alq {E : ET} {y : MI} {d pc : Nat} {ls : LV} {st : List Value} {sh : SHT} {nn : Nat × Nat} {V : VT} {Q : AO → SHT → Nat × Nat → VT → Prop} {i : Nat} {r : Option Nat} (hd : decode y.2.1 pc = .ok (.aload i, 2)) (h : ls[i]? = some (some (va_rf r))) (k : TGo E y d (pc + 2) ls (va_rf r :: st) sh nn V Q) : TGo E y d pc ls st sh nn V Q := TGo.pure (fun _ _ => Go.alq hd h) k
theorem TGo.is {E : ET} {y : MI} {d pc : Nat} {ls : LV} {st : List Value} {sh : SHT} {nn : Nat × Nat} {V : VT} {Q : AO → SHT → Nat × Nat → VT → Prop} {i : Nat} {x : Int32} (hd : decode y.2.1 pc = .ok (.istore i, 2)) (hn : Nat.ble (i + 1) y.2.2.1 = true) (hc : lchk ls i = true) (k : TGo E y d (pc + 2) (ls.set i (some (.int x))) st sh nn V Q) : TGo E y d pc ls (.int x :: st) sh nn V Q := TGo.pure (fun _ _ => Go.is hd hn hc) k
theorem TGo.ls {E : ET} {y : MI} {d pc : Nat} {ls : LV} {st : List Value} {sh : SHT} {nn : Nat × Nat} {V : VT} {Q : AO → SHT → Nat × Nat → VT → Prop} {i : Nat} {x : Int64} (hd : decode y.2.1 pc = .ok (.lstore i, 2)) (hn : Nat.ble (i + 2) y.2.2.1 = true) (hc : lchk ls i = true) (k : TGo E y d (pc + 2) ((ls.set i (some (.long x))).set (i + 1) none) st sh nn V Q) : TGo E y d pc ls (.long x :: st) sh nn V Q := TGo.pure (fun _ _ => Go.ls hd hn hc) k
theorem TGo.as {E : ET} {y : MI} {d pc : Nat} {ls : LV} {st : List Value} {sh : SHT} {nn : Nat × Nat} {V : VT} {Q : AO → SHT → Nat × Nat → VT → Prop} {i : Nat} {x : Nat} (hd : decode y.2.1 pc = .ok (.astore i, 2)) (hn : Nat.ble (i + 1) y.2.2.1 = true) (hc : lchk ls i = true) (k : TGo E y d (pc + 2) (ls.set i (some (.ref x))) st sh nn V Q) : TGo E y d pc ls (.ref x :: st) sh nn V Q := TGo.pure (fun _ _ => Go.as hd hn hc) k
theorem TGo.asN {E : ET} {y : MI} {d pc : Nat} {ls : LV} {st : List Value} {sh : SHT} {nn : Nat × Nat} {V : VT} {Q : AO → SHT → Nat × Nat → VT → Prop} {i : Nat}  (hd : decode y.2.1 pc = .ok (.astore i, 2)) (hn : Nat.ble (i + 1) y.2.2.1 = true) (hc : lchk ls i = true) (k : TGo E y d (pc + 2) (ls.set i (some (.null))) st sh nn V Q) : TGo E y d pc ls (.null :: st) sh nn V Q := TGo.pure (fun _ _ => Go.asN hd hn hc) k
theorem TGo.asq {E : ET} {y : MI} {d pc : Nat} {ls : LV} {st : List Value} {sh : SHT} {nn : Nat × Nat} {V : VT} {Q : AO → SHT → Nat × Nat → VT → Prop} {i : Nat} {r : Option Nat} (hd : decode y.2.1 pc = .ok (.astore i, 2)) (hn : Nat.ble (i + 1) y.2.2.1 = true) (hc : lchk ls i = true) (k : TGo E y d (pc + 2) (ls.set i (some (va_rf r))) st sh nn V Q) : TGo E y d pc ls (va_rf r :: st) sh nn V Q := TGo.pure (fun _ _ => Go.asq hd hn hc) k
theorem TGo.iinc {E : ET} {y : MI} {d pc : Nat} {ls : LV} {st : List Value} {sh : SHT} {nn : Nat × Nat} {V : VT} {Q : AO → SHT → Nat × Nat → VT → Prop} {i : Nat} {a n : Int} (hd : decode y.2.1 pc = .ok (.iinc i n, 3)) (h : ls[i]? = some (some (.int (iI a)))) (hn : Nat.ble (i + 1) y.2.2.1 = true) (hc : lchk ls i = true) (k : TGo E y d (pc + 3) (ls.set i (some (.int (iI (a + n))))) st sh nn V Q) : TGo E y d pc ls st sh nn V Q := TGo.pure (fun _ _ k => Go.iinc (iI n) hd rfl h hn hc (by rw [iI_add]; exact k)) k
theorem TGo.iadd {E : ET} {y : MI} {d pc : Nat} {ls : LV} {st : List Value} {sh : SHT} {nn : Nat × Nat} {V : VT} {Q : AO → SHT → Nat × Nat → VT → Prop} {a b : Int} (hd : decode y.2.1 pc = .ok (.iadd, 1)) (k : TGo E y d (pc + 1) ls (.int (iI (a + b)) :: st) sh nn V Q) : TGo E y d pc ls (.int (iI b) :: .int (iI a) :: st) sh nn V Q := TGo.pure (fun _ _ k => Go.iadd hd (by rw [iI_add]; exact k)) k
theorem TGo.isub {E : ET} {y : MI} {d pc : Nat} {ls : LV} {st : List Value} {sh : SHT} {nn : Nat × Nat} {V : VT} {Q : AO → SHT → Nat × Nat → VT → Prop} {a b : Int} (hd : decode y.2.1 pc = .ok (.isub, 1)) (k : TGo E y d (pc + 1) ls (.int (iI (a - b)) :: st) sh nn V Q) : TGo E y d pc ls (.int (iI b) :: .int (iI a) :: st) sh nn V Q := TGo.pure (fun _ _ k => Go.isub hd (by rw [iI_sub]; exact k)) k
theorem TGo.imul {E : ET} {y : MI} {d pc : Nat} {ls : LV} {st : List Value} {sh : SHT} {nn : Nat × Nat} {V : VT} {Q : AO → SHT → Nat × Nat → VT → Prop} {a b : Int} (hd : decode y.2.1 pc = .ok (.imul, 1)) (k : TGo E y d (pc + 1) ls (.int (iI (a * b)) :: st) sh nn V Q) : TGo E y d pc ls (.int (iI b) :: .int (iI a) :: st) sh nn V Q := TGo.pure (fun _ _ k => Go.imul hd (by rw [iI_mul]; exact k)) k
theorem TGo.ladd {E : ET} {y : MI} {d pc : Nat} {ls : LV} {st : List Value} {sh : SHT} {nn : Nat × Nat} {V : VT} {Q : AO → SHT → Nat × Nat → VT → Prop} {a b : Int} (hd : decode y.2.1 pc = .ok (.ladd, 1)) (k : TGo E y d (pc + 1) ls (.long (lI (a + b)) :: st) sh nn V Q) : TGo E y d pc ls (.long (lI b) :: .long (lI a) :: st) sh nn V Q := TGo.pure (fun _ _ k => Go.ladd hd (by rw [lI_add]; exact k)) k
theorem TGo.lsub {E : ET} {y : MI} {d pc : Nat} {ls : LV} {st : List Value} {sh : SHT} {nn : Nat × Nat} {V : VT} {Q : AO → SHT → Nat × Nat → VT → Prop} {a b : Int} (hd : decode y.2.1 pc = .ok (.lsub, 1)) (k : TGo E y d (pc + 1) ls (.long (lI (a - b)) :: st) sh nn V Q) : TGo E y d pc ls (.long (lI b) :: .long (lI a) :: st) sh nn V Q := TGo.pure (fun _ _ k => Go.lsub hd (by rw [lI_sub]; exact k)) k
theorem TGo.lmul {E : ET} {y : MI} {d pc : Nat} {ls : LV} {st : List Value} {sh : SHT} {nn : Nat × Nat} {V : VT} {Q : AO → SHT → Nat × Nat → VT → Prop} {a b : Int} (hd : decode y.2.1 pc = .ok (.lmul, 1)) (k : TGo E y d (pc + 1) ls (.long (lI (a * b)) :: st) sh nn V Q) : TGo E y d pc ls (.long (lI b) :: .long (lI a) :: st) sh nn V Q := TGo.pure (fun _ _ k => Go.lmul hd (by rw [lI_mul]; exact k)) k
theorem TGo.idiv {E : ET} {y : MI} {d pc : Nat} {ls : LV} {st : List Value} {sh : SHT} {nn : Nat × Nat} {V : VT} {Q : AO → SHT → Nat × Nat → VT → Prop} {a b : Int} (hd : decode y.2.1 pc = .ok (.idiv, 1)) (h : 0 ≤ a ∧ a ≤ 2147483647 ∧ 0 < b ∧ b ≤ 2147483647) (k : TGo E y d (pc + 1) ls (.int (iI (a / b)) :: st) sh nn V Q) : TGo E y d pc ls (.int (iI b) :: .int (iI a) :: st) sh nn V Q := TGo.pure (fun _ _ k => Go.idiv hd (iI_nz h.2.2) (by rw [iI_div h]; exact k)) k
theorem TGo.irem {E : ET} {y : MI} {d pc : Nat} {ls : LV} {st : List Value} {sh : SHT} {nn : Nat × Nat} {V : VT} {Q : AO → SHT → Nat × Nat → VT → Prop} {a b : Int} (hd : decode y.2.1 pc = .ok (.irem, 1)) (h : 0 ≤ a ∧ a ≤ 2147483647 ∧ 0 < b ∧ b ≤ 2147483647) (k : TGo E y d (pc + 1) ls (.int (iI (a % b)) :: st) sh nn V Q) : TGo E y d pc ls (.int (iI b) :: .int (iI a) :: st) sh nn V Q := TGo.pure (fun _ _ k => Go.irem hd (iI_nz h.2.2) (by rw [iI_rem h]; exact k)) k
theorem TGo.ldiv {E : ET} {y : MI} {d pc : Nat} {ls : LV} {st : List Value} {sh : SHT} {nn : Nat × Nat} {V : VT} {Q : AO → SHT → Nat × Nat → VT → Prop} {a b : Int} (hd : decode y.2.1 pc = .ok (.ldiv, 1)) (h : (-9223372036854775807 ≤ a ∧ a ≤ 9223372036854775807) ∧ -9223372036854775807 ≤ b ∧ b ≤ 9223372036854775807) (hb : b ≠ 0) (k : TGo E y d (pc + 1) ls (.long (lI (a.tdiv b)) :: st) sh nn V Q) : TGo E y d pc ls (.long (lI b) :: .long (lI a) :: st) sh nn V Q := TGo.pure (fun _ _ k => Go.ldiv hd (lI_nz ⟨by omega, hb⟩) (by rw [lI_div h]; exact k)) k
theorem TGo.lrem {E : ET} {y : MI} {d pc : Nat} {ls : LV} {st : List Value} {sh : SHT} {nn : Nat × Nat} {V : VT} {Q : AO → SHT → Nat × Nat → VT → Prop} {a b : Int} (hd : decode y.2.1 pc = .ok (.lrem, 1)) (h : (-9223372036854775807 ≤ a ∧ a ≤ 9223372036854775807) ∧ -9223372036854775807 ≤ b ∧ b ≤ 9223372036854775807) (hb : b ≠ 0) (k : TGo E y d (pc + 1) ls (.long (lI (a.tmod b)) :: st) sh nn V Q) : TGo E y d pc ls (.long (lI b) :: .long (lI a) :: st) sh nn V Q := TGo.pure (fun _ _ k => Go.lrem hd (lI_nz ⟨by omega, hb⟩) (by rw [lI_rem h]; exact k)) k
theorem TGo.ineg {E : ET} {y : MI} {d pc : Nat} {ls : LV} {st : List Value} {sh : SHT} {nn : Nat × Nat} {V : VT} {Q : AO → SHT → Nat × Nat → VT → Prop} {a : Int} (hd : decode y.2.1 pc = .ok (.ineg, 1)) (k : TGo E y d (pc + 1) ls (.int (iI (-a)) :: st) sh nn V Q) : TGo E y d pc ls (.int (iI a) :: st) sh nn V Q := TGo.pure (fun _ _ k => Go.ineg hd (by rw [iI_neg]; exact k)) k
theorem TGo.iand {E : ET} {y : MI} {d pc : Nat} {ls : LV} {st : List Value} {sh : SHT} {nn : Nat × Nat} {V : VT} {Q : AO → SHT → Nat × Nat → VT → Prop} {x z : Int32} (hd : decode y.2.1 pc = .ok (.iand, 1)) (k : TGo E y d (pc + 1) ls (.int (x &&& z) :: st) sh nn V Q) : TGo E y d pc ls (.int z :: .int x :: st) sh nn V Q := TGo.pure (fun _ _ => Go.iand hd) k
theorem TGo.ior {E : ET} {y : MI} {d pc : Nat} {ls : LV} {st : List Value} {sh : SHT} {nn : Nat × Nat} {V : VT} {Q : AO → SHT → Nat × Nat → VT → Prop} {x z : Int32} (hd : decode y.2.1 pc = .ok (.ior, 1)) (k : TGo E y d (pc + 1) ls (.int (x ||| z) :: st) sh nn V Q) : TGo E y d pc ls (.int z :: .int x :: st) sh nn V Q := TGo.pure (fun _ _ => Go.ior hd) k
theorem TGo.ishl {E : ET} {y : MI} {d pc : Nat} {ls : LV} {st : List Value} {sh : SHT} {nn : Nat × Nat} {V : VT} {Q : AO → SHT → Nat × Nat → VT → Prop} {x z : Int32} (hd : decode y.2.1 pc = .ok (.ishl, 1)) (k : TGo E y d (pc + 1) ls (.int (x <<< (z &&& 31)) :: st) sh nn V Q) : TGo E y d pc ls (.int z :: .int x :: st) sh nn V Q := TGo.pure (fun _ _ => Go.ishl hd) k
theorem TGo.ishr {E : ET} {y : MI} {d pc : Nat} {ls : LV} {st : List Value} {sh : SHT} {nn : Nat × Nat} {V : VT} {Q : AO → SHT → Nat × Nat → VT → Prop} {x z : Int32} (hd : decode y.2.1 pc = .ok (.ishr, 1)) (k : TGo E y d (pc + 1) ls (.int (x >>> (z &&& 31)) :: st) sh nn V Q) : TGo E y d pc ls (.int z :: .int x :: st) sh nn V Q := TGo.pure (fun _ _ => Go.ishr hd) k
theorem TGo.i2l {E : ET} {y : MI} {d pc : Nat} {ls : LV} {st : List Value} {sh : SHT} {nn : Nat × Nat} {V : VT} {Q : AO → SHT → Nat × Nat → VT → Prop} {a : Int} (hd : decode y.2.1 pc = .ok (.i2l, 1)) (h : -2147483648 ≤ a ∧ a ≤ 2147483647) (k : TGo E y d (pc + 1) ls (.long (lI a) :: st) sh nn V Q) : TGo E y d pc ls (.int (iI a) :: st) sh nn V Q := TGo.pure (fun _ _ k => Go.i2l hd (by rw [i2l_Z h]; exact k)) k
theorem TGo.l2i {E : ET} {y : MI} {d pc : Nat} {ls : LV} {st : List Value} {sh : SHT} {nn : Nat × Nat} {V : VT} {Q : AO → SHT → Nat × Nat → VT → Prop} {a : Int} (hd : decode y.2.1 pc = .ok (.l2i, 1)) (h : -9223372036854775808 ≤ a ∧ a ≤ 9223372036854775807) (k : TGo E y d (pc + 1) ls (.int (iI a) :: st) sh nn V Q) : TGo E y d pc ls (.long (lI a) :: st) sh nn V Q := TGo.pure (fun _ _ k => Go.l2i hd (by rw [l2i_Z h]; exact k)) k
theorem TGo.i2b {E : ET} {y : MI} {d pc : Nat} {ls : LV} {st : List Value} {sh : SHT} {nn : Nat × Nat} {V : VT} {Q : AO → SHT → Nat × Nat → VT → Prop} {x : Int32} (hd : decode y.2.1 pc = .ok (.i2b, 1)) (k : TGo E y d (pc + 1) ls (.int (x.toInt8.toInt32) :: st) sh nn V Q) : TGo E y d pc ls (.int x :: st) sh nn V Q := TGo.pure (fun _ _ => Go.i2b hd) k
theorem TGo.i2c {E : ET} {y : MI} {d pc : Nat} {ls : LV} {st : List Value} {sh : SHT} {nn : Nat × Nat} {V : VT} {Q : AO → SHT → Nat × Nat → VT → Prop} {x : Int32} (hd : decode y.2.1 pc = .ok (.i2c, 1)) (k : TGo E y d (pc + 1) ls (.int ((x.toUInt32 % 65536).toInt32) :: st) sh nn V Q) : TGo E y d pc ls (.int x :: st) sh nn V Q := TGo.pure (fun _ _ => Go.i2c hd) k
theorem TGo.dup {E : ET} {y : MI} {d pc : Nat} {ls : LV} {st : List Value} {sh : SHT} {nn : Nat × Nat} {V : VT} {Q : AO → SHT → Nat × Nat → VT → Prop} {v : Value} (hd : decode y.2.1 pc = .ok (.dup, 1)) (hc : v.category = 1) (k : TGo E y d (pc + 1) ls (v :: v :: st) sh nn V Q) : TGo E y d pc ls (v :: st) sh nn V Q := TGo.pure (fun _ _ => Go.dup hd hc) k
theorem TGo.pop {E : ET} {y : MI} {d pc : Nat} {ls : LV} {st : List Value} {sh : SHT} {nn : Nat × Nat} {V : VT} {Q : AO → SHT → Nat × Nat → VT → Prop} {v : Value} (hd : decode y.2.1 pc = .ok (.pop, 1)) (hc : v.category = 1) (k : TGo E y d (pc + 1) ls (st) sh nn V Q) : TGo E y d pc ls (v :: st) sh nn V Q := TGo.pure (fun _ _ => Go.pop hd hc) k
theorem TGo.dup_x1 {E : ET} {y : MI} {d pc : Nat} {ls : LV} {st : List Value} {sh : SHT} {nn : Nat × Nat} {V : VT} {Q : AO → SHT → Nat × Nat → VT → Prop} {v w : Value} (hd : decode y.2.1 pc = .ok (.dup_x1, 1)) (hc : v.category = 1) (hc2 : w.category = 1) (k : TGo E y d (pc + 1) ls (v :: w :: v :: st) sh nn V Q) : TGo E y d pc ls (v :: w :: st) sh nn V Q := TGo.pure (fun _ _ => Go.dup_x1 hd hc hc2) k
theorem TGo.dup2 {E : ET} {y : MI} {d pc : Nat} {ls : LV} {st : List Value} {sh : SHT} {nn : Nat × Nat} {V : VT} {Q : AO → SHT → Nat × Nat → VT → Prop} {v w : Value} (hd : decode y.2.1 pc = .ok (.dup2, 1)) (hc : v.category = 1) (hc2 : w.category = 1) (k : TGo E y d (pc + 1) ls (v :: w :: v :: w :: st) sh nn V Q) : TGo E y d pc ls (v :: w :: st) sh nn V Q := TGo.pure (fun _ _ => Go.dup2 hd hc hc2) k
theorem TGo.goto {E : ET} {y : MI} {d pc : Nat} {ls : LV} {st : List Value} {sh : SHT} {nn : Nat × Nat} {V : VT} {Q : AO → SHT → Nat × Nat → VT → Prop} {off : Int} (tgt : Nat) (hd : decode y.2.1 pc = .ok (.goto off, 3)) (ht : (pc : Int) + off = (tgt : Int)) (k : TGo E y d tgt ls st sh nn V Q) : TGo E y d pc ls st sh nn V Q := TGo.pure (fun _ _ => Go.goto tgt hd ht) k
theorem TGo.icmp_eq {E : ET} {y : MI} {d pc : Nat} {ls : LV} {st : List Value} {sh : SHT} {nn : Nat × Nat} {V : VT} {Q : AO → SHT → Nat × Nat → VT → Prop} {a b off : Int} (tgt : Nat) (hd : decode y.2.1 pc = .ok (.if_icmp .eq off, 3)) (ht : (pc : Int) + off = (tgt : Int)) (h : (-2147483648 ≤ a ∧ a ≤ 2147483647) ∧ -2147483648 ≤ b ∧ b ≤ 2147483647) (k1 : a = b → TGo E y d tgt ls st sh nn V Q) (k2 : a ≠ b → TGo E y d (pc + 3) ls st sh nn V Q) : TGo E y d pc ls (.int (iI b) :: .int (iI a) :: st) sh nn V Q := TGo.br (fun _ _ => Go.icmp_eq tgt hd ht) (fun e => k1 ((iI_inj h).mp e)) (fun e => k2 (fun z => e ((iI_inj h).mpr z)))
theorem TGo.if_eq {E : ET} {y : MI} {d pc : Nat} {ls : LV} {st : List Value} {sh : SHT} {nn : Nat × Nat} {V : VT} {Q : AO → SHT → Nat × Nat → VT → Prop} {a off : Int} (tgt : Nat) (hd : decode y.2.1 pc = .ok (.ifCond .eq off, 3)) (ht : (pc : Int) + off = (tgt : Int)) (h0 : -2147483648 ≤ a ∧ a ≤ 2147483647) (k1 : a = 0 → TGo E y d tgt ls st sh nn V Q) (k2 : a ≠ 0 → TGo E y d (pc + 3) ls st sh nn V Q) : TGo E y d pc ls (.int (iI a) :: st) sh nn V Q := by
  have h : (-2147483648 ≤ a ∧ a ≤ 2147483647) ∧ -2147483648 ≤ (0 : Int) ∧ (0 : Int) ≤ 2147483647 := ⟨h0, by omega⟩
  exact TGo.br (fun _ _ => Go.if_eq tgt hd ht) (fun e => k1 ((iI_inj h).mp e)) (fun e => k2 (fun z => e ((iI_inj h).mpr z)))
theorem TGo.icmp_ne {E : ET} {y : MI} {d pc : Nat} {ls : LV} {st : List Value} {sh : SHT} {nn : Nat × Nat} {V : VT} {Q : AO → SHT → Nat × Nat → VT → Prop} {a b off : Int} (tgt : Nat) (hd : decode y.2.1 pc = .ok (.if_icmp .ne off, 3)) (ht : (pc : Int) + off = (tgt : Int)) (h : (-2147483648 ≤ a ∧ a ≤ 2147483647) ∧ -2147483648 ≤ b ∧ b ≤ 2147483647) (k1 : a ≠ b → TGo E y d tgt ls st sh nn V Q) (k2 : a = b → TGo E y d (pc + 3) ls st sh nn V Q) : TGo E y d pc ls (.int (iI b) :: .int (iI a) :: st) sh nn V Q := TGo.br (fun _ _ => Go.icmp_ne tgt hd ht) (fun e => k1 (fun z => e ((iI_inj h).mpr z))) (fun e => k2 ((iI_inj h).mp e))
theorem TGo.if_ne {E : ET} {y : MI} {d pc : Nat} {ls : LV} {st : List Value} {sh : SHT} {nn : Nat × Nat} {V : VT} {Q : AO → SHT → Nat × Nat → VT → Prop} {a off : Int} (tgt : Nat) (hd : decode y.2.1 pc = .ok (.ifCond .ne off, 3)) (ht : (pc : Int) + off = (tgt : Int)) (h0 : -2147483648 ≤ a ∧ a ≤ 2147483647) (k1 : a ≠ 0 → TGo E y d tgt ls st sh nn V Q) (k2 : a = 0 → TGo E y d (pc + 3) ls st sh nn V Q) : TGo E y d pc ls (.int (iI a) :: st) sh nn V Q := by
  have h : (-2147483648 ≤ a ∧ a ≤ 2147483647) ∧ -2147483648 ≤ (0 : Int) ∧ (0 : Int) ≤ 2147483647 := ⟨h0, by omega⟩
  exact TGo.br (fun _ _ => Go.if_ne tgt hd ht) (fun e => k1 (fun z => e ((iI_inj h).mpr z))) (fun e => k2 ((iI_inj h).mp e))
theorem TGo.icmp_lt {E : ET} {y : MI} {d pc : Nat} {ls : LV} {st : List Value} {sh : SHT} {nn : Nat × Nat} {V : VT} {Q : AO → SHT → Nat × Nat → VT → Prop} {a b off : Int} (tgt : Nat) (hd : decode y.2.1 pc = .ok (.if_icmp .lt off, 3)) (ht : (pc : Int) + off = (tgt : Int)) (h : (-2147483648 ≤ a ∧ a ≤ 2147483647) ∧ -2147483648 ≤ b ∧ b ≤ 2147483647) (k1 : a < b → TGo E y d tgt ls st sh nn V Q) (k2 : b ≤ a → TGo E y d (pc + 3) ls st sh nn V Q) : TGo E y d pc ls (.int (iI b) :: .int (iI a) :: st) sh nn V Q := TGo.br (fun _ _ => Go.icmp_lt tgt hd ht) (fun e => k1 ((iI_lt h).mp e)) (fun e => k2 (Int.not_lt.mp fun z => e ((iI_lt h).mpr z)))
theorem TGo.if_lt {E : ET} {y : MI} {d pc : Nat} {ls : LV} {st : List Value} {sh : SHT} {nn : Nat × Nat} {V : VT} {Q : AO → SHT → Nat × Nat → VT → Prop} {a off : Int} (tgt : Nat) (hd : decode y.2.1 pc = .ok (.ifCond .lt off, 3)) (ht : (pc : Int) + off = (tgt : Int)) (h0 : -2147483648 ≤ a ∧ a ≤ 2147483647) (k1 : a < 0 → TGo E y d tgt ls st sh nn V Q) (k2 : 0 ≤ a → TGo E y d (pc + 3) ls st sh nn V Q) : TGo E y d pc ls (.int (iI a) :: st) sh nn V Q := by
  have h : (-2147483648 ≤ a ∧ a ≤ 2147483647) ∧ -2147483648 ≤ (0 : Int) ∧ (0 : Int) ≤ 2147483647 := ⟨h0, by omega⟩
  exact TGo.br (fun _ _ => Go.if_lt tgt hd ht) (fun e => k1 ((iI_lt h).mp e)) (fun e => k2 (Int.not_lt.mp fun z => e ((iI_lt h).mpr z)))
theorem TGo.icmp_ge {E : ET} {y : MI} {d pc : Nat} {ls : LV} {st : List Value} {sh : SHT} {nn : Nat × Nat} {V : VT} {Q : AO → SHT → Nat × Nat → VT → Prop} {a b off : Int} (tgt : Nat) (hd : decode y.2.1 pc = .ok (.if_icmp .ge off, 3)) (ht : (pc : Int) + off = (tgt : Int)) (h : (-2147483648 ≤ a ∧ a ≤ 2147483647) ∧ -2147483648 ≤ b ∧ b ≤ 2147483647) (k1 : b ≤ a → TGo E y d tgt ls st sh nn V Q) (k2 : a < b → TGo E y d (pc + 3) ls st sh nn V Q) : TGo E y d pc ls (.int (iI b) :: .int (iI a) :: st) sh nn V Q := TGo.br (fun _ _ => Go.icmp_ge tgt hd ht) (fun e => k1 ((iI_le ⟨h.2, h.1⟩).mp e)) (fun e => k2 (Int.not_le.mp fun z => e ((iI_le ⟨h.2, h.1⟩).mpr z)))
theorem TGo.if_ge {E : ET} {y : MI} {d pc : Nat} {ls : LV} {st : List Value} {sh : SHT} {nn : Nat × Nat} {V : VT} {Q : AO → SHT → Nat × Nat → VT → Prop} {a off : Int} (tgt : Nat) (hd : decode y.2.1 pc = .ok (.ifCond .ge off, 3)) (ht : (pc : Int) + off = (tgt : Int)) (h0 : -2147483648 ≤ a ∧ a ≤ 2147483647) (k1 : 0 ≤ a → TGo E y d tgt ls st sh nn V Q) (k2 : a < 0 → TGo E y d (pc + 3) ls st sh nn V Q) : TGo E y d pc ls (.int (iI a) :: st) sh nn V Q := by
  have h : (-2147483648 ≤ a ∧ a ≤ 2147483647) ∧ -2147483648 ≤ (0 : Int) ∧ (0 : Int) ≤ 2147483647 := ⟨h0, by omega⟩
  exact TGo.br (fun _ _ => Go.if_ge tgt hd ht) (fun e => k1 ((iI_le ⟨h.2, h.1⟩).mp e)) (fun e => k2 (Int.not_le.mp fun z => e ((iI_le ⟨h.2, h.1⟩).mpr z)))
theorem TGo.icmp_gt {E : ET} {y : MI} {d pc : Nat} {ls : LV} {st : List Value} {sh : SHT} {nn : Nat × Nat} {V : VT} {Q : AO → SHT → Nat × Nat → VT → Prop} {a b off : Int} (tgt : Nat) (hd : decode y.2.1 pc = .ok (.if_icmp .gt off, 3)) (ht : (pc : Int) + off = (tgt : Int)) (h : (-2147483648 ≤ a ∧ a ≤ 2147483647) ∧ -2147483648 ≤ b ∧ b ≤ 2147483647) (k1 : b < a → TGo E y d tgt ls st sh nn V Q) (k2 : a ≤ b → TGo E y d (pc + 3) ls st sh nn V Q) : TGo E y d pc ls (.int (iI b) :: .int (iI a) :: st) sh nn V Q := TGo.br (fun _ _ => Go.icmp_gt tgt hd ht) (fun e => k1 ((iI_lt ⟨h.2, h.1⟩).mp e)) (fun e => k2 (Int.not_lt.mp fun z => e ((iI_lt ⟨h.2, h.1⟩).mpr z)))
theorem TGo.if_gt {E : ET} {y : MI} {d pc : Nat} {ls : LV} {st : List Value} {sh : SHT} {nn : Nat × Nat} {V : VT} {Q : AO → SHT → Nat × Nat → VT → Prop} {a off : Int} (tgt : Nat) (hd : decode y.2.1 pc = .ok (.ifCond .gt off, 3)) (ht : (pc : Int) + off = (tgt : Int)) (h0 : -2147483648 ≤ a ∧ a ≤ 2147483647) (k1 : 0 < a → TGo E y d tgt ls st sh nn V Q) (k2 : a ≤ 0 → TGo E y d (pc + 3) ls st sh nn V Q) : TGo E y d pc ls (.int (iI a) :: st) sh nn V Q := by
  have h : (-2147483648 ≤ a ∧ a ≤ 2147483647) ∧ -2147483648 ≤ (0 : Int) ∧ (0 : Int) ≤ 2147483647 := ⟨h0, by omega⟩
  exact TGo.br (fun _ _ => Go.if_gt tgt hd ht) (fun e => k1 ((iI_lt ⟨h.2, h.1⟩).mp e)) (fun e => k2 (Int.not_lt.mp fun z => e ((iI_lt ⟨h.2, h.1⟩).mpr z)))
theorem TGo.icmp_le {E : ET} {y : MI} {d pc : Nat} {ls : LV} {st : List Value} {sh : SHT} {nn : Nat × Nat} {V : VT} {Q : AO → SHT → Nat × Nat → VT → Prop} {a b off : Int} (tgt : Nat) (hd : decode y.2.1 pc = .ok (.if_icmp .le off, 3)) (ht : (pc : Int) + off = (tgt : Int)) (h : (-2147483648 ≤ a ∧ a ≤ 2147483647) ∧ -2147483648 ≤ b ∧ b ≤ 2147483647) (k1 : a ≤ b → TGo E y d tgt ls st sh nn V Q) (k2 : b < a → TGo E y d (pc + 3) ls st sh nn V Q) : TGo E y d pc ls (.int (iI b) :: .int (iI a) :: st) sh nn V Q := TGo.br (fun _ _ => Go.icmp_le tgt hd ht) (fun e => k1 ((iI_le h).mp e)) (fun e => k2 (Int.not_le.mp fun z => e ((iI_le h).mpr z)))
theorem TGo.if_le {E : ET} {y : MI} {d pc : Nat} {ls : LV} {st : List Value} {sh : SHT} {nn : Nat × Nat} {V : VT} {Q : AO → SHT → Nat × Nat → VT → Prop} {a off : Int} (tgt : Nat) (hd : decode y.2.1 pc = .ok (.ifCond .le off, 3)) (ht : (pc : Int) + off = (tgt : Int)) (h0 : -2147483648 ≤ a ∧ a ≤ 2147483647) (k1 : a ≤ 0 → TGo E y d tgt ls st sh nn V Q) (k2 : 0 < a → TGo E y d (pc + 3) ls st sh nn V Q) : TGo E y d pc ls (.int (iI a) :: st) sh nn V Q := by
  have h : (-2147483648 ≤ a ∧ a ≤ 2147483647) ∧ -2147483648 ≤ (0 : Int) ∧ (0 : Int) ≤ 2147483647 := ⟨h0, by omega⟩
  exact TGo.br (fun _ _ => Go.if_le tgt hd ht) (fun e => k1 ((iI_le h).mp e)) (fun e => k2 (Int.not_le.mp fun z => e ((iI_le h).mpr z)))
theorem TGo.ifb_eq {E : ET} {y : MI} {d pc : Nat} {ls : LV} {st : List Value} {sh : SHT} {nn : Nat × Nat} {V : VT} {Q : AO → SHT → Nat × Nat → VT → Prop} {p : Prop} [Decidable p] {off : Int} (tgt : Nat) (hd : decode y.2.1 pc = .ok (.ifCond .eq off, 3)) (ht : (pc : Int) + off = (tgt : Int)) (k1 : ¬ p → TGo E y d tgt ls st sh nn V Q) (k2 : p → TGo E y d (pc + 3) ls st sh nn V Q) : TGo E y d pc ls (.int (iI (bZ p)) :: st) sh nn V Q := by
  have h : (-2147483648 ≤ bZ p ∧ bZ p ≤ 2147483647) ∧ -2147483648 ≤ (0 : Int) ∧ (0 : Int) ≤ 2147483647 := by
    rcases bZ_or p with e | e <;> rw [e] <;> omega
  exact TGo.br (fun _ _ => Go.if_eq tgt hd ht) (fun e => k1 (fun z => absurd (((iI_inj h).mp e).symm.trans (bZ_t z)) (by decide))) (fun e => k2 (Classical.byContradiction fun z => e (by rw [bZ_f z]; rfl)))
theorem TGo.ifb_ne {E : ET} {y : MI} {d pc : Nat} {ls : LV} {st : List Value} {sh : SHT} {nn : Nat × Nat} {V : VT} {Q : AO → SHT → Nat × Nat → VT → Prop} {p : Prop} [Decidable p] {off : Int} (tgt : Nat) (hd : decode y.2.1 pc = .ok (.ifCond .ne off, 3)) (ht : (pc : Int) + off = (tgt : Int)) (k1 : p → TGo E y d tgt ls st sh nn V Q) (k2 : ¬ p → TGo E y d (pc + 3) ls st sh nn V Q) : TGo E y d pc ls (.int (iI (bZ p)) :: st) sh nn V Q := by
  have h : (-2147483648 ≤ bZ p ∧ bZ p ≤ 2147483647) ∧ -2147483648 ≤ (0 : Int) ∧ (0 : Int) ≤ 2147483647 := by
    rcases bZ_or p with e | e <;> rw [e] <;> omega
  exact TGo.br (fun _ _ => Go.if_ne tgt hd ht) (fun e => k1 (Classical.byContradiction fun z => e (by rw [bZ_f z]; rfl))) (fun e => k2 (fun z => absurd (((iI_inj h).mp e).symm.trans (bZ_t z)) (by decide)))
def cmpZ (a b : Int) : Int := if b < a then 1 else if a = b then 0 else -1
theorem cmpZ_cases (a b : Int) : (b < a ∧ cmpZ a b = 1) ∨ (a = b ∧ cmpZ a b = 0) ∨ (a < b ∧ cmpZ a b = -1) := by
  unfold cmpZ
  by_cases e : b < a
  · exact Or.inl ⟨e, if_pos e⟩
  · by_cases e2 : a = b
    · exact Or.inr (Or.inl ⟨e2, by rw [if_neg e, if_pos e2]⟩)
    · exact Or.inr (Or.inr ⟨by omega, by rw [if_neg e, if_neg e2]⟩)
theorem lg_cmpZ {a b : Int} (h : (-9223372036854775808 ≤ a ∧ a ≤ 9223372036854775807) ∧ -9223372036854775808 ≤ b ∧ b ≤ 9223372036854775807) : lg_cmp (lI a) (lI b) = iI (cmpZ a b) := by
  unfold lg_cmp cmpZ
  have h1 : lI a > lI b ↔ b < a := lI_lt ⟨h.2, h.1⟩
  by_cases e : b < a
  · rw [if_pos (h1.mpr e), if_pos e]; rfl
  · rw [if_neg (fun z => e (h1.mp z)), if_neg e]
    by_cases e2 : a = b
    · rw [if_pos ((lI_inj h).mpr e2), if_pos e2]; rfl
    · rw [if_neg (fun z => e2 ((lI_inj h).mp z)), if_neg e2]; rfl
theorem TGo.lc_eq {E : ET} {y : MI} {d pc : Nat} {ls : LV} {st : List Value} {sh : SHT} {nn : Nat × Nat} {V : VT} {Q : AO → SHT → Nat × Nat → VT → Prop} {a b off : Int} (tgt : Nat) (hd : decode y.2.1 pc = .ok (.lcmp, 1)) (hd2 : decode y.2.1 (pc + 1) = .ok (.ifCond .eq off, 3)) (ht : ((pc + 1 : Nat) : Int) + off = (tgt : Int)) (h : (-9223372036854775808 ≤ a ∧ a ≤ 9223372036854775807) ∧ -9223372036854775808 ≤ b ∧ b ≤ 9223372036854775807) (k1 : a = b → TGo E y d tgt ls st sh nn V Q) (k2 : a ≠ b → TGo E y d (pc + 4) ls st sh nn V Q) : TGo E y d pc ls (.long (lI b) :: .long (lI a) :: st) sh nn V Q := by
  have r := cmpZ_cases a b
  exact TGo.pure (fun _ _ k => Go.lcmp hd (by rw [lg_cmpZ h]; exact k)) (TGo.if_eq tgt hd2 ht (by omega) (fun e => k1 (by omega)) (fun e => k2 (by omega)))
theorem TGo.lc_ne {E : ET} {y : MI} {d pc : Nat} {ls : LV} {st : List Value} {sh : SHT} {nn : Nat × Nat} {V : VT} {Q : AO → SHT → Nat × Nat → VT → Prop} {a b off : Int} (tgt : Nat) (hd : decode y.2.1 pc = .ok (.lcmp, 1)) (hd2 : decode y.2.1 (pc + 1) = .ok (.ifCond .ne off, 3)) (ht : ((pc + 1 : Nat) : Int) + off = (tgt : Int)) (h : (-9223372036854775808 ≤ a ∧ a ≤ 9223372036854775807) ∧ -9223372036854775808 ≤ b ∧ b ≤ 9223372036854775807) (k1 : a ≠ b → TGo E y d tgt ls st sh nn V Q) (k2 : a = b → TGo E y d (pc + 4) ls st sh nn V Q) : TGo E y d pc ls (.long (lI b) :: .long (lI a) :: st) sh nn V Q := by
  have r := cmpZ_cases a b
  exact TGo.pure (fun _ _ k => Go.lcmp hd (by rw [lg_cmpZ h]; exact k)) (TGo.if_ne tgt hd2 ht (by omega) (fun e => k1 (by omega)) (fun e => k2 (by omega)))
theorem TGo.lc_lt {E : ET} {y : MI} {d pc : Nat} {ls : LV} {st : List Value} {sh : SHT} {nn : Nat × Nat} {V : VT} {Q : AO → SHT → Nat × Nat → VT → Prop} {a b off : Int} (tgt : Nat) (hd : decode y.2.1 pc = .ok (.lcmp, 1)) (hd2 : decode y.2.1 (pc + 1) = .ok (.ifCond .lt off, 3)) (ht : ((pc + 1 : Nat) : Int) + off = (tgt : Int)) (h : (-9223372036854775808 ≤ a ∧ a ≤ 9223372036854775807) ∧ -9223372036854775808 ≤ b ∧ b ≤ 9223372036854775807) (k1 : a < b → TGo E y d tgt ls st sh nn V Q) (k2 : b ≤ a → TGo E y d (pc + 4) ls st sh nn V Q) : TGo E y d pc ls (.long (lI b) :: .long (lI a) :: st) sh nn V Q := by
  have r := cmpZ_cases a b
  exact TGo.pure (fun _ _ k => Go.lcmp hd (by rw [lg_cmpZ h]; exact k)) (TGo.if_lt tgt hd2 ht (by omega) (fun e => k1 (by omega)) (fun e => k2 (by omega)))
theorem TGo.lc_ge {E : ET} {y : MI} {d pc : Nat} {ls : LV} {st : List Value} {sh : SHT} {nn : Nat × Nat} {V : VT} {Q : AO → SHT → Nat × Nat → VT → Prop} {a b off : Int} (tgt : Nat) (hd : decode y.2.1 pc = .ok (.lcmp, 1)) (hd2 : decode y.2.1 (pc + 1) = .ok (.ifCond .ge off, 3)) (ht : ((pc + 1 : Nat) : Int) + off = (tgt : Int)) (h : (-9223372036854775808 ≤ a ∧ a ≤ 9223372036854775807) ∧ -9223372036854775808 ≤ b ∧ b ≤ 9223372036854775807) (k1 : b ≤ a → TGo E y d tgt ls st sh nn V Q) (k2 : a < b → TGo E y d (pc + 4) ls st sh nn V Q) : TGo E y d pc ls (.long (lI b) :: .long (lI a) :: st) sh nn V Q := by
  have r := cmpZ_cases a b
  exact TGo.pure (fun _ _ k => Go.lcmp hd (by rw [lg_cmpZ h]; exact k)) (TGo.if_ge tgt hd2 ht (by omega) (fun e => k1 (by omega)) (fun e => k2 (by omega)))
theorem TGo.lc_gt {E : ET} {y : MI} {d pc : Nat} {ls : LV} {st : List Value} {sh : SHT} {nn : Nat × Nat} {V : VT} {Q : AO → SHT → Nat × Nat → VT → Prop} {a b off : Int} (tgt : Nat) (hd : decode y.2.1 pc = .ok (.lcmp, 1)) (hd2 : decode y.2.1 (pc + 1) = .ok (.ifCond .gt off, 3)) (ht : ((pc + 1 : Nat) : Int) + off = (tgt : Int)) (h : (-9223372036854775808 ≤ a ∧ a ≤ 9223372036854775807) ∧ -9223372036854775808 ≤ b ∧ b ≤ 9223372036854775807) (k1 : b < a → TGo E y d tgt ls st sh nn V Q) (k2 : a ≤ b → TGo E y d (pc + 4) ls st sh nn V Q) : TGo E y d pc ls (.long (lI b) :: .long (lI a) :: st) sh nn V Q := by
  have r := cmpZ_cases a b
  exact TGo.pure (fun _ _ k => Go.lcmp hd (by rw [lg_cmpZ h]; exact k)) (TGo.if_gt tgt hd2 ht (by omega) (fun e => k1 (by omega)) (fun e => k2 (by omega)))
theorem TGo.lc_le {E : ET} {y : MI} {d pc : Nat} {ls : LV} {st : List Value} {sh : SHT} {nn : Nat × Nat} {V : VT} {Q : AO → SHT → Nat × Nat → VT → Prop} {a b off : Int} (tgt : Nat) (hd : decode y.2.1 pc = .ok (.lcmp, 1)) (hd2 : decode y.2.1 (pc + 1) = .ok (.ifCond .le off, 3)) (ht : ((pc + 1 : Nat) : Int) + off = (tgt : Int)) (h : (-9223372036854775808 ≤ a ∧ a ≤ 9223372036854775807) ∧ -9223372036854775808 ≤ b ∧ b ≤ 9223372036854775807) (k1 : a ≤ b → TGo E y d tgt ls st sh nn V Q) (k2 : b < a → TGo E y d (pc + 4) ls st sh nn V Q) : TGo E y d pc ls (.long (lI b) :: .long (lI a) :: st) sh nn V Q := by
  have r := cmpZ_cases a b
  exact TGo.pure (fun _ _ k => Go.lcmp hd (by rw [lg_cmpZ h]; exact k)) (TGo.if_le tgt hd2 ht (by omega) (fun e => k1 (by omega)) (fun e => k2 (by omega)))
theorem TGo.ifnull {E : ET} {y : MI} {d pc : Nat} {ls : LV} {st : List Value} {sh : SHT} {nn : Nat × Nat} {V : VT} {Q : AO → SHT → Nat × Nat → VT → Prop} {r : Option Nat} {off : Int} (tgt : Nat) (hd : decode y.2.1 pc = .ok (.ifnull off, 3)) (ht : (pc : Int) + off = (tgt : Int)) (k1 : r = none → TGo E y d tgt ls st sh nn V Q) (k2 : ∀ a, r = some a → TGo E y d (pc + 3) ls st sh nn V Q) : TGo E y d pc ls (va_rf r :: st) sh nn V Q := fun σ hσ => Go.ifnull tgt hd ht (fun h => k1 h σ hσ) (fun a h => k2 a h σ hσ)
theorem TGo.ifnonnull {E : ET} {y : MI} {d pc : Nat} {ls : LV} {st : List Value} {sh : SHT} {nn : Nat × Nat} {V : VT} {Q : AO → SHT → Nat × Nat → VT → Prop} {r : Option Nat} {off : Int} (tgt : Nat) (hd : decode y.2.1 pc = .ok (.ifnonnull off, 3)) (ht : (pc : Int) + off = (tgt : Int)) (k1 : ∀ a, r = some a → TGo E y d tgt ls st sh nn V Q) (k2 : r = none → TGo E y d (pc + 3) ls st sh nn V Q) : TGo E y d pc ls (va_rf r :: st) sh nn V Q := fun σ hσ => Go.ifnonnull tgt hd ht (fun a h => k1 a h σ hσ) (fun h => k2 h σ hσ)
theorem TGo.acmp_eq {E : ET} {y : MI} {d pc : Nat} {ls : LV} {st : List Value} {sh : SHT} {nn : Nat × Nat} {V : VT} {Q : AO → SHT → Nat × Nat → VT → Prop} {rx ry : Option Nat} {off : Int} (tgt : Nat) (hd : decode y.2.1 pc = .ok (.if_acmp .eq off, 3)) (ht : (pc : Int) + off = (tgt : Int)) (k1 : rx = ry → TGo E y d tgt ls st sh nn V Q) (k2 : ¬ rx = ry → TGo E y d (pc + 3) ls st sh nn V Q) : TGo E y d pc ls (va_rf ry :: va_rf rx :: st) sh nn V Q := TGo.br (fun _ _ => Go.acmp_eq tgt hd ht) k1 k2
theorem TGo.acmp_ne {E : ET} {y : MI} {d pc : Nat} {ls : LV} {st : List Value} {sh : SHT} {nn : Nat × Nat} {V : VT} {Q : AO → SHT → Nat × Nat → VT → Prop} {rx ry : Option Nat} {off : Int} (tgt : Nat) (hd : decode y.2.1 pc = .ok (.if_acmp .ne off, 3)) (ht : (pc : Int) + off = (tgt : Int)) (k1 : ¬ rx = ry → TGo E y d tgt ls st sh nn V Q) (k2 : rx = ry → TGo E y d (pc + 3) ls st sh nn V Q) : TGo E y d pc ls (va_rf ry :: va_rf rx :: st) sh nn V Q := TGo.br (fun _ _ => Go.acmp_ne tgt hd ht) k1 k2
theorem TGo.ldc {E : ET} {y : MI} {d pc : Nat} {ls : LV} {st : List Value} {sh : SHT} {nn : Nat × Nat} {V : VT} {Q : AO → SHT → Nat × Nat → VT → Prop} {idx : Nat} {w : Int32} (v : Int) (hd : decode y.2.1 pc = .ok (.ldc idx, 2)) (hw : Cond.constant y.1.cls idx w ∈ lw_all) (hv : w = iI v) (k : TGo E y d (pc + 2) ls (.int (iI v) :: st) sh nn V Q) : TGo E y d pc ls st sh nn V Q := TGo.pure (fun _ _ k => Go.ldc _ hd hw (by rw [hv]; exact k)) k
theorem TGo.ldcw {E : ET} {y : MI} {d pc : Nat} {ls : LV} {st : List Value} {sh : SHT} {nn : Nat × Nat} {V : VT} {Q : AO → SHT → Nat × Nat → VT → Prop} {idx : Nat} {w : Int32} (v : Int) (hd : decode y.2.1 pc = .ok (.ldc_w idx, 3)) (hw : Cond.constant y.1.cls idx w ∈ lw_all) (hv : w = iI v) (k : TGo E y d (pc + 3) ls (.int (iI v) :: st) sh nn V Q) : TGo E y d pc ls st sh nn V Q := TGo.pure (fun _ _ k => Go.ldcw _ hd hw (by rw [hv]; exact k)) k
theorem TGo.ldc2 {E : ET} {y : MI} {d pc : Nat} {ls : LV} {st : List Value} {sh : SHT} {nn : Nat × Nat} {V : VT} {Q : AO → SHT → Nat × Nat → VT → Prop} {idx : Nat} {w : Int64} (v : Int) (hd : decode y.2.1 pc = .ok (.ldc2_w idx, 3)) (hw : Cond.constantLong y.1.cls idx w ∈ lw_all) (hv : w = lI v) (k : TGo E y d (pc + 3) ls (.long (lI v) :: st) sh nn V Q) : TGo E y d pc ls st sh nn V Q := TGo.pure (fun _ _ k => Go.ldc2 _ hd hw (by rw [hv]; exact k)) k
theorem TGo.ldcS {E : ET} {y : MI} {d pc : Nat} {ls : LV} {st : List Value} {sh : SHT} {nn : Nat × Nat} {V : VT} {Q : AO → SHT → Nat × Nat → VT → Prop} {idx : Nat} {tx : String} (i : Nat) (hd : decode y.2.1 pc = .ok (.ldc idx, 2)) (hw : strL[i]? = some (y.1.cls, idx, tx)) (k : TGo E y d (pc + 2) ls (.ref (eS E (10 + i)) :: st) sh nn V Q) : TGo E y d pc ls st sh nn V Q := TGo.pure (fun _ _ => Go.ldcS i hd hw) k
theorem TGo.tabIn {E : ET} {y : MI} {d pc : Nat} {ls : LV} {st : List Value} {sh : SHT} {nn : Nat × Nat} {V : VT} {Q : AO → SHT → Nat × Nat → VT → Prop} {dflt lo hi : Int} {offs : Array Int} {len : Nat} {z off : Int} (tgt : Nat) (hd : decode y.2.1 pc = .ok (.tableswitch dflt lo hi offs, len)) (hz : -2147483648 ≤ z ∧ z ≤ 2147483647) (h1 : lo ≤ z ∧ z ≤ hi) (ho : offs[(z - lo).toNat]? = some off) (ht : (pc : Int) + off = (tgt : Int)) (k : TGo E y d tgt ls st sh nn V Q) : TGo E y d pc ls (.int (iI z) :: st) sh nn V Q := TGo.pure (fun _ _ => Go.tabIn tgt hd (by rw [iI_to hz]; omega) (by rw [iI_to hz]; omega) (by rw [iI_to hz]; exact ho) ht) k
theorem TGo.tabOut {E : ET} {y : MI} {d pc : Nat} {ls : LV} {st : List Value} {sh : SHT} {nn : Nat × Nat} {V : VT} {Q : AO → SHT → Nat × Nat → VT → Prop} {dflt lo hi : Int} {offs : Array Int} {len : Nat} {z : Int} (tgt : Nat) (hd : decode y.2.1 pc = .ok (.tableswitch dflt lo hi offs, len)) (hz : -2147483648 ≤ z ∧ z ≤ 2147483647) (h : z < lo ∨ hi < z) (ht : (pc : Int) + dflt = (tgt : Int)) (k : TGo E y d tgt ls st sh nn V Q) : TGo E y d pc ls (.int (iI z) :: st) sh nn V Q := TGo.pure (fun _ _ => Go.tabOut tgt hd (by rw [iI_to hz]; exact h) ht) k
theorem TGo.ends {E : ET} {y : MI} {d pc : Nat} {ls : LV} {st : List Value} {sh : SHT} {nn : Nat × Nat} {V : VT} {Q : AO → SHT → Nat × Nat → VT → Prop} {v : Option Value} (hr : RetAt y pc v st) (hQ : Q (.inl v) sh nn V) : TGo E y d pc ls st sh nn V Q := fun _ hσ => Go.ends hr ⟨sh, nn, V, hσ, TExt.rf, TSame.rf, hQ⟩
theorem TGo.iret {E : ET} {y : MI} {d pc : Nat} {ls : LV} {sh : SHT} {nn : Nat × Nat} {V : VT} {Q : AO → SHT → Nat × Nat → VT → Prop} {x : Int32} (hd : decode y.2.1 pc = .ok (.ireturn, 1)) (hr : y.2.2.2.1 = some .int) (hQ : Q (.inl (some (.int x))) sh nn V) : TGo E y d pc ls [.int x] sh nn V Q := TGo.ends (Or.inl ⟨x, .int, rfl, rfl, hd, hr, rfl⟩) hQ
theorem TGo.zret {E : ET} {y : MI} {d pc : Nat} {ls : LV} {sh : SHT} {nn : Nat × Nat} {V : VT} {Q : AO → SHT → Nat × Nat → VT → Prop} {a : Int} (hd : decode y.2.1 pc = .ok (.ireturn, 1)) (hr : y.2.2.2.1 = some .boolean) (ha : a = 0 ∨ a = 1) (hQ : Q (.inl (some (.int (iI a)))) sh nn V) : TGo E y d pc ls [.int (iI a)] sh nn V Q := TGo.ends (Or.inl ⟨iI a, .boolean, rfl, rfl, hd, hr, by rcases ha with rfl | rfl <;> rfl⟩) hQ
theorem TGo.kret {E : ET} {y : MI} {d pc : Nat} {ls : LV} {sh : SHT} {nn : Nat × Nat} {V : VT} {Q : AO → SHT → Nat × Nat → VT → Prop} {x : Int32} {ty : FieldType} (hd : decode y.2.1 pc = .ok (.ireturn, 1)) (hr : y.2.2.2.1 = some ty) (hx : narrow ty (.int x) = .int x) (hQ : Q (.inl (some (.int x))) sh nn V) : TGo E y d pc ls [.int x] sh nn V Q := TGo.ends (Or.inl ⟨x, ty, rfl, rfl, hd, hr, hx⟩) hQ
theorem TGo.lret {E : ET} {y : MI} {d pc : Nat} {ls : LV} {sh : SHT} {nn : Nat × Nat} {V : VT} {Q : AO → SHT → Nat × Nat → VT → Prop} {x : Int64} (hd : decode y.2.1 pc = .ok (.lreturn, 1)) (hr : y.2.2.2.1 = some .long) (hQ : Q (.inl (some (.long x))) sh nn V) : TGo E y d pc ls [.long x] sh nn V Q := TGo.ends (Or.inr (Or.inl ⟨x, rfl, rfl, hd, hr⟩)) hQ
theorem TGo.vret {E : ET} {y : MI} {d pc : Nat} {ls : LV} {sh : SHT} {nn : Nat × Nat} {V : VT} {Q : AO → SHT → Nat × Nat → VT → Prop} (hd : decode y.2.1 pc = .ok (.return_, 1)) (hr : y.2.2.2.1 = none) (hQ : Q (.inl none) sh nn V) : TGo E y d pc ls [] sh nn V Q := TGo.ends (Or.inr (Or.inr (Or.inl ⟨rfl, rfl, hd, hr⟩))) hQ
theorem TGo.aret {E : ET} {y : MI} {d pc : Nat} {ls : LV} {sh : SHT} {nn : Nat × Nat} {V : VT} {Q : AO → SHT → Nat × Nat → VT → Prop} {a : Nat} {n : String} (hd : decode y.2.1 pc = .ok (.areturn, 1)) (hr : y.2.2.2.1 = some (.object n)) (hQ : Q (.inl (some (.ref a))) sh nn V) : TGo E y d pc ls [.ref a] sh nn V Q := fun _ hσ => Go.aret hd hr ⟨sh, nn, V, hσ, TExt.rf, TSame.rf, hQ⟩
theorem TGo.aretA {E : ET} {y : MI} {d pc : Nat} {ls : LV} {sh : SHT} {nn : Nat × Nat} {V : VT} {Q : AO → SHT → Nat × Nat → VT → Prop} {a : Nat} {t : FieldType} (hd : decode y.2.1 pc = .ok (.areturn, 1)) (hr : y.2.2.2.1 = some (.array t)) (hQ : Q (.inl (some (.ref a))) sh nn V) : TGo E y d pc ls [.ref a] sh nn V Q := fun _ hσ => Go.aretA hd hr ⟨sh, nn, V, hσ, TExt.rf, TSame.rf, hQ⟩
theorem TGo.aretq {E : ET} {y : MI} {d pc : Nat} {ls : LV} {sh : SHT} {nn : Nat × Nat} {V : VT} {Q : AO → SHT → Nat × Nat → VT → Prop} {r : Option Nat} {n : String} (hd : decode y.2.1 pc = .ok (.areturn, 1)) (hr : y.2.2.2.1 = some (.object n)) (hQ : Q (.inl (some (va_rf r))) sh nn V) : TGo E y d pc ls [va_rf r] sh nn V Q := fun _ hσ => Go.aretq hd hr ⟨sh, nn, V, hσ, TExt.rf, TSame.rf, hQ⟩
theorem THolds.at {sh : SHT} {nn : Nat × Nat} {V : VT} {σ : AH} (h : THolds sh nn V σ) {a : Nat} {s : Nat × Nat} (hs : sh a = s) (h0 : s.1 ≠ 0) : σ.1 a = tCell V a s := by
  subst hs; exact h.2.1 a h0
theorem THolds.lt {sh : SHT} {nn : Nat × Nat} {V : VT} {σ : AH} (h : THolds sh nn V σ) {a : Nat} (h0 : (sh a).1 ≠ 0) : a < nn.1 := Nat.not_le.mp fun z => h0 (h.2.2 a z).1
theorem tFs_at {V : VT} {a t k : Nat} (hk : k < tnL.getD (tci t) 0) : (tFs V a t)[k]? = some (tVal V a t k) := by
  unfold tFs
  rw [List.getElem?_map, List.getElem?_range hk]
  rfl
theorem tFs_len {V : VT} {a t : Nat} : (tFs V a t).length = tnL.getD (tci t) 0 := by simp [tFs]
theorem tFs_set {V V' : VT} {a t k : Nat} {v : Value} (hv : tVal V' a t k = v) (hj : ∀ j, j ≠ k → tVal V' a t j = tVal V a t j) : (tFs V a t).set k v = tFs V' a t := by
  apply List.ext_getElem?
  intro j
  by_cases hl : j < tnL.getD (tci t) 0
  · rw [tFs_at hl, List.getElem?_set, tFs_at hl]
    by_cases hkj : k = j
    · subst hkj
      rw [if_pos rfl, if_pos (by rw [tFs_len]; exact hl), hv]
    · rw [if_neg hkj, hj j (fun z => hkj z.symm)]
  · rw [List.getElem?_eq_none (by rw [List.length_set, tFs_len]; omega), List.getElem?_eq_none (by rw [tFs_len]; omega)]
/-- a cell is changed -/
theorem THolds.wr {sh : SHT} {nn : Nat × Nat} {V V' : VT} {σ : AH} {a : Nat} {s : Nat × Nat} {c : AE} (h : THolds sh nn V σ) (hs : sh a = s) (h0 : s.1 ≠ 0) (hc : tCell V' a s = some c) (hV : ∀ b, b ≠ a → V'.1 b = V.1 b ∧ V'.2.1 b = V.2.1 b ∧ V'.2.2 b = V.2.2 b) : THolds sh nn V' (sput σ a c) ∧ TSame sh nn σ (sput σ a c) := by
  subst hs
  refine ⟨⟨h.1, fun b hb => ?_, fun b hb => ?_⟩, fun b _ hb0 => ?_⟩
  · show va_up σ.1 a (some c) b = _
    by_cases e : b = a
    · subst e
      simp only [va_up, if_true]
      exact hc.symm
    · simp only [va_up, if_neg e]
      have e2 := hV b e
      rw [h.2.1 b hb, tCell_eq e2.1 e2.2.1 e2.2.2]
  · have e : b ≠ a := fun z => by
      subst z
      exact h0 (h.2.2 b hb).1
    have e2 := hV b e
    have e3 := h.2.2 b hb
    rw [e2.1, e2.2.1, e2.2.2]
    exact e3
  · show va_up σ.1 a (some c) b = _
    have e : b ≠ a := fun z => by
      subst z
      exact h0 hb0
    simp only [va_up, if_neg e]
theorem u2_V {α : Type} {f : Nat → Int → α} {a : Nat} {k : Int} {v : α} {b : Nat} (h : b ≠ a) : u2 f a k v b = f b := u2_a h
abbrev vI (V : VT) (a : Nat) (k v : Int) : VT := (u2 V.1 a k v, V.2)
abbrev vL (V : VT) (a : Nat) (k v : Int) : VT := (V.1, u2 V.2.1 a k v, V.2.2)
abbrev vR (V : VT) (a : Nat) (k : Int) (v : Option Nat) : VT := (V.1, V.2.1, u2 V.2.2 a k v)
theorem tCell_o {V : VT} {a t : Nat} (h : Nat.ble 8 t = true) : tCell V a (t, 0) = some (.inr (tci t, tFs V a t)) := by
  have h1 := Nat.le_of_ble_eq_true h
  obtain ⟨u, rfl⟩ : ∃ u, t = u + 8 := ⟨t - 8, by omega⟩
  rfl
theorem tVal_0 {V : VT} {a t k : Nat} (h : tk t k = 0) : tVal V a t k = .int (iI (V.1 a k)) := by unfold tVal; rw [h]
theorem tVal_1 {V : VT} {a t k : Nat} (h : tk t k = 1) : tVal V a t k = .long (lI (V.2.1 a k)) := by unfold tVal; rw [h]
theorem tVal_2 {V : VT} {a t k : Nat} (h : tk t k = 2) : tVal V a t k = va_rf (V.2.2 a k) := by unfold tVal; rw [h]
theorem tVal_ne {V V' : VT} {a t k : Nat} (h1 : V'.1 a k = V.1 a k) (h2 : V'.2.1 a k = V.2.1 a k) (h3 : V'.2.2 a k = V.2.2 a k) : tVal V' a t k = tVal V a t k := by unfold tVal; rw [h1, h2, h3]
theorem TGo.getI {E : ET} {y : MI} {d pc : Nat} {ls : LV} {st : List Value} {sh : SHT} {nn : Nat × Nat} {V : VT} {Q : AO → SHT → Nat × Nat → VT → Prop} {idx a t : Nat} (k : Nat) (K : Int) (hs : sh a = (t, 0)) (h8 : Nat.ble 8 t = true) (hF : FG y.1.cls idx (tci t) k) (hd : decode y.2.1 pc = .ok (.getfield idx, 3)) (hk : Nat.blt k (tnL.getD (tci t) 0) = true) (h0 : tk t k = 0) (hK : (k : Int) = K) (kk : TGo E y d (pc + 3) ls (.int (iI (V.1 a K)) :: st) sh nn V Q) : TGo E y d pc ls (.ref a :: st) sh nn V Q := by
  subst hK
  exact TGo.rd (fun σ Q' hσ kk => Go.getf hF hd ((hσ.at hs (by have := Nat.le_of_ble_eq_true h8; show t ≠ 0; omega)).trans (tCell_o h8)) (by rw [tFs_at (by simpa using hk), tVal_0 h0]) kk) kk
theorem TGo.getJ {E : ET} {y : MI} {d pc : Nat} {ls : LV} {st : List Value} {sh : SHT} {nn : Nat × Nat} {V : VT} {Q : AO → SHT → Nat × Nat → VT → Prop} {idx a t : Nat} (k : Nat) (K : Int) (hs : sh a = (t, 0)) (h8 : Nat.ble 8 t = true) (hF : FG y.1.cls idx (tci t) k) (hd : decode y.2.1 pc = .ok (.getfield idx, 3)) (hk : Nat.blt k (tnL.getD (tci t) 0) = true) (h0 : tk t k = 1) (hK : (k : Int) = K) (kk : TGo E y d (pc + 3) ls (.long (lI (V.2.1 a K)) :: st) sh nn V Q) : TGo E y d pc ls (.ref a :: st) sh nn V Q := by
  subst hK
  exact TGo.rd (fun σ Q' hσ kk => Go.getf hF hd ((hσ.at hs (by have := Nat.le_of_ble_eq_true h8; show t ≠ 0; omega)).trans (tCell_o h8)) (by rw [tFs_at (by simpa using hk), tVal_1 h0]) kk) kk
theorem TGo.getR {E : ET} {y : MI} {d pc : Nat} {ls : LV} {st : List Value} {sh : SHT} {nn : Nat × Nat} {V : VT} {Q : AO → SHT → Nat × Nat → VT → Prop} {idx a t : Nat} (k : Nat) (K : Int) (hs : sh a = (t, 0)) (h8 : Nat.ble 8 t = true) (hF : FG y.1.cls idx (tci t) k) (hd : decode y.2.1 pc = .ok (.getfield idx, 3)) (hk : Nat.blt k (tnL.getD (tci t) 0) = true) (h0 : tk t k = 2) (hK : (k : Int) = K) (kk : TGo E y d (pc + 3) ls (va_rf (V.2.2 a K) :: st) sh nn V Q) : TGo E y d pc ls (.ref a :: st) sh nn V Q := by
  subst hK
  exact TGo.rd (fun σ Q' hσ kk => Go.getf hF hd ((hσ.at hs (by have := Nat.le_of_ble_eq_true h8; show t ≠ 0; omega)).trans (tCell_o h8)) (by rw [tFs_at (by simpa using hk), tVal_2 h0]) kk) kk
theorem TGo.getS {E : ET} {y : MI} {d pc : Nat} {ls : LV} {st : List Value} {sh : SHT} {nn : Nat × Nat} {V : VT} {Q : AO → SHT → Nat × Nat → VT → Prop} {idx a t : Nat} (k : Nat) (K : Int) (b : Nat) (hs : sh a = (t, 0)) (h8 : Nat.ble 8 t = true) (hF : FG y.1.cls idx (tci t) k) (hd : decode y.2.1 pc = .ok (.getfield idx, 3)) (hk : Nat.blt k (tnL.getD (tci t) 0) = true) (h0 : tVal V a t k = .ref b) (hK : (k : Int) = K) (kk : TGo E y d (pc + 3) ls (.ref b :: st) sh nn V Q) : TGo E y d pc ls (.ref a :: st) sh nn V Q := by
  subst hK
  exact TGo.rd (fun σ Q' hσ kk => Go.getf hF hd ((hσ.at hs (by have := Nat.le_of_ble_eq_true h8; show t ≠ 0; omega)).trans (tCell_o h8)) (by rw [tFs_at (by simpa using hk), h0]) kk) kk
theorem TGo.getQ {E : ET} {y : MI} {d pc : Nat} {ls : LV} {st : List Value} {sh : SHT} {nn : Nat × Nat} {V : VT} {Q : AO → SHT → Nat × Nat → VT → Prop} {idx a t : Nat} (k : Nat) (K : Int) (b : Nat) (hs : sh a = (t, 0)) (h8 : Nat.ble 8 t = true) (hF : FG y.1.cls idx (tci t) k) (hd : decode y.2.1 pc = .ok (.getfield idx, 3)) (hk : Nat.blt k (tnL.getD (tci t) 0) = true) (h0 : tk t k = 2 ∧ V.2.2 a K = some b) (hK : (k : Int) = K) (kk : TGo E y d (pc + 3) ls (.ref b :: st) sh nn V Q) : TGo E y d pc ls (.ref a :: st) sh nn V Q := by
  subst hK
  exact TGo.rd (fun σ Q' hσ kk => Go.getf hF hd ((hσ.at hs (by have := Nat.le_of_ble_eq_true h8; show t ≠ 0; omega)).trans (tCell_o h8)) (by rw [tFs_at (by simpa using hk), tVal_2 h0.1, h0.2, va_rf]) kk) kk
theorem TGo.putI {E : ET} {y : MI} {d pc : Nat} {ls : LV} {st : List Value} {sh : SHT} {nn : Nat × Nat} {V : VT} {Q : AO → SHT → Nat × Nat → VT → Prop} {v : Int} {idx a t : Nat} (k : Nat) (K : Int) (hs : sh a = (t, 0)) (h8 : Nat.ble 8 t = true) (hF : FP y.1.cls idx (tci t) k .int) (hd : decode y.2.1 pc = .ok (.putfield idx, 3)) (hk : Nat.blt k (tnL.getD (tci t) 0) = true) (h0 : tk t k = 0) (hK : (k : Int) = K) (kk : TGo E y d (pc + 3) ls st sh nn (vI V a K v) Q) : TGo E y d pc ls (.int (iI v) :: .ref a :: st) sh nn V Q := by
  subst hK
  have h9 : (t, 0).1 ≠ 0 := by have := Nat.le_of_ble_eq_true h8; show t ≠ 0; omega
  refine TGo.wr (fun σ Q' hσ k2 => Go.putf hF hd ((hσ.at hs h9).trans (tCell_o h8)) (by rw [tFs_len]; simpa using hk) rfl rfl ?_) kk
  have e : (tFs V a t).set k (.int (iI v)) = tFs (vI V a k v) a t := tFs_set (by rw [tVal_0 h0]; show Value.int (iI (u2 V.1 a k v a k)) = _; rw [u2_s]) (fun j hj => tVal_ne (by try first | rfl | exact u2_n (Or.inr (by omega))) (by try first | rfl | exact u2_n (Or.inr (by omega))) (by try first | rfl | exact u2_n (Or.inr (by omega))))
  rw [e]
  have h := hσ.wr (V' := (vI V a k v)) hs h9 (tCell_o h8) (fun b hb => ⟨by first | rfl | exact u2_a hb, by first | rfl | exact u2_a hb, by first | rfl | exact u2_a hb⟩)
  exact k2 _ h.1 TExt.rf h.2
theorem TGo.putZ {E : ET} {y : MI} {d pc : Nat} {ls : LV} {st : List Value} {sh : SHT} {nn : Nat × Nat} {V : VT} {Q : AO → SHT → Nat × Nat → VT → Prop} {v : Int} {idx a t : Nat} (k : Nat) (K : Int) (hs : sh a = (t, 0)) (h8 : Nat.ble 8 t = true) (hF : FP y.1.cls idx (tci t) k .boolean) (hd : decode y.2.1 pc = .ok (.putfield idx, 3)) (hk : Nat.blt k (tnL.getD (tci t) 0) = true) (h0 : tk t k = 0 ∧ (v = 0 ∨ v = 1)) (hK : (k : Int) = K) (kk : TGo E y d (pc + 3) ls st sh nn (vI V a K v) Q) : TGo E y d pc ls (.int (iI v) :: .ref a :: st) sh nn V Q := by
  subst hK
  have h9 : (t, 0).1 ≠ 0 := by have := Nat.le_of_ble_eq_true h8; show t ≠ 0; omega
  refine TGo.wr (fun σ Q' hσ k2 => Go.putf hF hd ((hσ.at hs h9).trans (tCell_o h8)) (by rw [tFs_len]; simpa using hk) (by rcases h0.2 with rfl | rfl <;> rfl) (by rcases h0.2 with rfl | rfl <;> rfl) ?_) kk
  have e : (tFs V a t).set k (.int (iI v)) = tFs (vI V a k v) a t := tFs_set (by rw [tVal_0 h0.1]; show Value.int (iI (u2 V.1 a k v a k)) = _; rw [u2_s]) (fun j hj => tVal_ne (by try first | rfl | exact u2_n (Or.inr (by omega))) (by try first | rfl | exact u2_n (Or.inr (by omega))) (by try first | rfl | exact u2_n (Or.inr (by omega))))
  rw [e]
  have h := hσ.wr (V' := (vI V a k v)) hs h9 (tCell_o h8) (fun b hb => ⟨by first | rfl | exact u2_a hb, by first | rfl | exact u2_a hb, by first | rfl | exact u2_a hb⟩)
  exact k2 _ h.1 TExt.rf h.2
theorem TGo.putC {E : ET} {y : MI} {d pc : Nat} {ls : LV} {st : List Value} {sh : SHT} {nn : Nat × Nat} {V : VT} {Q : AO → SHT → Nat × Nat → VT → Prop} {v : Int} {idx a t : Nat} (k : Nat) (K : Int) (hs : sh a = (t, 0)) (h8 : Nat.ble 8 t = true) (hF : FP y.1.cls idx (tci t) k .char) (hd : decode y.2.1 pc = .ok (.putfield idx, 3)) (hk : Nat.blt k (tnL.getD (tci t) 0) = true) (h0 : tk t k = 0 ∧ narrow .char (.int (iI v)) = .int (iI v) ∧ fits .char (.int (iI v)) = true) (hK : (k : Int) = K) (kk : TGo E y d (pc + 3) ls st sh nn (vI V a K v) Q) : TGo E y d pc ls (.int (iI v) :: .ref a :: st) sh nn V Q := by
  subst hK
  have h9 : (t, 0).1 ≠ 0 := by have := Nat.le_of_ble_eq_true h8; show t ≠ 0; omega
  refine TGo.wr (fun σ Q' hσ k2 => Go.putf hF hd ((hσ.at hs h9).trans (tCell_o h8)) (by rw [tFs_len]; simpa using hk) h0.2.1 h0.2.2 ?_) kk
  have e : (tFs V a t).set k (.int (iI v)) = tFs (vI V a k v) a t := tFs_set (by rw [tVal_0 h0.1]; show Value.int (iI (u2 V.1 a k v a k)) = _; rw [u2_s]) (fun j hj => tVal_ne (by try first | rfl | exact u2_n (Or.inr (by omega))) (by try first | rfl | exact u2_n (Or.inr (by omega))) (by try first | rfl | exact u2_n (Or.inr (by omega))))
  rw [e]
  have h := hσ.wr (V' := (vI V a k v)) hs h9 (tCell_o h8) (fun b hb => ⟨by first | rfl | exact u2_a hb, by first | rfl | exact u2_a hb, by first | rfl | exact u2_a hb⟩)
  exact k2 _ h.1 TExt.rf h.2
theorem TGo.putJ {E : ET} {y : MI} {d pc : Nat} {ls : LV} {st : List Value} {sh : SHT} {nn : Nat × Nat} {V : VT} {Q : AO → SHT → Nat × Nat → VT → Prop} {v : Int} {idx a t : Nat} (k : Nat) (K : Int) (hs : sh a = (t, 0)) (h8 : Nat.ble 8 t = true) (hF : FP y.1.cls idx (tci t) k .long) (hd : decode y.2.1 pc = .ok (.putfield idx, 3)) (hk : Nat.blt k (tnL.getD (tci t) 0) = true) (h0 : tk t k = 1) (hK : (k : Int) = K) (kk : TGo E y d (pc + 3) ls st sh nn (vL V a K v) Q) : TGo E y d pc ls (.long (lI v) :: .ref a :: st) sh nn V Q := by
  subst hK
  have h9 : (t, 0).1 ≠ 0 := by have := Nat.le_of_ble_eq_true h8; show t ≠ 0; omega
  refine TGo.wr (fun σ Q' hσ k2 => Go.putf hF hd ((hσ.at hs h9).trans (tCell_o h8)) (by rw [tFs_len]; simpa using hk) rfl rfl ?_) kk
  have e : (tFs V a t).set k (.long (lI v)) = tFs (vL V a k v) a t := tFs_set (by rw [tVal_1 h0]; show Value.long (lI (u2 V.2.1 a k v a k)) = _; rw [u2_s]) (fun j hj => tVal_ne (by try first | rfl | exact u2_n (Or.inr (by omega))) (by try first | rfl | exact u2_n (Or.inr (by omega))) (by try first | rfl | exact u2_n (Or.inr (by omega))))
  rw [e]
  have h := hσ.wr (V' := (vL V a k v)) hs h9 (tCell_o h8) (fun b hb => ⟨by first | rfl | exact u2_a hb, by first | rfl | exact u2_a hb, by first | rfl | exact u2_a hb⟩)
  exact k2 _ h.1 TExt.rf h.2
theorem TGo.putR {E : ET} {y : MI} {d pc : Nat} {ls : LV} {st : List Value} {sh : SHT} {nn : Nat × Nat} {V : VT} {Q : AO → SHT → Nat × Nat → VT → Prop} {r : Option Nat} {ty : FieldType} {idx a t : Nat} (k : Nat) (K : Int) (hs : sh a = (t, 0)) (h8 : Nat.ble 8 t = true) (hF : FP y.1.cls idx (tci t) k ty) (hd : decode y.2.1 pc = .ok (.putfield idx, 3)) (hk : Nat.blt k (tnL.getD (tci t) 0) = true) (h0 : tk t k = 2 ∧ (∀ q, narrow ty (.ref q) = .ref q ∧ fits ty (.ref q) = true) ∧ narrow ty .null = .null ∧ fits ty .null = true) (hK : (k : Int) = K) (kk : TGo E y d (pc + 3) ls st sh nn (vR V a K r) Q) : TGo E y d pc ls (va_rf r :: .ref a :: st) sh nn V Q := by
  subst hK
  have h9 : (t, 0).1 ≠ 0 := by have := Nat.le_of_ble_eq_true h8; show t ≠ 0; omega
  refine TGo.wr (fun σ Q' hσ k2 => Go.putf hF hd ((hσ.at hs h9).trans (tCell_o h8)) (by rw [tFs_len]; simpa using hk) (by cases r; exact h0.2.2.1; exact (h0.2.1 _).1) (by cases r; exact h0.2.2.2; exact (h0.2.1 _).2) ?_) kk
  have e : (tFs V a t).set k (va_rf r) = tFs (vR V a k r) a t := tFs_set (by rw [tVal_2 h0.1]; show va_rf (u2 V.2.2 a k r a k) = _; rw [u2_s]) (fun j hj => tVal_ne (by try first | rfl | exact u2_n (Or.inr (by omega))) (by try first | rfl | exact u2_n (Or.inr (by omega))) (by try first | rfl | exact u2_n (Or.inr (by omega))))
  rw [e]
  have h := hσ.wr (V' := (vR V a k r)) hs h9 (tCell_o h8) (fun b hb => ⟨by first | rfl | exact u2_a hb, by first | rfl | exact u2_a hb, by first | rfl | exact u2_a hb⟩)
  exact k2 _ h.1 TExt.rf h.2
theorem TGo.putQ {E : ET} {y : MI} {d pc : Nat} {ls : LV} {st : List Value} {sh : SHT} {nn : Nat × Nat} {V : VT} {Q : AO → SHT → Nat × Nat → VT → Prop} {b : Nat} {ty : FieldType} {idx a t : Nat} (k : Nat) (K : Int) (hs : sh a = (t, 0)) (h8 : Nat.ble 8 t = true) (hF : FP y.1.cls idx (tci t) k ty) (hd : decode y.2.1 pc = .ok (.putfield idx, 3)) (hk : Nat.blt k (tnL.getD (tci t) 0) = true) (h0 : tk t k = 2 ∧ (∀ q, narrow ty (.ref q) = .ref q ∧ fits ty (.ref q) = true) ∧ narrow ty .null = .null ∧ fits ty .null = true) (hK : (k : Int) = K) (kk : TGo E y d (pc + 3) ls st sh nn (vR V a K (some b)) Q) : TGo E y d pc ls (.ref b :: .ref a :: st) sh nn V Q := TGo.putR (r := some b) k K hs h8 hF hd hk h0 hK kk
theorem TGo.putN {E : ET} {y : MI} {d pc : Nat} {ls : LV} {st : List Value} {sh : SHT} {nn : Nat × Nat} {V : VT} {Q : AO → SHT → Nat × Nat → VT → Prop} {ty : FieldType} {idx a t : Nat} (k : Nat) (K : Int) (hs : sh a = (t, 0)) (h8 : Nat.ble 8 t = true) (hF : FP y.1.cls idx (tci t) k ty) (hd : decode y.2.1 pc = .ok (.putfield idx, 3)) (hk : Nat.blt k (tnL.getD (tci t) 0) = true) (h0 : tk t k = 2 ∧ (∀ q, narrow ty (.ref q) = .ref q ∧ fits ty (.ref q) = true) ∧ narrow ty .null = .null ∧ fits ty .null = true) (hK : (k : Int) = K) (kk : TGo E y d (pc + 3) ls st sh nn (vR V a K none) Q) : TGo E y d pc ls (.null :: .ref a :: st) sh nn V Q := TGo.putR (r := none) k K hs h8 hF hd hk h0 hK kk
theorem TGo.putIF {E : ET} {y : MI} {d pc : Nat} {ls : LV} {st : List Value} {sh : SHT} {nn : Nat × Nat} {V : VT} {Q : AO → SHT → Nat × Nat → VT → Prop} {v : Int} {idx a t : Nat} (k : Nat) (K : Int) (hs : sh a = (t, 0)) (h8 : Nat.ble 8 t = true) (hF : FPF y.1.cls idx (tci t) k .int) (hi : y.1.name = "<init>") (hd : decode y.2.1 pc = .ok (.putfield idx, 3)) (hk : Nat.blt k (tnL.getD (tci t) 0) = true) (h0 : tk t k = 0) (hK : (k : Int) = K) (kk : TGo E y d (pc + 3) ls st sh nn (vI V a K v) Q) : TGo E y d pc ls (.int (iI v) :: .ref a :: st) sh nn V Q := by
  subst hK
  have h9 : (t, 0).1 ≠ 0 := by have := Nat.le_of_ble_eq_true h8; show t ≠ 0; omega
  refine TGo.wr (fun σ Q' hσ k2 => Go.putfF hF hi hd ((hσ.at hs h9).trans (tCell_o h8)) (by rw [tFs_len]; simpa using hk) rfl rfl ?_) kk
  have e : (tFs V a t).set k (.int (iI v)) = tFs (vI V a k v) a t := tFs_set (by rw [tVal_0 h0]; show Value.int (iI (u2 V.1 a k v a k)) = _; rw [u2_s]) (fun j hj => tVal_ne (by try first | rfl | exact u2_n (Or.inr (by omega))) (by try first | rfl | exact u2_n (Or.inr (by omega))) (by try first | rfl | exact u2_n (Or.inr (by omega))))
  rw [e]
  have h := hσ.wr (V' := (vI V a k v)) hs h9 (tCell_o h8) (fun b hb => ⟨by first | rfl | exact u2_a hb, by first | rfl | exact u2_a hb, by first | rfl | exact u2_a hb⟩)
  exact k2 _ h.1 TExt.rf h.2
theorem TGo.putZF {E : ET} {y : MI} {d pc : Nat} {ls : LV} {st : List Value} {sh : SHT} {nn : Nat × Nat} {V : VT} {Q : AO → SHT → Nat × Nat → VT → Prop} {v : Int} {idx a t : Nat} (k : Nat) (K : Int) (hs : sh a = (t, 0)) (h8 : Nat.ble 8 t = true) (hF : FPF y.1.cls idx (tci t) k .boolean) (hi : y.1.name = "<init>") (hd : decode y.2.1 pc = .ok (.putfield idx, 3)) (hk : Nat.blt k (tnL.getD (tci t) 0) = true) (h0 : tk t k = 0 ∧ (v = 0 ∨ v = 1)) (hK : (k : Int) = K) (kk : TGo E y d (pc + 3) ls st sh nn (vI V a K v) Q) : TGo E y d pc ls (.int (iI v) :: .ref a :: st) sh nn V Q := by
  subst hK
  have h9 : (t, 0).1 ≠ 0 := by have := Nat.le_of_ble_eq_true h8; show t ≠ 0; omega
  refine TGo.wr (fun σ Q' hσ k2 => Go.putfF hF hi hd ((hσ.at hs h9).trans (tCell_o h8)) (by rw [tFs_len]; simpa using hk) (by rcases h0.2 with rfl | rfl <;> rfl) (by rcases h0.2 with rfl | rfl <;> rfl) ?_) kk
  have e : (tFs V a t).set k (.int (iI v)) = tFs (vI V a k v) a t := tFs_set (by rw [tVal_0 h0.1]; show Value.int (iI (u2 V.1 a k v a k)) = _; rw [u2_s]) (fun j hj => tVal_ne (by try first | rfl | exact u2_n (Or.inr (by omega))) (by try first | rfl | exact u2_n (Or.inr (by omega))) (by try first | rfl | exact u2_n (Or.inr (by omega))))
  rw [e]
  have h := hσ.wr (V' := (vI V a k v)) hs h9 (tCell_o h8) (fun b hb => ⟨by first | rfl | exact u2_a hb, by first | rfl | exact u2_a hb, by first | rfl | exact u2_a hb⟩)
  exact k2 _ h.1 TExt.rf h.2
theorem TGo.putCF {E : ET} {y : MI} {d pc : Nat} {ls : LV} {st : List Value} {sh : SHT} {nn : Nat × Nat} {V : VT} {Q : AO → SHT → Nat × Nat → VT → Prop} {v : Int} {idx a t : Nat} (k : Nat) (K : Int) (hs : sh a = (t, 0)) (h8 : Nat.ble 8 t = true) (hF : FPF y.1.cls idx (tci t) k .char) (hi : y.1.name = "<init>") (hd : decode y.2.1 pc = .ok (.putfield idx, 3)) (hk : Nat.blt k (tnL.getD (tci t) 0) = true) (h0 : tk t k = 0 ∧ narrow .char (.int (iI v)) = .int (iI v) ∧ fits .char (.int (iI v)) = true) (hK : (k : Int) = K) (kk : TGo E y d (pc + 3) ls st sh nn (vI V a K v) Q) : TGo E y d pc ls (.int (iI v) :: .ref a :: st) sh nn V Q := by
  subst hK
  have h9 : (t, 0).1 ≠ 0 := by have := Nat.le_of_ble_eq_true h8; show t ≠ 0; omega
  refine TGo.wr (fun σ Q' hσ k2 => Go.putfF hF hi hd ((hσ.at hs h9).trans (tCell_o h8)) (by rw [tFs_len]; simpa using hk) h0.2.1 h0.2.2 ?_) kk
  have e : (tFs V a t).set k (.int (iI v)) = tFs (vI V a k v) a t := tFs_set (by rw [tVal_0 h0.1]; show Value.int (iI (u2 V.1 a k v a k)) = _; rw [u2_s]) (fun j hj => tVal_ne (by try first | rfl | exact u2_n (Or.inr (by omega))) (by try first | rfl | exact u2_n (Or.inr (by omega))) (by try first | rfl | exact u2_n (Or.inr (by omega))))
  rw [e]
  have h := hσ.wr (V' := (vI V a k v)) hs h9 (tCell_o h8) (fun b hb => ⟨by first | rfl | exact u2_a hb, by first | rfl | exact u2_a hb, by first | rfl | exact u2_a hb⟩)
  exact k2 _ h.1 TExt.rf h.2
theorem TGo.putJF {E : ET} {y : MI} {d pc : Nat} {ls : LV} {st : List Value} {sh : SHT} {nn : Nat × Nat} {V : VT} {Q : AO → SHT → Nat × Nat → VT → Prop} {v : Int} {idx a t : Nat} (k : Nat) (K : Int) (hs : sh a = (t, 0)) (h8 : Nat.ble 8 t = true) (hF : FPF y.1.cls idx (tci t) k .long) (hi : y.1.name = "<init>") (hd : decode y.2.1 pc = .ok (.putfield idx, 3)) (hk : Nat.blt k (tnL.getD (tci t) 0) = true) (h0 : tk t k = 1) (hK : (k : Int) = K) (kk : TGo E y d (pc + 3) ls st sh nn (vL V a K v) Q) : TGo E y d pc ls (.long (lI v) :: .ref a :: st) sh nn V Q := by
  subst hK
  have h9 : (t, 0).1 ≠ 0 := by have := Nat.le_of_ble_eq_true h8; show t ≠ 0; omega
  refine TGo.wr (fun σ Q' hσ k2 => Go.putfF hF hi hd ((hσ.at hs h9).trans (tCell_o h8)) (by rw [tFs_len]; simpa using hk) rfl rfl ?_) kk
  have e : (tFs V a t).set k (.long (lI v)) = tFs (vL V a k v) a t := tFs_set (by rw [tVal_1 h0]; show Value.long (lI (u2 V.2.1 a k v a k)) = _; rw [u2_s]) (fun j hj => tVal_ne (by try first | rfl | exact u2_n (Or.inr (by omega))) (by try first | rfl | exact u2_n (Or.inr (by omega))) (by try first | rfl | exact u2_n (Or.inr (by omega))))
  rw [e]
  have h := hσ.wr (V' := (vL V a k v)) hs h9 (tCell_o h8) (fun b hb => ⟨by first | rfl | exact u2_a hb, by first | rfl | exact u2_a hb, by first | rfl | exact u2_a hb⟩)
  exact k2 _ h.1 TExt.rf h.2
theorem TGo.putRF {E : ET} {y : MI} {d pc : Nat} {ls : LV} {st : List Value} {sh : SHT} {nn : Nat × Nat} {V : VT} {Q : AO → SHT → Nat × Nat → VT → Prop} {r : Option Nat} {ty : FieldType} {idx a t : Nat} (k : Nat) (K : Int) (hs : sh a = (t, 0)) (h8 : Nat.ble 8 t = true) (hF : FPF y.1.cls idx (tci t) k ty) (hi : y.1.name = "<init>") (hd : decode y.2.1 pc = .ok (.putfield idx, 3)) (hk : Nat.blt k (tnL.getD (tci t) 0) = true) (h0 : tk t k = 2 ∧ (∀ q, narrow ty (.ref q) = .ref q ∧ fits ty (.ref q) = true) ∧ narrow ty .null = .null ∧ fits ty .null = true) (hK : (k : Int) = K) (kk : TGo E y d (pc + 3) ls st sh nn (vR V a K r) Q) : TGo E y d pc ls (va_rf r :: .ref a :: st) sh nn V Q := by
  subst hK
  have h9 : (t, 0).1 ≠ 0 := by have := Nat.le_of_ble_eq_true h8; show t ≠ 0; omega
  refine TGo.wr (fun σ Q' hσ k2 => Go.putfF hF hi hd ((hσ.at hs h9).trans (tCell_o h8)) (by rw [tFs_len]; simpa using hk) (by cases r; exact h0.2.2.1; exact (h0.2.1 _).1) (by cases r; exact h0.2.2.2; exact (h0.2.1 _).2) ?_) kk
  have e : (tFs V a t).set k (va_rf r) = tFs (vR V a k r) a t := tFs_set (by rw [tVal_2 h0.1]; show va_rf (u2 V.2.2 a k r a k) = _; rw [u2_s]) (fun j hj => tVal_ne (by try first | rfl | exact u2_n (Or.inr (by omega))) (by try first | rfl | exact u2_n (Or.inr (by omega))) (by try first | rfl | exact u2_n (Or.inr (by omega))))
  rw [e]
  have h := hσ.wr (V' := (vR V a k r)) hs h9 (tCell_o h8) (fun b hb => ⟨by first | rfl | exact u2_a hb, by first | rfl | exact u2_a hb, by first | rfl | exact u2_a hb⟩)
  exact k2 _ h.1 TExt.rf h.2
theorem TGo.putQF {E : ET} {y : MI} {d pc : Nat} {ls : LV} {st : List Value} {sh : SHT} {nn : Nat × Nat} {V : VT} {Q : AO → SHT → Nat × Nat → VT → Prop} {b : Nat} {ty : FieldType} {idx a t : Nat} (k : Nat) (K : Int) (hs : sh a = (t, 0)) (h8 : Nat.ble 8 t = true) (hF : FPF y.1.cls idx (tci t) k ty) (hi : y.1.name = "<init>") (hd : decode y.2.1 pc = .ok (.putfield idx, 3)) (hk : Nat.blt k (tnL.getD (tci t) 0) = true) (h0 : tk t k = 2 ∧ (∀ q, narrow ty (.ref q) = .ref q ∧ fits ty (.ref q) = true) ∧ narrow ty .null = .null ∧ fits ty .null = true) (hK : (k : Int) = K) (kk : TGo E y d (pc + 3) ls st sh nn (vR V a K (some b)) Q) : TGo E y d pc ls (.ref b :: .ref a :: st) sh nn V Q := TGo.putRF (r := some b) k K hs h8 hF hi hd hk h0 hK kk
theorem TGo.putNF {E : ET} {y : MI} {d pc : Nat} {ls : LV} {st : List Value} {sh : SHT} {nn : Nat × Nat} {V : VT} {Q : AO → SHT → Nat × Nat → VT → Prop} {ty : FieldType} {idx a t : Nat} (k : Nat) (K : Int) (hs : sh a = (t, 0)) (h8 : Nat.ble 8 t = true) (hF : FPF y.1.cls idx (tci t) k ty) (hi : y.1.name = "<init>") (hd : decode y.2.1 pc = .ok (.putfield idx, 3)) (hk : Nat.blt k (tnL.getD (tci t) 0) = true) (h0 : tk t k = 2 ∧ (∀ q, narrow ty (.ref q) = .ref q ∧ fits ty (.ref q) = true) ∧ narrow ty .null = .null ∧ fits ty .null = true) (hK : (k : Int) = K) (kk : TGo E y d (pc + 3) ls st sh nn (vR V a K none) Q) : TGo E y d pc ls (.null :: .ref a :: st) sh nn V Q := TGo.putRF (r := none) k K hs h8 hF hi hd hk h0 hK kk
theorem TGo.iald {E : ET} {y : MI} {d pc : Nat} {ls : LV} {st : List Value} {sh : SHT} {nn : Nat × Nat} {V : VT} {Q : AO → SHT → Nat × Nat → VT → Prop} {a n : Nat} {i : Int} (hd : decode y.2.1 pc = .ok (.iaload, 1)) (hs : sh a = (1, n)) (hi : 0 ≤ i ∧ i < (n : Int)) (hn : Nat.blt n 2147483648 = true) (kk : TGo E y d (pc + 1) ls (.int (iI (V.1 a i)) :: st) sh nn V Q) : TGo E y d pc ls (.int (iI i) :: .ref a :: st) sh nn V Q := by
  have hn : n < 2147483648 := by simpa using hn
  refine TGo.rd (fun σ Q' hσ kk => Go.iald hd ((hσ.at hs (Nat.succ_ne_zero _)).trans rfl) (iI_in hi (by omega)) ?_) kk
  rw [iI_clamp (by omega), show ((i.toNat : Nat) : Int) = i by omega]
  exact kk
theorem TGo.bald {E : ET} {y : MI} {d pc : Nat} {ls : LV} {st : List Value} {sh : SHT} {nn : Nat × Nat} {V : VT} {Q : AO → SHT → Nat × Nat → VT → Prop} {a n : Nat} {i : Int} (hd : decode y.2.1 pc = .ok (.baload, 1)) (hs : sh a = (2, n)) (hi : 0 ≤ i ∧ i < (n : Int)) (hn : Nat.blt n 2147483648 = true) (kk : TGo E y d (pc + 1) ls (.int (iI (V.1 a i)) :: st) sh nn V Q) : TGo E y d pc ls (.int (iI i) :: .ref a :: st) sh nn V Q := by
  have hn : n < 2147483648 := by simpa using hn
  refine TGo.rd (fun σ Q' hσ kk => Go.bald hd ((hσ.at hs (Nat.succ_ne_zero _)).trans rfl) (iI_in hi (by omega)) ?_) kk
  rw [iI_clamp (by omega), show ((i.toNat : Nat) : Int) = i by omega]
  exact kk
theorem TGo.zald {E : ET} {y : MI} {d pc : Nat} {ls : LV} {st : List Value} {sh : SHT} {nn : Nat × Nat} {V : VT} {Q : AO → SHT → Nat × Nat → VT → Prop} {a n : Nat} {i : Int} (hd : decode y.2.1 pc = .ok (.baload, 1)) (hs : sh a = (4, n)) (hi : 0 ≤ i ∧ i < (n : Int)) (hn : Nat.blt n 2147483648 = true) (kk : TGo E y d (pc + 1) ls (.int (iI (V.1 a i)) :: st) sh nn V Q) : TGo E y d pc ls (.int (iI i) :: .ref a :: st) sh nn V Q := by
  have hn : n < 2147483648 := by simpa using hn
  refine TGo.rd (fun σ Q' hσ kk => Go.zald hd ((hσ.at hs (Nat.succ_ne_zero _)).trans rfl) (iI_in hi (by omega)) ?_) kk
  rw [iI_clamp (by omega), show ((i.toNat : Nat) : Int) = i by omega]
  exact kk
theorem TGo.lald {E : ET} {y : MI} {d pc : Nat} {ls : LV} {st : List Value} {sh : SHT} {nn : Nat × Nat} {V : VT} {Q : AO → SHT → Nat × Nat → VT → Prop} {a n : Nat} {i : Int} (hd : decode y.2.1 pc = .ok (.laload, 1)) (hs : sh a = (3, n)) (hi : 0 ≤ i ∧ i < (n : Int)) (hn : Nat.blt n 2147483648 = true) (kk : TGo E y d (pc + 1) ls (.long (lI (V.2.1 a i)) :: st) sh nn V Q) : TGo E y d pc ls (.int (iI i) :: .ref a :: st) sh nn V Q := by
  have hn : n < 2147483648 := by simpa using hn
  refine TGo.rd (fun σ Q' hσ kk => Go.lald hd ((hσ.at hs (Nat.succ_ne_zero _)).trans rfl) (iI_in hi (by omega)) ?_) kk
  rw [iI_clamp (by omega), show ((i.toNat : Nat) : Int) = i by omega]
  exact kk
theorem TGo.aaldO {E : ET} {y : MI} {d pc : Nat} {ls : LV} {st : List Value} {sh : SHT} {nn : Nat × Nat} {V : VT} {Q : AO → SHT → Nat × Nat → VT → Prop} {a n : Nat} {i : Int} (hd : decode y.2.1 pc = .ok (.aaload, 1)) (hs : sh a = (5, n)) (hi : 0 ≤ i ∧ i < (n : Int)) (hn : Nat.blt n 2147483648 = true) (kk : TGo E y d (pc + 1) ls (va_rf (V.2.2 a i) :: st) sh nn V Q) : TGo E y d pc ls (.int (iI i) :: .ref a :: st) sh nn V Q := by
  have hn : n < 2147483648 := by simpa using hn
  refine TGo.rd (fun σ Q' hσ kk => Go.aaldO hd ((hσ.at hs (Nat.succ_ne_zero _)).trans rfl) (iI_in hi (by omega)) ?_) kk
  rw [iI_clamp (by omega), show ((i.toNat : Nat) : Int) = i by omega]
  exact kk
theorem TGo.aaldOq {E : ET} {y : MI} {d pc : Nat} {ls : LV} {st : List Value} {sh : SHT} {nn : Nat × Nat} {V : VT} {Q : AO → SHT → Nat × Nat → VT → Prop} {a n : Nat} {i : Int} (b : Nat) (hd : decode y.2.1 pc = .ok (.aaload, 1)) (hs : sh a = (5, n)) (hi : 0 ≤ i ∧ i < (n : Int)) (hn : Nat.blt n 2147483648 = true) (hb : V.2.2 a i = some b) (kk : TGo E y d (pc + 1) ls (.ref b :: st) sh nn V Q) : TGo E y d pc ls (.int (iI i) :: .ref a :: st) sh nn V Q := TGo.aaldO hd hs hi hn (TGo.tor b hb kk)
theorem TGo.aaldS {E : ET} {y : MI} {d pc : Nat} {ls : LV} {st : List Value} {sh : SHT} {nn : Nat × Nat} {V : VT} {Q : AO → SHT → Nat × Nat → VT → Prop} {a n : Nat} {i : Int} (hd : decode y.2.1 pc = .ok (.aaload, 1)) (hs : sh a = (6, n)) (hi : 0 ≤ i ∧ i < (n : Int)) (hn : Nat.blt n 2147483648 = true) (kk : TGo E y d (pc + 1) ls (va_rf (V.2.2 a i) :: st) sh nn V Q) : TGo E y d pc ls (.int (iI i) :: .ref a :: st) sh nn V Q := by
  have hn : n < 2147483648 := by simpa using hn
  refine TGo.rd (fun σ Q' hσ kk => Go.aaldS hd ((hσ.at hs (Nat.succ_ne_zero _)).trans rfl) (iI_in hi (by omega)) ?_) kk
  rw [iI_clamp (by omega), show ((i.toNat : Nat) : Int) = i by omega]
  exact kk
theorem TGo.aaldSq {E : ET} {y : MI} {d pc : Nat} {ls : LV} {st : List Value} {sh : SHT} {nn : Nat × Nat} {V : VT} {Q : AO → SHT → Nat × Nat → VT → Prop} {a n : Nat} {i : Int} (b : Nat) (hd : decode y.2.1 pc = .ok (.aaload, 1)) (hs : sh a = (6, n)) (hi : 0 ≤ i ∧ i < (n : Int)) (hn : Nat.blt n 2147483648 = true) (hb : V.2.2 a i = some b) (kk : TGo E y d (pc + 1) ls (.ref b :: st) sh nn V Q) : TGo E y d pc ls (.int (iI i) :: .ref a :: st) sh nn V Q := TGo.aaldS hd hs hi hn (TGo.tor b hb kk)
theorem TGo.aaldT {E : ET} {y : MI} {d pc : Nat} {ls : LV} {st : List Value} {sh : SHT} {nn : Nat × Nat} {V : VT} {Q : AO → SHT → Nat × Nat → VT → Prop} {a n : Nat} {i : Int} (hd : decode y.2.1 pc = .ok (.aaload, 1)) (hs : sh a = (7, n)) (hi : 0 ≤ i ∧ i < (n : Int)) (hn : Nat.blt n 2147483648 = true) (kk : TGo E y d (pc + 1) ls (va_rf (V.2.2 a i) :: st) sh nn V Q) : TGo E y d pc ls (.int (iI i) :: .ref a :: st) sh nn V Q := by
  have hn : n < 2147483648 := by simpa using hn
  refine TGo.rd (fun σ Q' hσ kk => Go.aaldT hd ((hσ.at hs (Nat.succ_ne_zero _)).trans rfl) (iI_in hi (by omega)) ?_) kk
  rw [iI_clamp (by omega), show ((i.toNat : Nat) : Int) = i by omega]
  exact kk
theorem TGo.aaldTq {E : ET} {y : MI} {d pc : Nat} {ls : LV} {st : List Value} {sh : SHT} {nn : Nat × Nat} {V : VT} {Q : AO → SHT → Nat × Nat → VT → Prop} {a n : Nat} {i : Int} (b : Nat) (hd : decode y.2.1 pc = .ok (.aaload, 1)) (hs : sh a = (7, n)) (hi : 0 ≤ i ∧ i < (n : Int)) (hn : Nat.blt n 2147483648 = true) (hb : V.2.2 a i = some b) (kk : TGo E y d (pc + 1) ls (.ref b :: st) sh nn V Q) : TGo E y d pc ls (.int (iI i) :: .ref a :: st) sh nn V Q := TGo.aaldT hd hs hi hn (TGo.tor b hb kk)
theorem TGo.iast {E : ET} {y : MI} {d pc : Nat} {ls : LV} {st : List Value} {sh : SHT} {nn : Nat × Nat} {V : VT} {Q : AO → SHT → Nat × Nat → VT → Prop} {a n : Nat} {i x : Int} (hd : decode y.2.1 pc = .ok (.iastore, 1)) (hs : sh a = (1, n)) (hi : 0 ≤ i ∧ i < (n : Int)) (hn : Nat.blt n 2147483648 = true) (kk : TGo E y d (pc + 1) ls st sh nn (vI V a i x) Q) : TGo E y d pc ls (.int (iI x) :: .int (iI i) :: .ref a :: st) sh nn V Q := by
  have hn : n < 2147483648 := by simpa using hn
  refine TGo.wr (fun σ Q' hσ k2 => Go.iast hd ((hσ.at hs (Nat.succ_ne_zero _)).trans rfl) (iI_in hi (by omega)) ?_) kk
  have e : (upd (fun j : Nat => iI (V.1 a j)) i.toNat (iI x)) = fun j : Nat => iI (u2 V.1 a i x a j) := by
    funext j
    show (if j = i.toNat then _ else _) = _
    by_cases h : j = i.toNat
    · subst h
      rw [if_pos rfl, show ((i.toNat : Nat) : Int) = i by omega, u2_s]
    · rw [if_neg h, u2_n (Or.inr (by omega))]
  skip
  rw [iI_clamp (by omega), e]
  have h := hσ.wr (V' := (vI V a i x)) hs (Nat.succ_ne_zero _) rfl (fun b hb => ⟨by first | rfl | exact u2_a hb, by first | rfl | exact u2_a hb, by first | rfl | exact u2_a hb⟩)
  exact k2 _ h.1 TExt.rf h.2
theorem TGo.bast {E : ET} {y : MI} {d pc : Nat} {ls : LV} {st : List Value} {sh : SHT} {nn : Nat × Nat} {V : VT} {Q : AO → SHT → Nat × Nat → VT → Prop} {a n : Nat} {i x : Int} (hd : decode y.2.1 pc = .ok (.bastore, 1)) (hs : sh a = (2, n)) (hi : 0 ≤ i ∧ i < (n : Int)) (hn : Nat.blt n 2147483648 = true) (hx : -128 ≤ x ∧ x ≤ 127) (kk : TGo E y d (pc + 1) ls st sh nn (vI V a i x) Q) : TGo E y d pc ls (.int (iI x) :: .int (iI i) :: .ref a :: st) sh nn V Q := by
  have hn : n < 2147483648 := by simpa using hn
  refine TGo.wr (fun σ Q' hσ k2 => Go.bast hd ((hσ.at hs (Nat.succ_ne_zero _)).trans rfl) (iI_in hi (by omega)) ?_) kk
  have e9 : vp_nar .byte (iI x) = iI x := nar_byte hx
  have e : (upd (fun j : Nat => iI (V.1 a j)) i.toNat (iI x)) = fun j : Nat => iI (u2 V.1 a i x a j) := by
    funext j
    show (if j = i.toNat then _ else _) = _
    by_cases h : j = i.toNat
    · subst h
      rw [if_pos rfl, show ((i.toNat : Nat) : Int) = i by omega, u2_s]
    · rw [if_neg h, u2_n (Or.inr (by omega))]
  rw [e9]
  rw [iI_clamp (by omega), e]
  have h := hσ.wr (V' := (vI V a i x)) hs (Nat.succ_ne_zero _) rfl (fun b hb => ⟨by first | rfl | exact u2_a hb, by first | rfl | exact u2_a hb, by first | rfl | exact u2_a hb⟩)
  exact k2 _ h.1 TExt.rf h.2
theorem TGo.zast {E : ET} {y : MI} {d pc : Nat} {ls : LV} {st : List Value} {sh : SHT} {nn : Nat × Nat} {V : VT} {Q : AO → SHT → Nat × Nat → VT → Prop} {a n : Nat} {i x : Int} (hd : decode y.2.1 pc = .ok (.bastore, 1)) (hs : sh a = (4, n)) (hi : 0 ≤ i ∧ i < (n : Int)) (hn : Nat.blt n 2147483648 = true) (hx : x = 0 ∨ x = 1) (kk : TGo E y d (pc + 1) ls st sh nn (vI V a i x) Q) : TGo E y d pc ls (.int (iI x) :: .int (iI i) :: .ref a :: st) sh nn V Q := by
  have hn : n < 2147483648 := by simpa using hn
  refine TGo.wr (fun σ Q' hσ k2 => Go.zast hd ((hσ.at hs (Nat.succ_ne_zero _)).trans rfl) (iI_in hi (by omega)) ?_) kk
  have e9 : vp_nar .boolean (iI x) = iI x := by rcases hx with rfl | rfl <;> rfl
  have e : (upd (fun j : Nat => iI (V.1 a j)) i.toNat (iI x)) = fun j : Nat => iI (u2 V.1 a i x a j) := by
    funext j
    show (if j = i.toNat then _ else _) = _
    by_cases h : j = i.toNat
    · subst h
      rw [if_pos rfl, show ((i.toNat : Nat) : Int) = i by omega, u2_s]
    · rw [if_neg h, u2_n (Or.inr (by omega))]
  rw [e9]
  rw [iI_clamp (by omega), e]
  have h := hσ.wr (V' := (vI V a i x)) hs (Nat.succ_ne_zero _) rfl (fun b hb => ⟨by first | rfl | exact u2_a hb, by first | rfl | exact u2_a hb, by first | rfl | exact u2_a hb⟩)
  exact k2 _ h.1 TExt.rf h.2
theorem TGo.last {E : ET} {y : MI} {d pc : Nat} {ls : LV} {st : List Value} {sh : SHT} {nn : Nat × Nat} {V : VT} {Q : AO → SHT → Nat × Nat → VT → Prop} {a n : Nat} {i x : Int} (hd : decode y.2.1 pc = .ok (.lastore, 1)) (hs : sh a = (3, n)) (hi : 0 ≤ i ∧ i < (n : Int)) (hn : Nat.blt n 2147483648 = true) (kk : TGo E y d (pc + 1) ls st sh nn (vL V a i x) Q) : TGo E y d pc ls (.long (lI x) :: .int (iI i) :: .ref a :: st) sh nn V Q := by
  have hn : n < 2147483648 := by simpa using hn
  refine TGo.wr (fun σ Q' hσ k2 => Go.last hd ((hσ.at hs (Nat.succ_ne_zero _)).trans rfl) (iI_in hi (by omega)) ?_) kk
  have e : (vp_updL (fun j : Nat => lI (V.2.1 a j)) i.toNat (lI x)) = fun j : Nat => lI (u2 V.2.1 a i x a j) := by
    funext j
    show (if j = i.toNat then _ else _) = _
    by_cases h : j = i.toNat
    · subst h
      rw [if_pos rfl, show ((i.toNat : Nat) : Int) = i by omega, u2_s]
    · rw [if_neg h, u2_n (Or.inr (by omega))]
  skip
  rw [iI_clamp (by omega), e]
  have h := hσ.wr (V' := (vL V a i x)) hs (Nat.succ_ne_zero _) rfl (fun b hb => ⟨by first | rfl | exact u2_a hb, by first | rfl | exact u2_a hb, by first | rfl | exact u2_a hb⟩)
  exact k2 _ h.1 TExt.rf h.2
theorem TGo.aastO {E : ET} {y : MI} {d pc : Nat} {ls : LV} {st : List Value} {sh : SHT} {nn : Nat × Nat} {V : VT} {Q : AO → SHT → Nat × Nat → VT → Prop} {a n v t : Nat} {i : Int} {r : vw_C} (hd : decode y.2.1 pc = .ok (.aastore, 1)) (hs : sh a = (5, n)) (hi : 0 ≤ i ∧ i < (n : Int)) (hn : Nat.blt n 2147483648 = true) (hv : sh v = (t, 0)) (h8 : Nat.ble 8 t = true) (hc : clsL[tci t]? = some r) (hca : Cond.castable r.1 "java/lang/Object" ∈ lw_tbl) (kk : TGo E y d (pc + 1) ls st sh nn (vR V a i (some v)) Q) : TGo E y d pc ls (.ref v :: .int (iI i) :: .ref a :: st) sh nn V Q := by
  have hn : n < 2147483648 := by simpa using hn
  refine TGo.wr (fun σ Q' hσ k2 => Go.aastO hd ((hσ.at hs (Nat.succ_ne_zero _)).trans rfl) ((hσ.at hv (by have := Nat.le_of_ble_eq_true h8; show t ≠ 0; omega)).trans (tCell_o h8)) hc hca (iI_in hi (by omega)) ?_) kk
  have e : (va_up (fun j : Nat => V.2.2 a j) i.toNat (some v)) = fun j : Nat => u2 V.2.2 a i (some v) a j := by
    funext j
    show (if j = i.toNat then _ else _) = _
    by_cases h : j = i.toNat
    · subst h
      rw [if_pos rfl, show ((i.toNat : Nat) : Int) = i by omega, u2_s]
    · rw [if_neg h, u2_n (Or.inr (by omega))]
  rw [iI_clamp (by omega), e]
  have h := hσ.wr (V' := (vR V a i (some v))) hs (Nat.succ_ne_zero _) rfl (fun b hb => ⟨by first | rfl | exact u2_a hb, by first | rfl | exact u2_a hb, by first | rfl | exact u2_a hb⟩)
  exact k2 _ h.1 TExt.rf h.2
theorem TGo.aastON {E : ET} {y : MI} {d pc : Nat} {ls : LV} {st : List Value} {sh : SHT} {nn : Nat × Nat} {V : VT} {Q : AO → SHT → Nat × Nat → VT → Prop} {a n : Nat} {i : Int} (hd : decode y.2.1 pc = .ok (.aastore, 1)) (hs : sh a = (5, n)) (hi : 0 ≤ i ∧ i < (n : Int)) (hn : Nat.blt n 2147483648 = true) (kk : TGo E y d (pc + 1) ls st sh nn (vR V a i none) Q) : TGo E y d pc ls (.null :: .int (iI i) :: .ref a :: st) sh nn V Q := by
  have hn : n < 2147483648 := by simpa using hn
  refine TGo.wr (fun σ Q' hσ k2 => Go.aastON hd ((hσ.at hs (Nat.succ_ne_zero _)).trans rfl) (iI_in hi (by omega)) ?_) kk
  have e : (va_up (fun j : Nat => V.2.2 a j) i.toNat none) = fun j : Nat => u2 V.2.2 a i none a j := by
    funext j
    show (if j = i.toNat then _ else _) = _
    by_cases h : j = i.toNat
    · subst h
      rw [if_pos rfl, show ((i.toNat : Nat) : Int) = i by omega, u2_s]
    · rw [if_neg h, u2_n (Or.inr (by omega))]
  rw [iI_clamp (by omega), e]
  have h := hσ.wr (V' := (vR V a i none)) hs (Nat.succ_ne_zero _) rfl (fun b hb => ⟨by first | rfl | exact u2_a hb, by first | rfl | exact u2_a hb, by first | rfl | exact u2_a hb⟩)
  exact k2 _ h.1 TExt.rf h.2
theorem TGo.aastS {E : ET} {y : MI} {d pc : Nat} {ls : LV} {st : List Value} {sh : SHT} {nn : Nat × Nat} {V : VT} {Q : AO → SHT → Nat × Nat → VT → Prop} {a n v t : Nat} {i : Int} {r : vw_C} (hd : decode y.2.1 pc = .ok (.aastore, 1)) (hs : sh a = (6, n)) (hi : 0 ≤ i ∧ i < (n : Int)) (hn : Nat.blt n 2147483648 = true) (hv : sh v = (t, 0)) (h8 : Nat.ble 8 t = true) (hc : clsL[tci t]? = some r) (hca : Cond.castable r.1 "DeadUnderstudies$Script" ∈ lw_tbl) (kk : TGo E y d (pc + 1) ls st sh nn (vR V a i (some v)) Q) : TGo E y d pc ls (.ref v :: .int (iI i) :: .ref a :: st) sh nn V Q := by
  have hn : n < 2147483648 := by simpa using hn
  refine TGo.wr (fun σ Q' hσ k2 => Go.aastS hd ((hσ.at hs (Nat.succ_ne_zero _)).trans rfl) ((hσ.at hv (by have := Nat.le_of_ble_eq_true h8; show t ≠ 0; omega)).trans (tCell_o h8)) hc hca (iI_in hi (by omega)) ?_) kk
  have e : (va_up (fun j : Nat => V.2.2 a j) i.toNat (some v)) = fun j : Nat => u2 V.2.2 a i (some v) a j := by
    funext j
    show (if j = i.toNat then _ else _) = _
    by_cases h : j = i.toNat
    · subst h
      rw [if_pos rfl, show ((i.toNat : Nat) : Int) = i by omega, u2_s]
    · rw [if_neg h, u2_n (Or.inr (by omega))]
  rw [iI_clamp (by omega), e]
  have h := hσ.wr (V' := (vR V a i (some v))) hs (Nat.succ_ne_zero _) rfl (fun b hb => ⟨by first | rfl | exact u2_a hb, by first | rfl | exact u2_a hb, by first | rfl | exact u2_a hb⟩)
  exact k2 _ h.1 TExt.rf h.2
theorem TGo.aastSN {E : ET} {y : MI} {d pc : Nat} {ls : LV} {st : List Value} {sh : SHT} {nn : Nat × Nat} {V : VT} {Q : AO → SHT → Nat × Nat → VT → Prop} {a n : Nat} {i : Int} (hd : decode y.2.1 pc = .ok (.aastore, 1)) (hs : sh a = (6, n)) (hi : 0 ≤ i ∧ i < (n : Int)) (hn : Nat.blt n 2147483648 = true) (kk : TGo E y d (pc + 1) ls st sh nn (vR V a i none) Q) : TGo E y d pc ls (.null :: .int (iI i) :: .ref a :: st) sh nn V Q := by
  have hn : n < 2147483648 := by simpa using hn
  refine TGo.wr (fun σ Q' hσ k2 => Go.aastSN hd ((hσ.at hs (Nat.succ_ne_zero _)).trans rfl) (iI_in hi (by omega)) ?_) kk
  have e : (va_up (fun j : Nat => V.2.2 a j) i.toNat none) = fun j : Nat => u2 V.2.2 a i none a j := by
    funext j
    show (if j = i.toNat then _ else _) = _
    by_cases h : j = i.toNat
    · subst h
      rw [if_pos rfl, show ((i.toNat : Nat) : Int) = i by omega, u2_s]
    · rw [if_neg h, u2_n (Or.inr (by omega))]
  rw [iI_clamp (by omega), e]
  have h := hσ.wr (V' := (vR V a i none)) hs (Nat.succ_ne_zero _) rfl (fun b hb => ⟨by first | rfl | exact u2_a hb, by first | rfl | exact u2_a hb, by first | rfl | exact u2_a hb⟩)
  exact k2 _ h.1 TExt.rf h.2
theorem TGo.aastT {E : ET} {y : MI} {d pc : Nat} {ls : LV} {st : List Value} {sh : SHT} {nn : Nat × Nat} {V : VT} {Q : AO → SHT → Nat × Nat → VT → Prop} {a n v t : Nat} {i : Int} {r : vw_C} (hd : decode y.2.1 pc = .ok (.aastore, 1)) (hs : sh a = (7, n)) (hi : 0 ≤ i ∧ i < (n : Int)) (hn : Nat.blt n 2147483648 = true) (hv : sh v = (t, 0)) (h8 : Nat.ble 8 t = true) (hc : clsL[tci t]? = some r) (hca : Cond.castable r.1 "DeadUnderstudies$State" ∈ lw_tbl) (kk : TGo E y d (pc + 1) ls st sh nn (vR V a i (some v)) Q) : TGo E y d pc ls (.ref v :: .int (iI i) :: .ref a :: st) sh nn V Q := by
  have hn : n < 2147483648 := by simpa using hn
  refine TGo.wr (fun σ Q' hσ k2 => Go.aastT hd ((hσ.at hs (Nat.succ_ne_zero _)).trans rfl) ((hσ.at hv (by have := Nat.le_of_ble_eq_true h8; show t ≠ 0; omega)).trans (tCell_o h8)) hc hca (iI_in hi (by omega)) ?_) kk
  have e : (va_up (fun j : Nat => V.2.2 a j) i.toNat (some v)) = fun j : Nat => u2 V.2.2 a i (some v) a j := by
    funext j
    show (if j = i.toNat then _ else _) = _
    by_cases h : j = i.toNat
    · subst h
      rw [if_pos rfl, show ((i.toNat : Nat) : Int) = i by omega, u2_s]
    · rw [if_neg h, u2_n (Or.inr (by omega))]
  rw [iI_clamp (by omega), e]
  have h := hσ.wr (V' := (vR V a i (some v))) hs (Nat.succ_ne_zero _) rfl (fun b hb => ⟨by first | rfl | exact u2_a hb, by first | rfl | exact u2_a hb, by first | rfl | exact u2_a hb⟩)
  exact k2 _ h.1 TExt.rf h.2
theorem TGo.aastTN {E : ET} {y : MI} {d pc : Nat} {ls : LV} {st : List Value} {sh : SHT} {nn : Nat × Nat} {V : VT} {Q : AO → SHT → Nat × Nat → VT → Prop} {a n : Nat} {i : Int} (hd : decode y.2.1 pc = .ok (.aastore, 1)) (hs : sh a = (7, n)) (hi : 0 ≤ i ∧ i < (n : Int)) (hn : Nat.blt n 2147483648 = true) (kk : TGo E y d (pc + 1) ls st sh nn (vR V a i none) Q) : TGo E y d pc ls (.null :: .int (iI i) :: .ref a :: st) sh nn V Q := by
  have hn : n < 2147483648 := by simpa using hn
  refine TGo.wr (fun σ Q' hσ k2 => Go.aastTN hd ((hσ.at hs (Nat.succ_ne_zero _)).trans rfl) (iI_in hi (by omega)) ?_) kk
  have e : (va_up (fun j : Nat => V.2.2 a j) i.toNat none) = fun j : Nat => u2 V.2.2 a i none a j := by
    funext j
    show (if j = i.toNat then _ else _) = _
    by_cases h : j = i.toNat
    · subst h
      rw [if_pos rfl, show ((i.toNat : Nat) : Int) = i by omega, u2_s]
    · rw [if_neg h, u2_n (Or.inr (by omega))]
  rw [iI_clamp (by omega), e]
  have h := hσ.wr (V' := (vR V a i none)) hs (Nat.succ_ne_zero _) rfl (fun b hb => ⟨by first | rfl | exact u2_a hb, by first | rfl | exact u2_a hb, by first | rfl | exact u2_a hb⟩)
  exact k2 _ h.1 TExt.rf h.2
theorem TGo.alen1 {E : ET} {y : MI} {d pc : Nat} {ls : LV} {st : List Value} {sh : SHT} {nn : Nat × Nat} {V : VT} {Q : AO → SHT → Nat × Nat → VT → Prop} {a n : Nat} (hd : decode y.2.1 pc = .ok (.arraylength, 1)) (hs : sh a = (1, n)) (kk : TGo E y d (pc + 1) ls (.int (iI n) :: st) sh nn V Q) : TGo E y d pc ls (.ref a :: st) sh nn V Q := TGo.rd (fun σ Q' hσ kk => Go.alen (t := 0) hd ((hσ.at hs (Nat.succ_ne_zero _)).trans rfl) rfl (by rw [← iI_nat]; exact kk)) kk
theorem TGo.alen2 {E : ET} {y : MI} {d pc : Nat} {ls : LV} {st : List Value} {sh : SHT} {nn : Nat × Nat} {V : VT} {Q : AO → SHT → Nat × Nat → VT → Prop} {a n : Nat} (hd : decode y.2.1 pc = .ok (.arraylength, 1)) (hs : sh a = (2, n)) (kk : TGo E y d (pc + 1) ls (.int (iI n) :: st) sh nn V Q) : TGo E y d pc ls (.ref a :: st) sh nn V Q := TGo.rd (fun σ Q' hσ kk => Go.alen (t := 1) hd ((hσ.at hs (Nat.succ_ne_zero _)).trans rfl) rfl (by rw [← iI_nat]; exact kk)) kk
theorem TGo.alen3 {E : ET} {y : MI} {d pc : Nat} {ls : LV} {st : List Value} {sh : SHT} {nn : Nat × Nat} {V : VT} {Q : AO → SHT → Nat × Nat → VT → Prop} {a n : Nat} (hd : decode y.2.1 pc = .ok (.arraylength, 1)) (hs : sh a = (3, n)) (kk : TGo E y d (pc + 1) ls (.int (iI n) :: st) sh nn V Q) : TGo E y d pc ls (.ref a :: st) sh nn V Q := TGo.rd (fun σ Q' hσ kk => Go.alen (t := 2) hd ((hσ.at hs (Nat.succ_ne_zero _)).trans rfl) rfl (by rw [← iI_nat]; exact kk)) kk
theorem TGo.alen4 {E : ET} {y : MI} {d pc : Nat} {ls : LV} {st : List Value} {sh : SHT} {nn : Nat × Nat} {V : VT} {Q : AO → SHT → Nat × Nat → VT → Prop} {a n : Nat} (hd : decode y.2.1 pc = .ok (.arraylength, 1)) (hs : sh a = (4, n)) (kk : TGo E y d (pc + 1) ls (.int (iI n) :: st) sh nn V Q) : TGo E y d pc ls (.ref a :: st) sh nn V Q := TGo.rd (fun σ Q' hσ kk => Go.alen (t := 3) hd ((hσ.at hs (Nat.succ_ne_zero _)).trans rfl) rfl (by rw [← iI_nat]; exact kk)) kk
theorem TGo.alen5 {E : ET} {y : MI} {d pc : Nat} {ls : LV} {st : List Value} {sh : SHT} {nn : Nat × Nat} {V : VT} {Q : AO → SHT → Nat × Nat → VT → Prop} {a n : Nat} (hd : decode y.2.1 pc = .ok (.arraylength, 1)) (hs : sh a = (5, n)) (kk : TGo E y d (pc + 1) ls (.int (iI n) :: st) sh nn V Q) : TGo E y d pc ls (.ref a :: st) sh nn V Q := TGo.rd (fun σ Q' hσ kk => Go.alen (t := 4) hd ((hσ.at hs (Nat.succ_ne_zero _)).trans rfl) rfl (by rw [← iI_nat]; exact kk)) kk
theorem TGo.alen6 {E : ET} {y : MI} {d pc : Nat} {ls : LV} {st : List Value} {sh : SHT} {nn : Nat × Nat} {V : VT} {Q : AO → SHT → Nat × Nat → VT → Prop} {a n : Nat} (hd : decode y.2.1 pc = .ok (.arraylength, 1)) (hs : sh a = (6, n)) (kk : TGo E y d (pc + 1) ls (.int (iI n) :: st) sh nn V Q) : TGo E y d pc ls (.ref a :: st) sh nn V Q := TGo.rd (fun σ Q' hσ kk => Go.alen (t := 5) hd ((hσ.at hs (Nat.succ_ne_zero _)).trans rfl) rfl (by rw [← iI_nat]; exact kk)) kk
theorem TGo.alen7 {E : ET} {y : MI} {d pc : Nat} {ls : LV} {st : List Value} {sh : SHT} {nn : Nat × Nat} {V : VT} {Q : AO → SHT → Nat × Nat → VT → Prop} {a n : Nat} (hd : decode y.2.1 pc = .ok (.arraylength, 1)) (hs : sh a = (7, n)) (kk : TGo E y d (pc + 1) ls (.int (iI n) :: st) sh nn V Q) : TGo E y d pc ls (.ref a :: st) sh nn V Q := TGo.rd (fun σ Q' hσ kk => Go.alen (t := 6) hd ((hσ.at hs (Nat.succ_ne_zero _)).trans rfl) rfl (by rw [← iI_nat]; exact kk)) kk
