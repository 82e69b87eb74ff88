/-! THE MODEL: plays -/
set_option maxRecDepth 100000
/-- 64 bits: any number is one in range -/
theorem lI_any (x : Int) : ∃ y : Int, (-9223372036854775808 ≤ y ∧ y ≤ 9223372036854775807) ∧ lI x = lI y := by
  refine ⟨(lI x).toInt, ⟨Int64.le_toInt _, by have := Int64.toInt_lt (lI x); omega⟩, ?_⟩
  show lI x = Int64.ofInt (lI x).toInt
  rw [Int64.ofInt_toInt]
def NwZ (T : Nat) (V : VT) (val : Int → Int) : Prop := ∀ i, 1 ≤ i → i ≤ 8 → V.2.1 (T + 14) i = val i
theorem PZ.k {T : Nat} {V V' : VT} {z : ZT} (h : PZ T V z) (f : FrK T V V') : PZ T V' z := by
  obtain ⟨f1, f2, f3, f4⟩ := f
  refine ⟨fun k hk => (f1 T k (Or.inr (fun e => by subst e; exact absurd hk (by decide)))).trans (h.1 k hk), fun k hk i => (f1 _ i (Or.inl (by omega))).trans (h.2.1 k hk i), ⟨fun i => ?_, fun i => ?_, ?_, ?_⟩, (f3 12 (by decide)).trans h.2.2.2⟩
  · rw [f2 _ (by omega) (by omega)]; exact h.2.2.1.1 i
  · rw [f2 _ (by omega) (by omega)]; exact h.2.2.1.2.1 i
  · rw [f2 _ (by omega) (by omega)]; exact h.2.2.1.2.2.1
  · rw [f2 _ (by omega) (by omega)]; exact h.2.2.1.2.2.2
/-- a text can be reckoned, from i to l -/
def EvO (op ag val : Int → Int) (i l : Int) : Prop := ∃ R, evZ op ag val l (l - i).toNat i [] = some R ∧ ∀ st, R = some st → -1000000000 ≤ lstZ st ∧ lstZ st ≤ 1000000000
theorem kX10_reckonP {E : ET} {sh : SHT} {nn : Nat × Nat} {V : VT} {T : Nat} {z : ZT} {val : Int → Int} {i l : Int} (hT : MSh T sh) (hz : PZ T V z) (h15 : z.1 15 = 1) (hn : NwZ T V val) (hl : 0 ≤ l ∧ l ≤ 400) (hi : 0 ≤ i ∧ i ≤ 400) (hv : B9Z val) (he : EvO (z.2 19) (z.2 20) val i l) : TN E mX10_reckonAll 2 [.ref T, .int (iI i), .int (iI l)] sh nn V (fun V' => PZ T V' z ∧ NwZ T V' val ∧ V'.1 T 32 = bZ (vaZ (z.2 19) (z.2 20) val i l = none) ∧ ∀ v, vaZ (z.2 19) (z.2 20) val i l = some v → V'.2.1 T 33 = v ∧ -1000000000 ≤ v ∧ v ≤ 1000000000) := by
  obtain ⟨R, e1, e2⟩ := he
  refine (kX10_reckonAll1 (L := 0) hT hz.pe ⟨h15, fun k => hz.2.1 19 (by decide) k, fun k => hz.2.1 20 (by decide) k, hn⟩ hl hi hv e1).mono ?_
  rintro o sh' nn' V' ⟨q1, q2, q3, q4, q5, q6⟩
  refine ⟨q1, q2, q3, hz.k q5, fun j h1 h2 => by rw [q5.2.1 _ (by omega) (by omega)]; exact hn j h1 h2, ?_, ?_⟩
  · rw [vaZ_of e1]
    cases R with
    | none => exact q6.trans (bZ_t rfl).symm
    | some st => exact q6.1.trans (bZ_f (fun h => by cases h)).symm
  · intro v hv
    rw [vaZ_of e1] at hv
    cases R with
    | none => cases hv
    | some st =>
      have : lstZ st = v := Option.some.inj hv
      rw [← this]
      exact ⟨q6.2, e2 st rfl⟩
/-- where a rule lies -/
abbrev raZ (p s q : Int) : Int := 22 + 36 * p + 6 * s + q
def pvV (z : ZT) (p s q : Int) : Int → Int := fun i => if i = 1 then s else if i = 2 then q else if i = 3 then wZ (z.2 3 (raZ p s q)) else if i = 4 then nZ (z.2 3 (raZ p s q)) else if i = 5 then p else if i = 6 then z.2 3 8 else 0
def evP (z : ZT) (p s q i l : Int) : Option Int := vaZ (z.2 19) (z.2 20) (pvV z p s q) i l
/-- said: word and next state -/
def ipS (z : ZT) (c p s q w : Int) : Int × ZT := if z.2 35 (c + 4) < z.2 35 (c + 5) then (match evP z p s q (z.2 35 (c + 4)) (z.2 35 (c + 5)) with
    | none => (0, z)
    | some g => (1, za z 3 (raZ p s q) (6 * wiZ w 0 9 + wiZ g 0 5))) else (1, za z 3 (raZ p s q) (6 * wiZ w 0 9 + s))
def ipW (z : ZT) (c p s q : Int) : Int × ZT := match evP z p s q (z.2 35 (c + 3)) (z.2 35 (c + 4)) with
    | none => (0, z)
    | some w => ipS z c p s q w
def ipH (z : ZT) (c p s q : Int) : Int × ZT := if z.2 35 (c + 2) = 1 then (1, za z 3 (raZ p s q) (-1)) else ipW z c p s q
def ipZ (z : ZT) (c p s q : Int) : Int × ZT := if z.2 35 (c + 5) < z.2 35 (c + 6) ∧ (evP z p s q (z.2 35 (c + 5)) (z.2 35 (c + 6)) = none ∨ evP z p s q (z.2 35 (c + 5)) (z.2 35 (c + 6)) = some 0) then (0, z) else ipH z c p s q
/-- a play's clause is in order -/
def PcZ (z : ZT) (c : Int) : Prop := (0 ≤ z.2 35 (c + 3) ∧ z.2 35 (c + 3) ≤ z.2 35 (c + 4) ∧ z.2 35 (c + 4) ≤ z.2 35 (c + 5) ∧ z.2 35 (c + 5) ≤ z.2 35 (c + 6) ∧ z.2 35 (c + 6) ≤ 400) ∧ (-1 ≤ z.2 35 c ∧ z.2 35 c ≤ 5) ∧ (-1 ≤ z.2 35 (c + 1) ∧ z.2 35 (c + 1) ≤ 5) ∧ (z.2 35 (c + 2) = 0 ∨ z.2 35 (c + 2) = 1) ∧
  ∀ val, B9Z val → (z.2 35 (c + 5) < z.2 35 (c + 6) → EvO (z.2 19) (z.2 20) val (z.2 35 (c + 5)) (z.2 35 (c + 6))) ∧ (z.2 35 (c + 2) ≠ 1 → EvO (z.2 19) (z.2 20) val (z.2 35 (c + 3)) (z.2 35 (c + 4)) ∧ (z.2 35 (c + 4) < z.2 35 (c + 5) → EvO (z.2 19) (z.2 20) val (z.2 35 (c + 4)) (z.2 35 (c + 5))))
theorem wiZ_r {v lo hi : Int} (h : lo ≤ hi) : lo ≤ wiZ v lo hi ∧ wiZ v lo hi ≤ hi := by
  unfold wiZ
  (repeat' split) <;> omega
theorem pvV_b {z : ZT} {p s q : Int} (hp : 0 ≤ p ∧ p ≤ 6) (hs : 0 ≤ s ∧ s ≤ 5) (hq : 0 ≤ q ∧ q ≤ 5) (hc : cOK (z.2 3 (raZ p s q))) (h8 : 0 ≤ z.2 3 8 ∧ z.2 3 8 ≤ 9) : B9Z (pvV z p s q) := by
  intro i _ _
  have hc : -1 ≤ z.2 3 (raZ p s q) ∧ z.2 3 (raZ p s q) < 60 := hc
  have h3 : -1 ≤ wZ (z.2 3 (raZ p s q)) ∧ wZ (z.2 3 (raZ p s q)) ≤ 9 := by unfold wZ; split <;> omega
  have h4 : -1 ≤ nZ (z.2 3 (raZ p s q)) ∧ nZ (z.2 3 (raZ p s q)) ≤ 5 := by unfold nZ; split <;> omega
  unfold pvV
  (repeat' split) <;> omega
set_option maxHeartbeats 4000000 in
theorem lX10_isPlayed4 {E : ET} {sh : SHT} {nn : Nat × Nat} {T : Nat} {z : ZT} {V : VT} {c p s q : Int} {w n1 : Int} (hT : MSh T sh) (hz : PZ T V z) (hra : 22 ≤ raZ p s q ∧ raZ p s q < 238) : TGo E mX10_isPlayed 3 274 [some (.ref T), some (.int (iI c)), some (.int (iI p)), some (.int (iI s)), some (.int (iI q)), some (.int (iI (raZ p s q))), some (.int (iI w)), some (.int (iI 1)), some (.int (iI n1))] [] sh nn V (ZPS T sh nn (((0, z) : Int × ZT))) := by
  refine TGo.al0 dX10_isPlayed_274 rfl ?_
  refine TGo.getS (t := 18) 3 3 (T + 2) (hT 0 (by decide)) rfl fgX10_13_10 dX10_isPlayed_275 rfl rfl rfl ?_
  refine TGo.il dX10_isPlayed_278 rfl ?_
  refine TGo.il dX10_isPlayed_280 rfl ?_
  refine TGo.if_eq 295 dX10_isPlayed_282 (by decide) (by decide) (fun h => absurd h (by decide)) (fun _ => ?_)
  refine TGo.al0 dX10_isPlayed_285 rfl ?_
  refine TGo.getS (t := 18) 3 3 (T + 2) (hT 0 (by decide)) rfl fgX10_13_10 dX10_isPlayed_286 rfl rfl rfl ?_
  refine TGo.il dX10_isPlayed_289 rfl ?_
  refine TGo.iald dX10_isPlayed_291 (hT 2 (by decide)) (by omega) rfl ?_
  refine TGo.toz _ (hz.2.1 3 (by decide) _) ?_
  refine TGo.goto 303 dX10_isPlayed_292 (by decide) ?_
  refine TGo.iast dX10_isPlayed_303 (hT 2 (by decide)) (by omega) rfl ?_
  refine TGo.il dX10_isPlayed_304 rfl ?_
  refine TGo.if_ne 313 dX10_isPlayed_306 (by decide) (by decide) (fun _ => ?_) (fun h => absurd h (by decide))
  refine TGo.ic0 dX10_isPlayed_313 ?_
  refine TGo.zret dX10_isPlayed_314 rfl (by first | exact Or.inl rfl | exact Or.inr rfl | exact bZ_or _ | assumption) ?_
  exact leafR (hz.a 3 rfl rfl) (by first | rfl | rw [za_id rfl])
set_option maxHeartbeats 4000000 in
theorem lX10_isPlayed3 {E : ET} {sh : SHT} {nn : Nat × Nat} {T : Nat} {z : ZT} {V : VT} {c p s q : Int} {w n1 : Int} (hT : MSh T sh) (hz : PZ T V z) (hra : 22 ≤ raZ p s q ∧ raZ p s q < 238) : TGo E mX10_isPlayed 3 274 [some (.ref T), some (.int (iI c)), some (.int (iI p)), some (.int (iI s)), some (.int (iI q)), some (.int (iI (raZ p s q))), some (.int (iI w)), some (.int (iI 0)), some (.int (iI n1))] [] sh nn V (ZPS T sh nn (((1, za z 3 (raZ p s q) (6 * w + n1)) : Int × ZT))) := by
  refine TGo.al0 dX10_isPlayed_274 rfl ?_
  refine TGo.getS (t := 18) 3 3 (T + 2) (hT 0 (by decide)) rfl fgX10_13_10 dX10_isPlayed_275 rfl rfl rfl ?_
  refine TGo.il dX10_isPlayed_278 rfl ?_
  refine TGo.il dX10_isPlayed_280 rfl ?_
  refine TGo.if_eq 295 dX10_isPlayed_282 (by decide) (by decide) (fun _ => ?_) (fun h => absurd h (by decide))
  refine TGo.bip 6 dX10_isPlayed_295 (by decide) ?_
  refine TGo.il dX10_isPlayed_297 rfl ?_
  refine TGo.imul dX10_isPlayed_299 ?_
  refine TGo.il dX10_isPlayed_300 rfl ?_
  refine TGo.iadd dX10_isPlayed_302 ?_
  refine TGo.iast dX10_isPlayed_303 (hT 2 (by decide)) (by omega) rfl ?_
  refine TGo.il dX10_isPlayed_304 rfl ?_
  refine TGo.if_ne 313 dX10_isPlayed_306 (by decide) (by decide) (fun h => absurd h (by decide)) (fun _ => ?_)
  refine TGo.ic1 dX10_isPlayed_309 ?_
  refine TGo.goto 314 dX10_isPlayed_310 (by decide) ?_
  refine TGo.zret dX10_isPlayed_314 rfl (by first | exact Or.inl rfl | exact Or.inr rfl | exact bZ_or _ | assumption) ?_
  exact leafR (hz.a 3 rfl rfl) (by first | rfl | rw [za_id rfl])
set_option maxHeartbeats 4000000 in
theorem lX10_isPlayed2 {E : ET} {sh : SHT} {nn : Nat × Nat} {T : Nat} {z : ZT} {V : VT} {c p s q : Int} {w : Int} (hT : MSh T sh) (hz : PZ T V z) (hc : 0 ≤ c ∧ c ≤ 110) (hp : 0 ≤ p ∧ p < 6) (hs : 0 ≤ s ∧ s ≤ 5) (hq : 0 ≤ q ∧ q ≤ 5) (P : PcZ z c) (h15 : z.1 15 = 1) (hcO : cOK (z.2 3 (raZ p s q))) (h8 : 0 ≤ z.2 3 8 ∧ z.2 3 8 ≤ 9) (hn : NwZ T V (pvV z p s q)) (hh : z.2 35 (c + 2) ≠ 1) : TGo E mX10_isPlayed 3 213 [some (.ref T), some (.int (iI c)), some (.int (iI p)), some (.int (iI s)), some (.int (iI q)), some (.int (iI (raZ p s q))), some (.int (iI (wiZ w 0 9))), some (.int (iI 0)), some (.int (iI s))] [] sh nn V (ZPS T sh nn (ipS z c p s q w)) := by
  obtain ⟨c3, c0, c1, c2, cE⟩ := P
  have hB := pvV_b (z := z) (p := p) (s := s) (q := q) (by omega) hs hq hcO h8
  obtain ⟨e1, e2⟩ := cE _ hB
  have hra : 22 ≤ raZ p s q ∧ raZ p s q < 238 := by show 22 ≤ 22 + 36 * p + 6 * s + q ∧ 22 + 36 * p + 6 * s + q < 238; omega
  refine TGo.al0 dX10_isPlayed_213 rfl ?_
  refine TGo.getS (t := 18) 35 35 (T + 16) (hT 0 (by decide)) rfl fgX10_85_10 dX10_isPlayed_214 rfl rfl rfl ?_
  refine TGo.il1 dX10_isPlayed_217 rfl ?_
  refine TGo.ic4 dX10_isPlayed_218 ?_
  refine TGo.iadd dX10_isPlayed_219 ?_
  refine TGo.iald dX10_isPlayed_220 (hT 16 (by decide)) (by omega) rfl ?_
  refine TGo.toz _ (hz.2.1 35 (by decide) _) ?_
  refine TGo.al0 dX10_isPlayed_221 rfl ?_
  refine TGo.getS (t := 18) 35 35 (T + 16) (hT 0 (by decide)) rfl fgX10_85_10 dX10_isPlayed_222 rfl rfl rfl ?_
  refine TGo.il1 dX10_isPlayed_225 rfl ?_
  refine TGo.ic5 dX10_isPlayed_226 ?_
  refine TGo.iadd dX10_isPlayed_227 ?_
  refine TGo.iald dX10_isPlayed_228 (hT 16 (by decide)) (by omega) rfl ?_
  refine TGo.toz _ (hz.2.1 35 (by decide) _) ?_
  refine TGo.icmp_ge 274 dX10_isPlayed_229 (by decide) (by omega) (fun h229 => ?_) (fun h229 => ?_)
  · first
    | (refine (lX10_isPlayed4 (w := wiZ w 0 9) hT hz hra).mono ?_
       rintro o sh' nn' V' ⟨v, q1, q2, q3, q4, q5⟩
       refine ⟨v, q1, q2, q3, ?_⟩
       unfold ipS
       rw [if_pos (by omega), hva]
       exact ⟨q4, q5⟩)
    | (refine (lX10_isPlayed3 (w := wiZ w 0 9) hT hz hra).mono ?_
       rintro o sh' nn' V' ⟨v, q1, q2, q3, q4, q5⟩
       refine ⟨v, q1, q2, q3, ?_⟩
       unfold ipS
       first
       | (rw [if_pos (by omega), hva]
          exact ⟨q4, q5⟩)
       | (rw [if_neg (by omega)]
          exact ⟨q4, q5⟩))
  · refine TGo.il dX10_isPlayed_232 rfl ?_
    refine TGo.if_ne 274 dX10_isPlayed_234 (by decide) (by decide) (fun h => absurd h (by decide)) (fun _ => ?_)
    refine TGo.al0 dX10_isPlayed_237 rfl ?_
    refine TGo.al0 dX10_isPlayed_238 rfl ?_
    refine TGo.getS (t := 18) 35 35 (T + 16) (hT 0 (by decide)) rfl fgX10_85_10 dX10_isPlayed_239 rfl rfl rfl ?_
    refine TGo.il1 dX10_isPlayed_242 rfl ?_
    refine TGo.ic4 dX10_isPlayed_243 ?_
    refine TGo.iadd dX10_isPlayed_244 ?_
    refine TGo.iald dX10_isPlayed_245 (hT 16 (by decide)) (by omega) rfl ?_
    refine TGo.toz _ (hz.2.1 35 (by decide) _) ?_
    refine TGo.al0 dX10_isPlayed_246 rfl ?_
    refine TGo.getS (t := 18) 35 35 (T + 16) (hT 0 (by decide)) rfl fgX10_85_10 dX10_isPlayed_247 rfl rfl rfl ?_
    refine TGo.il1 dX10_isPlayed_250 rfl ?_
    refine TGo.ic5 dX10_isPlayed_251 ?_
    refine TGo.iadd dX10_isPlayed_252 ?_
    refine TGo.iald dX10_isPlayed_253 (hT 16 (by decide)) (by omega) rfl ?_
    refine TGo.toz _ (hz.2.1 35 (by decide) _) ?_
    refine TGo.cN (csV2 (y2 := mX10_reckonAll) (t := 18) 2 rfl (hT 0 (by decide)) rfl rfl dX10_isPlayed_254 q2297 q2299 qs74 okX10_reckonAll npX10_reckonAll rfl rfl) (kX10_reckonP (i := z.2 35 (c + 4)) (l := z.2 35 (c + 5)) hT hz h15 hn (by omega) (by omega) hB ((e2 hh).2 (by omega))) (fun V254 h254 => ?_)
    obtain ⟨hz254, hn254, hb254, hv254⟩ := h254
    refine TGo.al0 dX10_isPlayed_257 rfl ?_
    refine TGo.getJ (t := 18) 33 33 (hT 0 (by decide)) rfl fgX10_411_10 dX10_isPlayed_258 rfl rfl rfl ?_
    rcases hva : evP z p s q (z.2 35 (c + 4)) (z.2 35 (c + 5)) with _ | g
    · obtain ⟨y, hy, ey⟩ := lI_any (V254.2.1 T 33)
      have hbb : V254.1 T 32 = 1 := hb254.trans (bZ_t hva)
      refine TGo.seq _ [.long (lI y)] _ rfl (by rw [ey]) rfl ?_
      refine TGo.ic0 dX10_isPlayed_261 ?_
      refine TGo.ic5 dX10_isPlayed_262 ?_
      refine TGo.cF (csS3 (y2 := mX10_within) 1 rfl dX10_isPlayed_263 q2307 q2308 okX10_within npX10_within rfl rfl) (kX10_within (by omega) (by omega) (by omega)) ?_
      refine TGo.is dX10_isPlayed_266 rfl rfl ?_
      refine TGo.al0 dX10_isPlayed_268 rfl ?_
      refine TGo.getI (t := 18) 32 32 (hT 0 (by decide)) rfl fgX10_397_10 dX10_isPlayed_269 rfl rfl rfl ?_
      refine TGo.toz _ hbb ?_
      refine TGo.is dX10_isPlayed_272 rfl rfl ?_
      first
      | (refine (lX10_isPlayed4 (w := wiZ w 0 9) hT hz254 hra).mono ?_
         rintro o sh' nn' V' ⟨v, q1, q2, q3, q4, q5⟩
         refine ⟨v, q1, q2, q3, ?_⟩
         unfold ipS
         rw [if_pos (by omega), hva]
         exact ⟨q4, q5⟩)
      | (refine (lX10_isPlayed3 (w := wiZ w 0 9) hT hz254 hra).mono ?_
         rintro o sh' nn' V' ⟨v, q1, q2, q3, q4, q5⟩
         refine ⟨v, q1, q2, q3, ?_⟩
         unfold ipS
         first
         | (rw [if_pos (by omega), hva]
            exact ⟨q4, q5⟩)
         | (rw [if_neg (by omega)]
            exact ⟨q4, q5⟩))
    · obtain ⟨v1, v2⟩ := hv254 g hva
      have hbb : V254.1 T 32 = 0 := hb254.trans (bZ_f (by rw [show vaZ (z.2 19) (z.2 20) (pvV z p s q) (z.2 35 (c + 4)) (z.2 35 (c + 5)) = some g from hva]; intro h; cases h))
      refine TGo.tol g v1 ?_
      refine TGo.ic0 dX10_isPlayed_261 ?_
      refine TGo.ic5 dX10_isPlayed_262 ?_
      refine TGo.cF (csS3 (y2 := mX10_within) 1 rfl dX10_isPlayed_263 q2307 q2308 okX10_within npX10_within rfl rfl) (kX10_within (by omega) (by omega) (by omega)) ?_
      refine TGo.is dX10_isPlayed_266 rfl rfl ?_
      refine TGo.al0 dX10_isPlayed_268 rfl ?_
      refine TGo.getI (t := 18) 32 32 (hT 0 (by decide)) rfl fgX10_397_10 dX10_isPlayed_269 rfl rfl rfl ?_
      refine TGo.toz _ hbb ?_
      refine TGo.is dX10_isPlayed_272 rfl rfl ?_
      first
      | (refine (lX10_isPlayed4 (w := wiZ w 0 9) hT hz254 hra).mono ?_
         rintro o sh' nn' V' ⟨v, q1, q2, q3, q4, q5⟩
         refine ⟨v, q1, q2, q3, ?_⟩
         unfold ipS
         rw [if_pos (by omega), hva]
         exact ⟨q4, q5⟩)
      | (refine (lX10_isPlayed3 (w := wiZ w 0 9) hT hz254 hra).mono ?_
         rintro o sh' nn' V' ⟨v, q1, q2, q3, q4, q5⟩
         refine ⟨v, q1, q2, q3, ?_⟩
         unfold ipS
         first
         | (rw [if_pos (by omega), hva]
            exact ⟨q4, q5⟩)
         | (rw [if_neg (by omega)]
            exact ⟨q4, q5⟩))
set_option maxHeartbeats 4000000 in
theorem lX10_isPlayed2b {E : ET} {sh : SHT} {nn : Nat × Nat} {T : Nat} {z : ZT} {V : VT} {c p s q : Int} {w : Int} (hT : MSh T sh) (hz : PZ T V z) (hra : 22 ≤ raZ p s q ∧ raZ p s q < 238) (hc : 0 ≤ c ∧ c ≤ 110) (c3 : 0 ≤ z.2 35 (c + 4) ∧ z.2 35 (c + 4) ≤ 400 ∧ 0 ≤ z.2 35 (c + 5) ∧ z.2 35 (c + 5) ≤ 400) : TGo E mX10_isPlayed 3 213 [some (.ref T), some (.int (iI c)), some (.int (iI p)), some (.int (iI s)), some (.int (iI q)), some (.int (iI (raZ p s q))), some (.int (iI w)), some (.int (iI 1)), some (.int (iI s))] [] sh nn V (ZPS T sh nn (((0, z) : Int × ZT))) := by
  refine TGo.al0 dX10_isPlayed_213 rfl ?_
  refine TGo.getS (t := 18) 35 35 (T + 16) (hT 0 (by decide)) rfl fgX10_85_10 dX10_isPlayed_214 rfl rfl rfl ?_
  refine TGo.il1 dX10_isPlayed_217 rfl ?_
  refine TGo.ic4 dX10_isPlayed_218 ?_
  refine TGo.iadd dX10_isPlayed_219 ?_
  refine TGo.iald dX10_isPlayed_220 (hT 16 (by decide)) (by omega) rfl ?_
  refine TGo.toz _ (hz.2.1 35 (by decide) _) ?_
  refine TGo.al0 dX10_isPlayed_221 rfl ?_
  refine TGo.getS (t := 18) 35 35 (T + 16) (hT 0 (by decide)) rfl fgX10_85_10 dX10_isPlayed_222 rfl rfl rfl ?_
  refine TGo.il1 dX10_isPlayed_225 rfl ?_
  refine TGo.ic5 dX10_isPlayed_226 ?_
  refine TGo.iadd dX10_isPlayed_227 ?_
  refine TGo.iald dX10_isPlayed_228 (hT 16 (by decide)) (by omega) rfl ?_
  refine TGo.toz _ (hz.2.1 35 (by decide) _) ?_
  refine TGo.icmp_ge 274 dX10_isPlayed_229 (by decide) (by omega) (fun h229 => ?_) (fun h229 => ?_)
  · exact lX10_isPlayed4 hT hz hra
  · refine TGo.il dX10_isPlayed_232 rfl ?_
    refine TGo.if_ne 274 dX10_isPlayed_234 (by decide) (by decide) (fun _ => ?_) (fun h => absurd h (by decide))
    exact lX10_isPlayed4 hT hz hra
set_option maxHeartbeats 4000000 in
theorem lX10_isPlayed1 {E : ET} {sh : SHT} {nn : Nat × Nat} {T : Nat} {z : ZT} {V : VT} {c p s q : Int} (hT : MSh T sh) (hz : PZ T V z) (hc : 0 ≤ c ∧ c ≤ 110) (hp : 0 ≤ p ∧ p < 6) (hs : 0 ≤ s ∧ s ≤ 5) (hq : 0 ≤ q ∧ q ≤ 5) (P : PcZ z c) (h15 : z.1 15 = 1) (hcO : cOK (z.2 3 (raZ p s q))) (h8 : 0 ≤ z.2 3 8 ∧ z.2 3 8 ≤ 9) (hn : NwZ T V (pvV z p s q)) : TGo E mX10_isPlayed 3 150 [some (.ref T), some (.int (iI c)), some (.int (iI p)), some (.int (iI s)), some (.int (iI q)), some (.int (iI (raZ p s q))), none, none, none] [] sh nn V (ZPS T sh nn (ipH z c p s q)) := by
  have P' := P
  obtain ⟨c3, c0, c1, c2, cE⟩ := P
  have hB := pvV_b (z := z) (p := p) (s := s) (q := q) (by omega) hs hq hcO h8
  obtain ⟨e1, e2⟩ := cE _ hB
  have hra : 22 ≤ raZ p s q ∧ raZ p s q < 238 := by show 22 ≤ 22 + 36 * p + 6 * s + q ∧ 22 + 36 * p + 6 * s + q < 238; omega
  refine TGo.al0 dX10_isPlayed_150 rfl ?_
  refine TGo.getS (t := 18) 35 35 (T + 16) (hT 0 (by decide)) rfl fgX10_85_10 dX10_isPlayed_151 rfl rfl rfl ?_
  refine TGo.il1 dX10_isPlayed_154 rfl ?_
  refine TGo.ic2 dX10_isPlayed_155 ?_
  refine TGo.iadd dX10_isPlayed_156 ?_
  refine TGo.iald dX10_isPlayed_157 (hT 16 (by decide)) (by omega) rfl ?_
  refine TGo.toz _ (hz.2.1 35 (by decide) _) ?_
  refine TGo.ic1 dX10_isPlayed_158 ?_
  refine TGo.icmp_ne 172 dX10_isPlayed_159 (by decide) (by omega) (fun h159 => ?_) (fun h159 => ?_)
  · refine TGo.al0 dX10_isPlayed_172 rfl ?_
    refine TGo.al0 dX10_isPlayed_173 rfl ?_
    refine TGo.getS (t := 18) 35 35 (T + 16) (hT 0 (by decide)) rfl fgX10_85_10 dX10_isPlayed_174 rfl rfl rfl ?_
    refine TGo.il1 dX10_isPlayed_177 rfl ?_
    refine TGo.ic3 dX10_isPlayed_178 ?_
    refine TGo.iadd dX10_isPlayed_179 ?_
    refine TGo.iald dX10_isPlayed_180 (hT 16 (by decide)) (by omega) rfl ?_
    refine TGo.toz _ (hz.2.1 35 (by decide) _) ?_
    refine TGo.al0 dX10_isPlayed_181 rfl ?_
    refine TGo.getS (t := 18) 35 35 (T + 16) (hT 0 (by decide)) rfl fgX10_85_10 dX10_isPlayed_182 rfl rfl rfl ?_
    refine TGo.il1 dX10_isPlayed_185 rfl ?_
    refine TGo.ic4 dX10_isPlayed_186 ?_
    refine TGo.iadd dX10_isPlayed_187 ?_
    refine TGo.iald dX10_isPlayed_188 (hT 16 (by decide)) (by omega) rfl ?_
    refine TGo.toz _ (hz.2.1 35 (by decide) _) ?_
    refine TGo.cN (csV2 (y2 := mX10_reckonAll) (t := 18) 2 rfl (hT 0 (by decide)) rfl rfl dX10_isPlayed_189 q2297 q2299 qs74 okX10_reckonAll npX10_reckonAll rfl rfl) (kX10_reckonP (i := z.2 35 (c + 3)) (l := z.2 35 (c + 4)) hT hz h15 hn (by omega) (by omega) hB ((e2 (by assumption)).1)) (fun V189 h189 => ?_)
    obtain ⟨hz189, hn189, hb189, hv189⟩ := h189
    refine TGo.al0 dX10_isPlayed_192 rfl ?_
    refine TGo.getJ (t := 18) 33 33 (hT 0 (by decide)) rfl fgX10_411_10 dX10_isPlayed_193 rfl rfl rfl ?_
    rcases hva : evP z p s q (z.2 35 (c + 3)) (z.2 35 (c + 4)) with _ | g
    · obtain ⟨y, hy, ey⟩ := lI_any (V189.2.1 T 33)
      have hbb : V189.1 T 32 = 1 := hb189.trans (bZ_t hva)
      refine TGo.seq _ [.long (lI y)] _ rfl (by rw [ey]) rfl ?_
      refine TGo.ic0 dX10_isPlayed_196 ?_
      refine TGo.bip 9 dX10_isPlayed_197 (by decide) ?_
      refine TGo.cF (csS3 (y2 := mX10_within) 1 rfl dX10_isPlayed_199 q2307 q2308 okX10_within npX10_within rfl rfl) (kX10_within (by omega) (by omega) (by omega)) ?_
      refine TGo.is dX10_isPlayed_202 rfl rfl ?_
      refine TGo.al0 dX10_isPlayed_204 rfl ?_
      refine TGo.getI (t := 18) 32 32 (hT 0 (by decide)) rfl fgX10_397_10 dX10_isPlayed_205 rfl rfl rfl ?_
      refine TGo.toz _ hbb ?_
      refine TGo.is dX10_isPlayed_208 rfl rfl ?_
      refine TGo.il3 dX10_isPlayed_210 rfl ?_
      refine TGo.is dX10_isPlayed_211 rfl rfl ?_
      have hw : ipH z c p s q = ipW z c p s q := if_neg (by assumption)
      rw [hw]
      unfold ipW
      rw [hva]
      first
      | exact lX10_isPlayed2 (w := g) hT hz189 hc hp hs hq P' h15 hcO h8 hn189 (by assumption)
      | exact lX10_isPlayed2b (w := wiZ y 0 9) hT hz189 hra hc (by omega)
    · obtain ⟨v1, v2⟩ := hv189 g hva
      have hbb : V189.1 T 32 = 0 := hb189.trans (bZ_f (by rw [show vaZ (z.2 19) (z.2 20) (pvV z p s q) (z.2 35 (c + 3)) (z.2 35 (c + 4)) = some g from hva]; intro h; cases h))
      refine TGo.tol g v1 ?_
      refine TGo.ic0 dX10_isPlayed_196 ?_
      refine TGo.bip 9 dX10_isPlayed_197 (by decide) ?_
      refine TGo.cF (csS3 (y2 := mX10_within) 1 rfl dX10_isPlayed_199 q2307 q2308 okX10_within npX10_within rfl rfl) (kX10_within (by omega) (by omega) (by omega)) ?_
      refine TGo.is dX10_isPlayed_202 rfl rfl ?_
      refine TGo.al0 dX10_isPlayed_204 rfl ?_
      refine TGo.getI (t := 18) 32 32 (hT 0 (by decide)) rfl fgX10_397_10 dX10_isPlayed_205 rfl rfl rfl ?_
      refine TGo.toz _ hbb ?_
      refine TGo.is dX10_isPlayed_208 rfl rfl ?_
      refine TGo.il3 dX10_isPlayed_210 rfl ?_
      refine TGo.is dX10_isPlayed_211 rfl rfl ?_
      have hw : ipH z c p s q = ipW z c p s q := if_neg (by assumption)
      rw [hw]
      unfold ipW
      rw [hva]
      first
      | exact lX10_isPlayed2 (w := g) hT hz189 hc hp hs hq P' h15 hcO h8 hn189 (by assumption)
      | exact lX10_isPlayed2b (w := wiZ y 0 9) hT hz189 hra hc (by omega)
  · refine TGo.al0 dX10_isPlayed_162 rfl ?_
    refine TGo.getS (t := 18) 3 3 (T + 2) (hT 0 (by decide)) rfl fgX10_13_10 dX10_isPlayed_163 rfl rfl rfl ?_
    refine TGo.il dX10_isPlayed_166 rfl ?_
    refine TGo.icm1 dX10_isPlayed_168 ?_
    refine TGo.iast dX10_isPlayed_169 (hT 2 (by decide)) (by omega) rfl ?_
    refine TGo.ic1 dX10_isPlayed_170 ?_
    refine TGo.zret dX10_isPlayed_171 rfl (by first | exact Or.inl rfl | exact Or.inr rfl | exact bZ_or _ | assumption) ?_
    unfold ipH
    rw [if_pos (by assumption)]
    exact leafR (hz.a 3 rfl rfl) rfl
set_option maxHeartbeats 4000000 in
theorem lX10_isPlayed0 {E : ET} {sh : SHT} {nn : Nat × Nat} {T : Nat} {z : ZT} {V : VT} {c p s q : Int} (hT : MSh T sh) (hz : PZ T V z) (hc : 0 ≤ c ∧ c ≤ 110) (hp : 0 ≤ p ∧ p < 6) (hs : 0 ≤ s ∧ s ≤ 5) (hq : 0 ≤ q ∧ q ≤ 5) (P : PcZ z c) (h15 : z.1 15 = 1) (hcO : cOK (z.2 3 (raZ p s q))) (h8 : 0 ≤ z.2 3 8 ∧ z.2 3 8 ≤ 9) (hn : NwZ T V (pvV z p s q)) : TGo E mX10_isPlayed 3 91 [some (.ref T), some (.int (iI c)), some (.int (iI p)), some (.int (iI s)), some (.int (iI q)), some (.int (iI (raZ p s q))), none, none, none] [] sh nn V (ZPS T sh nn (ipZ z c p s q)) := by
  have P' := P
  obtain ⟨c3, c0, c1, c2, cE⟩ := P
  have hB := pvV_b (z := z) (p := p) (s := s) (q := q) (by omega) hs hq hcO h8
  obtain ⟨e1, e2⟩ := cE _ hB
  have hra : 22 ≤ raZ p s q ∧ raZ p s q < 238 := by show 22 ≤ 22 + 36 * p + 6 * s + q ∧ 22 + 36 * p + 6 * s + q < 238; omega
  refine TGo.al0 dX10_isPlayed_91 rfl ?_
  refine TGo.getS (t := 18) 35 35 (T + 16) (hT 0 (by decide)) rfl fgX10_85_10 dX10_isPlayed_92 rfl rfl rfl ?_
  refine TGo.il1 dX10_isPlayed_95 rfl ?_
  refine TGo.ic5 dX10_isPlayed_96 ?_
  refine TGo.iadd dX10_isPlayed_97 ?_
  refine TGo.iald dX10_isPlayed_98 (hT 16 (by decide)) (by omega) rfl ?_
  refine TGo.toz _ (hz.2.1 35 (by decide) _) ?_
  refine TGo.al0 dX10_isPlayed_99 rfl ?_
  refine TGo.getS (t := 18) 35 35 (T + 16) (hT 0 (by decide)) rfl fgX10_85_10 dX10_isPlayed_100 rfl rfl rfl ?_
  refine TGo.il1 dX10_isPlayed_103 rfl ?_
  refine TGo.bip 6 dX10_isPlayed_104 (by decide) ?_
  refine TGo.iadd dX10_isPlayed_106 ?_
  refine TGo.iald dX10_isPlayed_107 (hT 16 (by decide)) (by omega) rfl ?_
  refine TGo.toz _ (hz.2.1 35 (by decide) _) ?_
  refine TGo.icmp_ge 150 dX10_isPlayed_108 (by decide) (by omega) (fun h108 => ?_) (fun h108 => ?_)
  · have hi : ipZ z c p s q = ipH z c p s q := if_neg (fun x => by
      first
      | (have x1 := x.1; omega)
      | (rcases x.2 with y | y
         · rw [hva] at y; cases y
         · rw [hva] at y; have y := Option.some.inj y; omega))
    rw [hi]
    exact lX10_isPlayed1 hT hz hc hp hs hq P' h15 hcO h8 hn
  · refine TGo.al0 dX10_isPlayed_111 rfl ?_
    refine TGo.al0 dX10_isPlayed_112 rfl ?_
    refine TGo.getS (t := 18) 35 35 (T + 16) (hT 0 (by decide)) rfl fgX10_85_10 dX10_isPlayed_113 rfl rfl rfl ?_
    refine TGo.il1 dX10_isPlayed_116 rfl ?_
    refine TGo.ic5 dX10_isPlayed_117 ?_
    refine TGo.iadd dX10_isPlayed_118 ?_
    refine TGo.iald dX10_isPlayed_119 (hT 16 (by decide)) (by omega) rfl ?_
    refine TGo.toz _ (hz.2.1 35 (by decide) _) ?_
    refine TGo.al0 dX10_isPlayed_120 rfl ?_
    refine TGo.getS (t := 18) 35 35 (T + 16) (hT 0 (by decide)) rfl fgX10_85_10 dX10_isPlayed_121 rfl rfl rfl ?_
    refine TGo.il1 dX10_isPlayed_124 rfl ?_
    refine TGo.bip 6 dX10_isPlayed_125 (by decide) ?_
    refine TGo.iadd dX10_isPlayed_127 ?_
    refine TGo.iald dX10_isPlayed_128 (hT 16 (by decide)) (by omega) rfl ?_
    refine TGo.toz _ (hz.2.1 35 (by decide) _) ?_
    refine TGo.cN (csV2 (y2 := mX10_reckonAll) (t := 18) 2 rfl (hT 0 (by decide)) rfl rfl dX10_isPlayed_129 q2297 q2299 qs74 okX10_reckonAll npX10_reckonAll rfl rfl) (kX10_reckonP (i := z.2 35 (c + 5)) (l := z.2 35 (c + 6)) hT hz h15 hn (by omega) (by omega) hB (e1 (by omega))) (fun V129 h129 => ?_)
    obtain ⟨hz129, hn129, hb129, hv129⟩ := h129
    rcases hva : evP z p s q (z.2 35 (c + 5)) (z.2 35 (c + 6)) with _ | g
    · have hbb : V129.1 T 32 = 1 := hb129.trans (bZ_t hva)
      refine TGo.al0 dX10_isPlayed_132 rfl ?_
      refine TGo.getI (t := 18) 32 32 (hT 0 (by decide)) rfl fgX10_397_10 dX10_isPlayed_133 rfl rfl rfl ?_
      refine TGo.toz _ hbb ?_
      refine TGo.if_ne 148 dX10_isPlayed_136 (by decide) (by decide) (fun _ => ?_) (fun h => absurd h (by decide))
      refine TGo.ic0 dX10_isPlayed_148 ?_
      refine TGo.zret dX10_isPlayed_149 rfl (by first | exact Or.inl rfl | exact Or.inr rfl | exact bZ_or _ | assumption) ?_
      have hi : ipZ z c p s q = (0, z) := if_pos ⟨by assumption, by first | exact Or.inl hva | exact Or.inr (hva.trans (congrArg some (by omega)))⟩
      rw [hi]
      exact leafR hz129 rfl
    · obtain ⟨v1, v2⟩ := hv129 g hva
      have hbb : V129.1 T 32 = 0 := hb129.trans (bZ_f (by rw [show vaZ (z.2 19) (z.2 20) (pvV z p s q) (z.2 35 (c + 5)) (z.2 35 (c + 6)) = some g from hva]; intro h; cases h))
      refine TGo.al0 dX10_isPlayed_132 rfl ?_
      refine TGo.getI (t := 18) 32 32 (hT 0 (by decide)) rfl fgX10_397_10 dX10_isPlayed_133 rfl rfl rfl ?_
      refine TGo.toz _ hbb ?_
      refine TGo.if_ne 148 dX10_isPlayed_136 (by decide) (by decide) (fun h => absurd h (by decide)) (fun _ => ?_)
      refine TGo.al0 dX10_isPlayed_139 rfl ?_
      refine TGo.getJ (t := 18) 33 33 (hT 0 (by decide)) rfl fgX10_411_10 dX10_isPlayed_140 rfl rfl rfl ?_
      refine TGo.tol g v1 ?_
      refine TGo.lc0 dX10_isPlayed_143 ?_
      refine TGo.lc_ne 150 dX10_isPlayed_144 dX10_isPlayed_145 (by decide) (by omega) (fun h144 => ?_) (fun h144 => ?_)
      · have hi : ipZ z c p s q = ipH z c p s q := if_neg (fun x => by
          first
          | (have x1 := x.1; omega)
          | (rcases x.2 with y | y
             · rw [hva] at y; cases y
             · rw [hva] at y; have y := Option.some.inj y; omega))
        rw [hi]
        exact lX10_isPlayed1 hT hz129 hc hp hs hq P' h15 hcO h8 hn129
      · refine TGo.ic0 dX10_isPlayed_148 ?_
        refine TGo.zret dX10_isPlayed_149 rfl (by first | exact Or.inl rfl | exact Or.inr rfl | exact bZ_or _ | assumption) ?_
        have hi : ipZ z c p s q = (0, z) := if_pos ⟨by assumption, by first | exact Or.inl hva | exact Or.inr (hva.trans (congrArg some (by omega)))⟩
        rw [hi]
        exact leafR hz129 rfl
set_option maxHeartbeats 4000000 in
theorem kX10_isPlayed {E : ET} {sh : SHT} {nn : Nat × Nat} {V : VT} {T : Nat} {z : ZT} {c p s q : Int} (hT : MSh T sh) (hz : PZ T V z) (hc : 0 ≤ c ∧ c ≤ 110) (hp : 0 ≤ p ∧ p < 6) (hs : 0 ≤ s ∧ s ≤ 5) (hq : 0 ≤ q ∧ q ≤ 5) (P : PcZ z c) (h15 : z.1 15 = 1) (hcO : cOK (z.2 3 (raZ p s q))) (h8 : 0 ≤ z.2 3 8 ∧ z.2 3 8 ≤ 9) : TS E mX10_isPlayed 3 [.ref T, .int (iI c), .int (iI p), .int (iI s), .int (iI q)] sh nn V (fun v V1 => v = .int (iI (ipZ z c p s q).1) ∧ PZ T V1 (ipZ z c p s q).2) := by
  have hra : 22 ≤ raZ p s q ∧ raZ p s q < 238 := by show 22 ≤ 22 + 36 * p + 6 * s + q ∧ 22 + 36 * p + 6 * s + q < 238; omega
  have hco : -1 ≤ z.2 3 (raZ p s q) ∧ z.2 3 (raZ p s q) < 60 := hcO
  have hwz : -1 ≤ wZ (z.2 3 (raZ p s q)) ∧ wZ (z.2 3 (raZ p s q)) ≤ 9 := by unfold wZ; split <;> omega
  have hnz : -1 ≤ nZ (z.2 3 (raZ p s q)) ∧ nZ (z.2 3 (raZ p s q)) ≤ 5 := by unfold nZ; split <;> omega
  refine TC.intro [some (.ref T), some (.int (iI c)), some (.int (iI p)), some (.int (iI s)), some (.int (iI q)), none, none, none, none] rfl ?_
  refine TGo.bip 22 dX10_isPlayed_0 (by decide) ?_
  refine TGo.bip 36 dX10_isPlayed_2 (by decide) ?_
  refine TGo.il2 dX10_isPlayed_4 rfl ?_
  refine TGo.imul dX10_isPlayed_5 ?_
  refine TGo.iadd dX10_isPlayed_6 ?_
  refine TGo.bip 6 dX10_isPlayed_7 (by decide) ?_
  refine TGo.il3 dX10_isPlayed_9 rfl ?_
  refine TGo.imul dX10_isPlayed_10 ?_
  refine TGo.iadd dX10_isPlayed_11 ?_
  refine TGo.il dX10_isPlayed_12 rfl ?_
  refine TGo.iadd dX10_isPlayed_14 ?_
  refine TGo.is dX10_isPlayed_15 rfl rfl ?_
  refine TGo.al0 dX10_isPlayed_17 rfl ?_
  refine TGo.getS (t := 18) 30 30 (T + 14) (hT 0 (by decide)) rfl fgX10_79_10 dX10_isPlayed_18 rfl rfl rfl ?_
  refine TGo.ic1 dX10_isPlayed_21 ?_
  refine TGo.il3 dX10_isPlayed_22 rfl ?_
  refine TGo.i2l dX10_isPlayed_23 (by omega) ?_
  refine TGo.last dX10_isPlayed_24 (hT 14 (by decide)) (by omega) rfl ?_
  refine TGo.al0 dX10_isPlayed_25 rfl ?_
  refine TGo.getS (t := 18) 30 30 (T + 14) (hT 0 (by decide)) rfl fgX10_79_10 dX10_isPlayed_26 rfl rfl rfl ?_
  refine TGo.ic2 dX10_isPlayed_29 ?_
  refine TGo.il dX10_isPlayed_30 rfl ?_
  refine TGo.i2l dX10_isPlayed_32 (by omega) ?_
  refine TGo.last dX10_isPlayed_33 (hT 14 (by decide)) (by omega) rfl ?_
  refine TGo.al0 dX10_isPlayed_34 rfl ?_
  refine TGo.getS (t := 18) 30 30 (T + 14) (hT 0 (by decide)) rfl fgX10_79_10 dX10_isPlayed_35 rfl rfl rfl ?_
  refine TGo.ic3 dX10_isPlayed_38 ?_
  refine TGo.al0 dX10_isPlayed_39 rfl ?_
  refine TGo.getS (t := 18) 3 3 (T + 2) (hT 0 (by decide)) rfl fgX10_13_10 dX10_isPlayed_40 rfl rfl rfl ?_
  refine TGo.il dX10_isPlayed_43 rfl ?_
  refine TGo.iald dX10_isPlayed_45 (hT 2 (by decide)) (by omega) rfl ?_
  refine TGo.toz _ (hz.2.1 3 (by decide) _) ?_
  refine TGo.cF (csS1 (y2 := mX10_wordOf) 1 rfl dX10_isPlayed_46 q2069 q2070 okX10_wordOf npX10_wordOf rfl rfl) (kX10_wordOf hcO) ?_
  refine TGo.toz (wZ (z.2 3 (raZ p s q))) rfl ?_
  refine TGo.i2l dX10_isPlayed_49 (by omega) ?_
  refine TGo.last dX10_isPlayed_50 (hT 14 (by decide)) (by omega) rfl ?_
  refine TGo.al0 dX10_isPlayed_51 rfl ?_
  refine TGo.getS (t := 18) 30 30 (T + 14) (hT 0 (by decide)) rfl fgX10_79_10 dX10_isPlayed_52 rfl rfl rfl ?_
  refine TGo.ic4 dX10_isPlayed_55 ?_
  refine TGo.al0 dX10_isPlayed_56 rfl ?_
  refine TGo.getS (t := 18) 3 3 (T + 2) (hT 0 (by decide)) rfl fgX10_13_10 dX10_isPlayed_57 rfl rfl rfl ?_
  refine TGo.il dX10_isPlayed_60 rfl ?_
  refine TGo.iald dX10_isPlayed_62 (hT 2 (by decide)) (by omega) rfl ?_
  refine TGo.toz _ (hz.2.1 3 (by decide) _) ?_
  refine TGo.cF (csS1 (y2 := mX10_nextOf) 1 rfl dX10_isPlayed_63 q2087 q2088 okX10_nextOf npX10_nextOf rfl rfl) (kX10_nextOf hcO) ?_
  refine TGo.toz (nZ (z.2 3 (raZ p s q))) rfl ?_
  refine TGo.i2l dX10_isPlayed_66 (by omega) ?_
  refine TGo.last dX10_isPlayed_67 (hT 14 (by decide)) (by omega) rfl ?_
  refine TGo.al0 dX10_isPlayed_68 rfl ?_
  refine TGo.getS (t := 18) 30 30 (T + 14) (hT 0 (by decide)) rfl fgX10_79_10 dX10_isPlayed_69 rfl rfl rfl ?_
  refine TGo.ic5 dX10_isPlayed_72 ?_
  refine TGo.il2 dX10_isPlayed_73 rfl ?_
  refine TGo.i2l dX10_isPlayed_74 (by omega) ?_
  refine TGo.last dX10_isPlayed_75 (hT 14 (by decide)) (by omega) rfl ?_
  refine TGo.al0 dX10_isPlayed_76 rfl ?_
  refine TGo.getS (t := 18) 30 30 (T + 14) (hT 0 (by decide)) rfl fgX10_79_10 dX10_isPlayed_77 rfl rfl rfl ?_
  refine TGo.bip 6 dX10_isPlayed_80 (by decide) ?_
  refine TGo.al0 dX10_isPlayed_82 rfl ?_
  refine TGo.getS (t := 18) 3 3 (T + 2) (hT 0 (by decide)) rfl fgX10_13_10 dX10_isPlayed_83 rfl rfl rfl ?_
  refine TGo.bip 8 dX10_isPlayed_86 (by decide) ?_
  refine TGo.iald dX10_isPlayed_88 (hT 2 (by decide)) (by omega) rfl ?_
  refine TGo.toz _ (hz.2.1 3 (by decide) _) ?_
  refine TGo.i2l dX10_isPlayed_89 (by omega) ?_
  refine TGo.last dX10_isPlayed_90 (hT 14 (by decide)) (by omega) rfl ?_
  refine lX10_isPlayed0 hT ((((((hz.nw rfl).nw rfl).nw rfl).nw rfl).nw rfl).nw rfl) hc hp hs hq P h15 hcO h8 (fun i h1 h2 => ?_)
  rcases (show i = 1 ∨ i = 2 ∨ i = 3 ∨ i = 4 ∨ i = 5 ∨ i = 6 ∨ i = 7 ∨ i = 8 by omega) with e | e | e | e | e | e | e | e <;> subst e
  · exact (u2_n (Or.inr (by decide))).trans ((u2_n (Or.inr (by decide))).trans ((u2_n (Or.inr (by decide))).trans ((u2_n (Or.inr (by decide))).trans ((u2_n (Or.inr (by decide))).trans u2_s))))
  · exact (u2_n (Or.inr (by decide))).trans ((u2_n (Or.inr (by decide))).trans ((u2_n (Or.inr (by decide))).trans ((u2_n (Or.inr (by decide))).trans u2_s)))
  · exact (u2_n (Or.inr (by decide))).trans ((u2_n (Or.inr (by decide))).trans ((u2_n (Or.inr (by decide))).trans u2_s))
  · exact (u2_n (Or.inr (by decide))).trans ((u2_n (Or.inr (by decide))).trans u2_s)
  · exact (u2_n (Or.inr (by decide))).trans u2_s
  · exact u2_s
  · exact (u2_n (Or.inr (by decide))).trans ((u2_n (Or.inr (by decide))).trans ((u2_n (Or.inr (by decide))).trans ((u2_n (Or.inr (by decide))).trans ((u2_n (Or.inr (by decide))).trans ((u2_n (Or.inr (by decide))).trans hz.2.2.1.2.2.1)))))
  · exact (u2_n (Or.inr (by decide))).trans ((u2_n (Or.inr (by decide))).trans ((u2_n (Or.inr (by decide))).trans ((u2_n (Or.inr (by decide))).trans ((u2_n (Or.inr (by decide))).trans ((u2_n (Or.inr (by decide))).trans hz.2.2.1.2.2.2)))))
abbrev herZ (z : ZT) (c : Int) (r : Int) : Prop := (z.2 35 c = -1 ∨ z.2 35 c = r / 6) ∧ (z.2 35 (c + 1) = -1 ∨ z.2 35 (c + 1) = r % 6)
def ppR (c p : Int) (S : Int × ZT) : Nat → Int × ZT
  | 0 => S
  | r + 1 => if herZ (ppR c p S r).2 c (r : Int) then ((ppR c p S r).1 + (ipZ (ppR c p S r).2 c p ((r : Int) / 6) ((r : Int) % 6)).1, (ipZ (ppR c p S r).2 c p ((r : Int) / 6) ((r : Int) % 6)).2) else ppR c p S r
def ppC (p : Int) (S : Int × ZT) : Nat → Int × ZT
  | 0 => S
  | k + 1 => ppR (10 * (k : Int)) p (ppC p S k) 36
/-- all but one part's rules as before; these in order -/
def PPI (p : Int) (z z' : ZT) : Prop := z'.1 = z.1 ∧ (∀ k, (k == 3) = false → z'.2 k = z.2 k) ∧ (∀ i, (i < 22 + 36 * p ∨ 22 + 36 * p + 36 ≤ i) → z'.2 3 i = z.2 3 i) ∧ ∀ r, 0 ≤ r → r < 36 → cOK (z'.2 3 (22 + 36 * p + r))
theorem PPI.w {p : Int} {z z' : ZT} {s q v : Int} (h : PPI p z z') (hs : 0 ≤ s ∧ s ≤ 5) (hq : 0 ≤ q ∧ q ≤ 5) (hv : -1 ≤ v ∧ v < 60) : PPI p z (za z' 3 (raZ p s q) v) := by
  refine ⟨h.1, fun k hk => (za_2 hk).trans (h.2.1 k hk), fun i hi => ?_, fun r r0 r1 => ?_⟩
  · exact (u2_n (Or.inr (by show i ≠ 22 + 36 * p + 6 * s + q; omega)) : u2 z'.2 3 (raZ p s q) v 3 i = z'.2 3 i).trans (h.2.2.1 i hi)
  · show cOK (u2 z'.2 3 (raZ p s q) v 3 (22 + 36 * p + r))
    by_cases e : 22 + 36 * p + r = raZ p s q
    · rw [e, u2_s]; exact hv
    · rw [u2_n (Or.inr e)]; exact h.2.2.2 r r0 r1
theorem PPI.s {p : Int} {z z' : ZT} {c s q w : Int} (h : PPI p z z') (hs : 0 ≤ s ∧ s ≤ 5) (hq : 0 ≤ q ∧ q ≤ 5) : PPI p z (ipS z' c p s q w).2 ∧ ((ipS z' c p s q w).1 = 0 ∨ (ipS z' c p s q w).1 = 1) := by
  have a := @wiZ_r w 0 9 (by decide)
  unfold ipS
  split
  · split
    · exact ⟨h, Or.inl rfl⟩
    · rename_i g _
      have b := @wiZ_r g 0 5 (by decide)
      exact ⟨h.w hs hq (by omega), Or.inr rfl⟩
  · exact ⟨h.w hs hq (by omega), Or.inr rfl⟩
theorem PPI.z {p : Int} {z z' : ZT} {c s q : Int} (h : PPI p z z') (hs : 0 ≤ s ∧ s ≤ 5) (hq : 0 ≤ q ∧ q ≤ 5) : PPI p z (ipZ z' c p s q).2 ∧ ((ipZ z' c p s q).1 = 0 ∨ (ipZ z' c p s q).1 = 1) := by
  unfold ipZ
  split
  · exact ⟨h, Or.inl rfl⟩
  · unfold ipH
    split
    · exact ⟨h.w hs hq (by omega), Or.inr rfl⟩
    · unfold ipW
      split
      · exact ⟨h, Or.inl rfl⟩
      · exact h.s hs hq
theorem PPI.r {p c : Int} {z : ZT} {S : Int × ZT} (h : PPI p z S.2) : ∀ {r : Nat}, r ≤ 36 → PPI p z (ppR c p S r).2 ∧ S.1 ≤ (ppR c p S r).1 ∧ (ppR c p S r).1 ≤ S.1 + r := by
  intro r
  induction r with
  | zero => intro _; exact ⟨h, Int.le_refl _, by show S.1 ≤ S.1 + ((0 : Nat) : Int); omega⟩
  | succ r ih =>
    intro hr
    obtain ⟨a1, a2, a3⟩ := ih (by omega)
    have b := a1.z (c := c) (s := (r : Int) / 6) (q := (r : Int) % 6) (by omega) (by omega)
    rw [ppR]
    split
    · refine ⟨b.1, ?_, ?_⟩
      · show S.1 ≤ (ppR c p S r).1 + _
        omega
      · show (ppR c p S r).1 + _ ≤ _
        omega
    · exact ⟨a1, a2, by omega⟩
theorem PPI.c {p : Int} {z : ZT} (h : PPI p z z) : ∀ {k : Nat}, PPI p z (ppC p (0, z) k).2 ∧ 0 ≤ (ppC p (0, z) k).1 ∧ (ppC p (0, z) k).1 ≤ 36 * k := by
  intro k
  induction k with
  | zero => exact ⟨h, Int.le_refl _, Int.le_refl _⟩
  | succ k ih =>
    obtain ⟨a, b1, b2⟩ := PPI.r (c := 10 * (k : Int)) ih.1 (r := 36) (Nat.le_refl _)
    exact ⟨a, by have := ih.2; show 0 ≤ (ppR (10 * (k : Int)) p (ppC p (0, z) k) 36).1; omega, by have := ih.2; show (ppR (10 * (k : Int)) p (ppC p (0, z) k) 36).1 ≤ _; omega⟩
def plE (p : Int) (y : ZT) : Int × ZT := if y.1 14 = 0 then ((ppC p (0, zi y 15 1) (y.1 16).toNat).1, zTell (zi (ppC p (0, zi y 15 1) (y.1 16).toNat).2 15 0) (ppC p (0, zi y 15 1) (y.1 16).toNat).1) else (-6, zTell y (-6))
/-- the play as it is read -/
def plY (z : ZT) : ZT := etZ (plF 500 (rplZ (btxZ z 1)))
def zp_play (z : ZT) (p : Int) : Int × ZT := if 0 ≤ p ∧ p < z.2 3 0 then plE p (plY z) else (-2, zTell z (-2))
/-- a play that is read is in order -/
def PlOK (z : ZT) : Prop := (plY z).1 14 = 0 → ∀ c, 0 ≤ c → c < (plY z).1 16 → PcZ (plY z) (10 * c)
theorem PcZ.o {z z' : ZT} {c : Int} (h : PcZ z c) (e : ∀ k, (k == 3) = false → z'.2 k = z.2 k) : PcZ z' c := by
  unfold PcZ
  rw [e 35 rfl, e 19 rfl, e 20 rfl]
  exact h
theorem PPI.rf {p : Int} {z : ZT} (h : ∀ r, 0 ≤ r → r < 36 → cOK (z.2 3 (22 + 36 * p + r))) : PPI p z z := ⟨rfl, fun _ _ => rfl, fun _ _ => rfl, h⟩
set_option maxHeartbeats 4000000 in
theorem lX10_playR {E : ET} {sh : SHT} {nn : Nat × Nat} {T : Nat} {y0 : ZT} {S : Int × ZT} {c p : Int} {Q : AO → SHT → Nat × Nat → VT → Prop} (hT : MSh T sh) (hc : 0 ≤ c ∧ c ≤ 110) (hp : 0 ≤ p ∧ p < 6) (P : PcZ y0 c) (h15 : y0.1 15 = 1) (h8 : 0 ≤ y0.2 3 8 ∧ y0.2 3 8 ≤ 9) (I : PPI p y0 S.2) (hS : 0 ≤ S.1 ∧ S.1 ≤ 1000) (K : ∀ V, PZ T V (ppR c p S 36).2 → TGo E mX10_play 9 201 [some (.ref T), some (.int (iI p)), some (.int (iI ((ppR c p S 36).1))), some (.int (iI c)), some (.int (iI (((36) : Nat) : Int))), none] [] sh nn V Q) : ∀ (n r : Nat) (V : VT), 36 - r < n → r ≤ 36 → PZ T V (ppR c p S r).2 → TGo E mX10_play 9 97 [some (.ref T), some (.int (iI p)), some (.int (iI ((ppR c p S r).1))), some (.int (iI c)), some (.int (iI (((r) : Nat) : Int))), none] [] sh nn V Q := by
  intro n
  induction n with
  | zero => intro r V hn; omega
  | succ n ih =>
    intro r V hn hr hz
    obtain ⟨I1, b1, b2⟩ := PPI.r (c := c) I hr
    have hstep : ppR c p S (r + 1) = if herZ (ppR c p S r).2 c (r : Int) then ((ppR c p S r).1 + (ipZ (ppR c p S r).2 c p ((r : Int) / 6) ((r : Int) % 6)).1, (ipZ (ppR c p S r).2 c p ((r : Int) / 6) ((r : Int) % 6)).2) else ppR c p S r := rfl
    obtain ⟨S1, hS1⟩ : ∃ S1, ppR c p S r = S1 := ⟨_, rfl⟩
    rw [hS1] at hz I1 b1 b2 hstep ⊢
    have P1 := P.o I1.2.1
    have e15 : S1.2.1 15 = 1 := by rw [I1.1]; exact h15
    have e8 : S1.2.2 3 8 = y0.2 3 8 := I1.2.2.1 8 (by omega)
    have hb0 := P1.2.1
    have hb1 := P1.2.2.1
    refine TGo.il dX10_play_97 rfl ?_
    refine TGo.bip 36 dX10_play_99 (by decide) ?_
    refine TGo.icmp_ge 201 dX10_play_101 (by decide) (by omega) (fun h101 => ?_) (fun h101 => ?_)
    · obtain rfl : r = 36 := by omega
      rw [← hS1]
      exact K V (by rw [hS1]; exact hz)
    · refine TGo.al0 dX10_play_104 rfl ?_
      refine TGo.getS (t := 18) 35 35 (T + 16) (hT 0 (by decide)) rfl fgX10_85_10 dX10_play_105 rfl rfl rfl ?_
      refine TGo.il3 dX10_play_108 rfl ?_
      refine TGo.iald dX10_play_109 (hT 16 (by decide)) (by omega) rfl ?_
      refine TGo.toz _ (hz.2.1 35 (by decide) _) ?_
      refine TGo.icm1 dX10_play_110 ?_
      refine TGo.icmp_eq 128 dX10_play_111 (by decide) (by omega) (fun h111 => ?_) (fun h111 => ?_)
      · refine TGo.al0 dX10_play_128 rfl ?_
        refine TGo.getS (t := 18) 35 35 (T + 16) (hT 0 (by decide)) rfl fgX10_85_10 dX10_play_129 rfl rfl rfl ?_
        refine TGo.il3 dX10_play_132 rfl ?_
        refine TGo.ic1 dX10_play_133 ?_
        refine TGo.iadd dX10_play_134 ?_
        refine TGo.iald dX10_play_135 (hT 16 (by decide)) (by omega) rfl ?_
        refine TGo.toz _ (hz.2.1 35 (by decide) _) ?_
        refine TGo.icm1 dX10_play_136 ?_
        refine TGo.icmp_eq 156 dX10_play_137 (by decide) (by omega) (fun h137 => ?_) (fun h137 => ?_)
        · refine TGo.ic1 dX10_play_156 ?_
          refine TGo.goto 161 dX10_play_157 (by decide) ?_
          refine TGo.toz (bZ (herZ S1.2 c (r : Int))) (by first | exact (bZ_t ⟨by omega, by omega⟩).symm | exact (bZ_f (fun q => by have q1 := q.1; have q2 := q.2; omega)).symm) ?_
          refine TGo.is dX10_play_161 rfl rfl ?_
          refine TGo.il2 dX10_play_163 rfl ?_
          refine TGo.il dX10_play_164 rfl ?_
          refine TGo.ifb_eq 192 dX10_play_166 (by decide) (fun h166 => ?_) (fun h166 => ?_)
          · refine TGo.ic0 dX10_play_192 ?_
            refine TGo.iadd dX10_play_193 ?_
            refine TGo.is2 dX10_play_194 rfl rfl ?_
            refine TGo.iinc dX10_play_195 rfl rfl rfl ?_
            refine TGo.goto 97 dX10_play_198 (by decide) ?_
            have e : ppR c p S (r + 1) = S1 := hstep.trans (if_neg (by assumption))
            refine TGo.forget 5 ?_
            exact TGo.seq [some (.ref T), some (.int (iI p)), some (.int (iI ((ppR c p S (r + 1)).1))), some (.int (iI c)), some (.int (iI (((r + 1) : Nat) : Int))), none] [] _ (by rw [e, Int.add_zero]; rfl) rfl rfl (ih (r + 1) _ (by omega) (by omega) (by rw [e]; exact hz))
          · refine TGo.al0 dX10_play_169 rfl ?_
            refine TGo.il3 dX10_play_170 rfl ?_
            refine TGo.il1 dX10_play_171 rfl ?_
            refine TGo.il dX10_play_172 rfl ?_
            refine TGo.bip 6 dX10_play_174 (by decide) ?_
            refine TGo.idiv dX10_play_176 (by omega) ?_
            refine TGo.il dX10_play_177 rfl ?_
            refine TGo.bip 6 dX10_play_179 (by decide) ?_
            refine TGo.irem dX10_play_181 (by omega) ?_
            refine TGo.cS (csV4 (y2 := mX10_isPlayed) (t := 18) 3 rfl (hT 0 (by decide)) rfl rfl dX10_play_182 q2340 q2342 qs81 okX10_isPlayed npX10_isPlayed rfl rfl) (kX10_isPlayed hT hz hc hp (by omega) (by omega) P1 e15 (by have q := I1.2.2.2 (r : Int) (by omega) (by omega); rw [show raZ p ((r : Int) / 6) ((r : Int) % 6) = 22 + 36 * p + (r : Int) by show 22 + 36 * p + 6 * ((r : Int) / 6) + (r : Int) % 6 = _; omega]; exact q) (by rw [e8]; exact h8)) (fun v182 V182 h182 => ?_)
            obtain ⟨rfl, hz182⟩ := h182
            have hip := (I1.z (c := c) (s := (r : Int) / 6) (q := (r : Int) % 6) (by omega) (by omega)).2
            refine TGo.if_eq 192 dX10_play_185 (by decide) (by omega) (fun h185 => ?_) (fun h185 => ?_)
            · refine TGo.ic0 dX10_play_192 ?_
              refine TGo.iadd dX10_play_193 ?_
              refine TGo.is2 dX10_play_194 rfl rfl ?_
              refine TGo.iinc dX10_play_195 rfl rfl rfl ?_
              refine TGo.goto 97 dX10_play_198 (by decide) ?_
              have e : ppR c p S (r + 1) = (S1.1 + (ipZ S1.2 c p ((r : Int) / 6) ((r : Int) % 6)).1, (ipZ S1.2 c p ((r : Int) / 6) ((r : Int) % 6)).2) := hstep.trans (if_pos (by assumption))
              refine TGo.forget 5 ?_
              exact TGo.seq [some (.ref T), some (.int (iI p)), some (.int (iI ((ppR c p S (r + 1)).1))), some (.int (iI c)), some (.int (iI (((r + 1) : Nat) : Int))), none] [] _ (by rw [e]; first | (rw [show (ipZ S1.2 c p ((r : Int) / 6) ((r : Int) % 6)).1 = 1 by omega]; rfl) | (rw [show (ipZ S1.2 c p ((r : Int) / 6) ((r : Int) % 6)).1 = 0 by omega]; rfl)) rfl rfl (ih (r + 1) _ (by omega) (by omega) (by rw [e]; exact hz182))
            · refine TGo.ic1 dX10_play_188 ?_
              refine TGo.goto 193 dX10_play_189 (by decide) ?_
              refine TGo.iadd dX10_play_193 ?_
              refine TGo.is2 dX10_play_194 rfl rfl ?_
              refine TGo.iinc dX10_play_195 rfl rfl rfl ?_
              refine TGo.goto 97 dX10_play_198 (by decide) ?_
              have e : ppR c p S (r + 1) = (S1.1 + (ipZ S1.2 c p ((r : Int) / 6) ((r : Int) % 6)).1, (ipZ S1.2 c p ((r : Int) / 6) ((r : Int) % 6)).2) := hstep.trans (if_pos (by assumption))
              refine TGo.forget 5 ?_
              exact TGo.seq [some (.ref T), some (.int (iI p)), some (.int (iI ((ppR c p S (r + 1)).1))), some (.int (iI c)), some (.int (iI (((r + 1) : Nat) : Int))), none] [] _ (by rw [e]; first | (rw [show (ipZ S1.2 c p ((r : Int) / 6) ((r : Int) % 6)).1 = 1 by omega]; rfl) | (rw [show (ipZ S1.2 c p ((r : Int) / 6) ((r : Int) % 6)).1 = 0 by omega]; rfl)) rfl rfl (ih (r + 1) _ (by omega) (by omega) (by rw [e]; exact hz182))
        · refine TGo.al0 dX10_play_140 rfl ?_
          refine TGo.getS (t := 18) 35 35 (T + 16) (hT 0 (by decide)) rfl fgX10_85_10 dX10_play_141 rfl rfl rfl ?_
          refine TGo.il3 dX10_play_144 rfl ?_
          refine TGo.ic1 dX10_play_145 ?_
          refine TGo.iadd dX10_play_146 ?_
          refine TGo.iald dX10_play_147 (hT 16 (by decide)) (by omega) rfl ?_
          refine TGo.toz _ (hz.2.1 35 (by decide) _) ?_
          refine TGo.il dX10_play_148 rfl ?_
          refine TGo.bip 6 dX10_play_150 (by decide) ?_
          refine TGo.irem dX10_play_152 (by omega) ?_
          refine TGo.icmp_ne 160 dX10_play_153 (by decide) (by omega) (fun h153 => ?_) (fun h153 => ?_)
          · refine TGo.ic0 dX10_play_160 ?_
            refine TGo.toz (bZ (herZ S1.2 c (r : Int))) (by first | exact (bZ_t ⟨by omega, by omega⟩).symm | exact (bZ_f (fun q => by have q1 := q.1; have q2 := q.2; omega)).symm) ?_
            refine TGo.is dX10_play_161 rfl rfl ?_
            refine TGo.il2 dX10_play_163 rfl ?_
            refine TGo.il dX10_play_164 rfl ?_
            refine TGo.ifb_eq 192 dX10_play_166 (by decide) (fun h166 => ?_) (fun h166 => ?_)
            · refine TGo.ic0 dX10_play_192 ?_
              refine TGo.iadd dX10_play_193 ?_
              refine TGo.is2 dX10_play_194 rfl rfl ?_
              refine TGo.iinc dX10_play_195 rfl rfl rfl ?_
              refine TGo.goto 97 dX10_play_198 (by decide) ?_
              have e : ppR c p S (r + 1) = S1 := hstep.trans (if_neg (by assumption))
              refine TGo.forget 5 ?_
              exact TGo.seq [some (.ref T), some (.int (iI p)), some (.int (iI ((ppR c p S (r + 1)).1))), some (.int (iI c)), some (.int (iI (((r + 1) : Nat) : Int))), none] [] _ (by rw [e, Int.add_zero]; rfl) rfl rfl (ih (r + 1) _ (by omega) (by omega) (by rw [e]; exact hz))
            · refine TGo.al0 dX10_play_169 rfl ?_
              refine TGo.il3 dX10_play_170 rfl ?_
              refine TGo.il1 dX10_play_171 rfl ?_
              refine TGo.il dX10_play_172 rfl ?_
              refine TGo.bip 6 dX10_play_174 (by decide) ?_
              refine TGo.idiv dX10_play_176 (by omega) ?_
              refine TGo.il dX10_play_177 rfl ?_
              refine TGo.bip 6 dX10_play_179 (by decide) ?_
              refine TGo.irem dX10_play_181 (by omega) ?_
              refine TGo.cS (csV4 (y2 := mX10_isPlayed) (t := 18) 3 rfl (hT 0 (by decide)) rfl rfl dX10_play_182 q2340 q2342 qs81 okX10_isPlayed npX10_isPlayed rfl rfl) (kX10_isPlayed hT hz hc hp (by omega) (by omega) P1 e15 (by have q := I1.2.2.2 (r : Int) (by omega) (by omega); rw [show raZ p ((r : Int) / 6) ((r : Int) % 6) = 22 + 36 * p + (r : Int) by show 22 + 36 * p + 6 * ((r : Int) / 6) + (r : Int) % 6 = _; omega]; exact q) (by rw [e8]; exact h8)) (fun v182 V182 h182 => ?_)
              obtain ⟨rfl, hz182⟩ := h182
              have hip := (I1.z (c := c) (s := (r : Int) / 6) (q := (r : Int) % 6) (by omega) (by omega)).2
              refine TGo.if_eq 192 dX10_play_185 (by decide) (by omega) (fun h185 => ?_) (fun h185 => ?_)
              · refine TGo.ic0 dX10_play_192 ?_
                refine TGo.iadd dX10_play_193 ?_
                refine TGo.is2 dX10_play_194 rfl rfl ?_
                refine TGo.iinc dX10_play_195 rfl rfl rfl ?_
                refine TGo.goto 97 dX10_play_198 (by decide) ?_
                have e : ppR c p S (r + 1) = (S1.1 + (ipZ S1.2 c p ((r : Int) / 6) ((r : Int) % 6)).1, (ipZ S1.2 c p ((r : Int) / 6) ((r : Int) % 6)).2) := hstep.trans (if_pos (by assumption))
                refine TGo.forget 5 ?_
                exact TGo.seq [some (.ref T), some (.int (iI p)), some (.int (iI ((ppR c p S (r + 1)).1))), some (.int (iI c)), some (.int (iI (((r + 1) : Nat) : Int))), none] [] _ (by rw [e]; first | (rw [show (ipZ S1.2 c p ((r : Int) / 6) ((r : Int) % 6)).1 = 1 by omega]; rfl) | (rw [show (ipZ S1.2 c p ((r : Int) / 6) ((r : Int) % 6)).1 = 0 by omega]; rfl)) rfl rfl (ih (r + 1) _ (by omega) (by omega) (by rw [e]; exact hz182))
              · refine TGo.ic1 dX10_play_188 ?_
                refine TGo.goto 193 dX10_play_189 (by decide) ?_
                refine TGo.iadd dX10_play_193 ?_
                refine TGo.is2 dX10_play_194 rfl rfl ?_
                refine TGo.iinc dX10_play_195 rfl rfl rfl ?_
                refine TGo.goto 97 dX10_play_198 (by decide) ?_
                have e : ppR c p S (r + 1) = (S1.1 + (ipZ S1.2 c p ((r : Int) / 6) ((r : Int) % 6)).1, (ipZ S1.2 c p ((r : Int) / 6) ((r : Int) % 6)).2) := hstep.trans (if_pos (by assumption))
                refine TGo.forget 5 ?_
                exact TGo.seq [some (.ref T), some (.int (iI p)), some (.int (iI ((ppR c p S (r + 1)).1))), some (.int (iI c)), some (.int (iI (((r + 1) : Nat) : Int))), none] [] _ (by rw [e]; first | (rw [show (ipZ S1.2 c p ((r : Int) / 6) ((r : Int) % 6)).1 = 1 by omega]; rfl) | (rw [show (ipZ S1.2 c p ((r : Int) / 6) ((r : Int) % 6)).1 = 0 by omega]; rfl)) rfl rfl (ih (r + 1) _ (by omega) (by omega) (by rw [e]; exact hz182))
          · refine TGo.ic1 dX10_play_156 ?_
            refine TGo.goto 161 dX10_play_157 (by decide) ?_
            refine TGo.toz (bZ (herZ S1.2 c (r : Int))) (by first | exact (bZ_t ⟨by omega, by omega⟩).symm | exact (bZ_f (fun q => by have q1 := q.1; have q2 := q.2; omega)).symm) ?_
            refine TGo.is dX10_play_161 rfl rfl ?_
            refine TGo.il2 dX10_play_163 rfl ?_
            refine TGo.il dX10_play_164 rfl ?_
            refine TGo.ifb_eq 192 dX10_play_166 (by decide) (fun h166 => ?_) (fun h166 => ?_)
            · refine TGo.ic0 dX10_play_192 ?_
              refine TGo.iadd dX10_play_193 ?_
              refine TGo.is2 dX10_play_194 rfl rfl ?_
              refine TGo.iinc dX10_play_195 rfl rfl rfl ?_
              refine TGo.goto 97 dX10_play_198 (by decide) ?_
              have e : ppR c p S (r + 1) = S1 := hstep.trans (if_neg (by assumption))
              refine TGo.forget 5 ?_
              exact TGo.seq [some (.ref T), some (.int (iI p)), some (.int (iI ((ppR c p S (r + 1)).1))), some (.int (iI c)), some (.int (iI (((r + 1) : Nat) : Int))), none] [] _ (by rw [e, Int.add_zero]; rfl) rfl rfl (ih (r + 1) _ (by omega) (by omega) (by rw [e]; exact hz))
            · refine TGo.al0 dX10_play_169 rfl ?_
              refine TGo.il3 dX10_play_170 rfl ?_
              refine TGo.il1 dX10_play_171 rfl ?_
              refine TGo.il dX10_play_172 rfl ?_
              refine TGo.bip 6 dX10_play_174 (by decide) ?_
              refine TGo.idiv dX10_play_176 (by omega) ?_
              refine TGo.il dX10_play_177 rfl ?_
              refine TGo.bip 6 dX10_play_179 (by decide) ?_
              refine TGo.irem dX10_play_181 (by omega) ?_
              refine TGo.cS (csV4 (y2 := mX10_isPlayed) (t := 18) 3 rfl (hT 0 (by decide)) rfl rfl dX10_play_182 q2340 q2342 qs81 okX10_isPlayed npX10_isPlayed rfl rfl) (kX10_isPlayed hT hz hc hp (by omega) (by omega) P1 e15 (by have q := I1.2.2.2 (r : Int) (by omega) (by omega); rw [show raZ p ((r : Int) / 6) ((r : Int) % 6) = 22 + 36 * p + (r : Int) by show 22 + 36 * p + 6 * ((r : Int) / 6) + (r : Int) % 6 = _; omega]; exact q) (by rw [e8]; exact h8)) (fun v182 V182 h182 => ?_)
              obtain ⟨rfl, hz182⟩ := h182
              have hip := (I1.z (c := c) (s := (r : Int) / 6) (q := (r : Int) % 6) (by omega) (by omega)).2
              refine TGo.if_eq 192 dX10_play_185 (by decide) (by omega) (fun h185 => ?_) (fun h185 => ?_)
              · refine TGo.ic0 dX10_play_192 ?_
                refine TGo.iadd dX10_play_193 ?_
                refine TGo.is2 dX10_play_194 rfl rfl ?_
                refine TGo.iinc dX10_play_195 rfl rfl rfl ?_
                refine TGo.goto 97 dX10_play_198 (by decide) ?_
                have e : ppR c p S (r + 1) = (S1.1 + (ipZ S1.2 c p ((r : Int) / 6) ((r : Int) % 6)).1, (ipZ S1.2 c p ((r : Int) / 6) ((r : Int) % 6)).2) := hstep.trans (if_pos (by assumption))
                refine TGo.forget 5 ?_
                exact TGo.seq [some (.ref T), some (.int (iI p)), some (.int (iI ((ppR c p S (r + 1)).1))), some (.int (iI c)), some (.int (iI (((r + 1) : Nat) : Int))), none] [] _ (by rw [e]; first | (rw [show (ipZ S1.2 c p ((r : Int) / 6) ((r : Int) % 6)).1 = 1 by omega]; rfl) | (rw [show (ipZ S1.2 c p ((r : Int) / 6) ((r : Int) % 6)).1 = 0 by omega]; rfl)) rfl rfl (ih (r + 1) _ (by omega) (by omega) (by rw [e]; exact hz182))
              · refine TGo.ic1 dX10_play_188 ?_
                refine TGo.goto 193 dX10_play_189 (by decide) ?_
                refine TGo.iadd dX10_play_193 ?_
                refine TGo.is2 dX10_play_194 rfl rfl ?_
                refine TGo.iinc dX10_play_195 rfl rfl rfl ?_
                refine TGo.goto 97 dX10_play_198 (by decide) ?_
                have e : ppR c p S (r + 1) = (S1.1 + (ipZ S1.2 c p ((r : Int) / 6) ((r : Int) % 6)).1, (ipZ S1.2 c p ((r : Int) / 6) ((r : Int) % 6)).2) := hstep.trans (if_pos (by assumption))
                refine TGo.forget 5 ?_
                exact TGo.seq [some (.ref T), some (.int (iI p)), some (.int (iI ((ppR c p S (r + 1)).1))), some (.int (iI c)), some (.int (iI (((r + 1) : Nat) : Int))), none] [] _ (by rw [e]; first | (rw [show (ipZ S1.2 c p ((r : Int) / 6) ((r : Int) % 6)).1 = 1 by omega]; rfl) | (rw [show (ipZ S1.2 c p ((r : Int) / 6) ((r : Int) % 6)).1 = 0 by omega]; rfl)) rfl rfl (ih (r + 1) _ (by omega) (by omega) (by rw [e]; exact hz182))
      · refine TGo.al0 dX10_play_114 rfl ?_
        refine TGo.getS (t := 18) 35 35 (T + 16) (hT 0 (by decide)) rfl fgX10_85_10 dX10_play_115 rfl rfl rfl ?_
        refine TGo.il3 dX10_play_118 rfl ?_
        refine TGo.iald dX10_play_119 (hT 16 (by decide)) (by omega) rfl ?_
        refine TGo.toz _ (hz.2.1 35 (by decide) _) ?_
        refine TGo.il dX10_play_120 rfl ?_
        refine TGo.bip 6 dX10_play_122 (by decide) ?_
        refine TGo.idiv dX10_play_124 (by omega) ?_
        refine TGo.icmp_ne 160 dX10_play_125 (by decide) (by omega) (fun h125 => ?_) (fun h125 => ?_)
        · refine TGo.ic0 dX10_play_160 ?_
          refine TGo.toz (bZ (herZ S1.2 c (r : Int))) (by first | exact (bZ_t ⟨by omega, by omega⟩).symm | exact (bZ_f (fun q => by have q1 := q.1; have q2 := q.2; omega)).symm) ?_
          refine TGo.is dX10_play_161 rfl rfl ?_
          refine TGo.il2 dX10_play_163 rfl ?_
          refine TGo.il dX10_play_164 rfl ?_
          refine TGo.ifb_eq 192 dX10_play_166 (by decide) (fun h166 => ?_) (fun h166 => ?_)
          · refine TGo.ic0 dX10_play_192 ?_
            refine TGo.iadd dX10_play_193 ?_
            refine TGo.is2 dX10_play_194 rfl rfl ?_
            refine TGo.iinc dX10_play_195 rfl rfl rfl ?_
            refine TGo.goto 97 dX10_play_198 (by decide) ?_
            have e : ppR c p S (r + 1) = S1 := hstep.trans (if_neg (by assumption))
            refine TGo.forget 5 ?_
            exact TGo.seq [some (.ref T), some (.int (iI p)), some (.int (iI ((ppR c p S (r + 1)).1))), some (.int (iI c)), some (.int (iI (((r + 1) : Nat) : Int))), none] [] _ (by rw [e, Int.add_zero]; rfl) rfl rfl (ih (r + 1) _ (by omega) (by omega) (by rw [e]; exact hz))
          · refine TGo.al0 dX10_play_169 rfl ?_
            refine TGo.il3 dX10_play_170 rfl ?_
            refine TGo.il1 dX10_play_171 rfl ?_
            refine TGo.il dX10_play_172 rfl ?_
            refine TGo.bip 6 dX10_play_174 (by decide) ?_
            refine TGo.idiv dX10_play_176 (by omega) ?_
            refine TGo.il dX10_play_177 rfl ?_
            refine TGo.bip 6 dX10_play_179 (by decide) ?_
            refine TGo.irem dX10_play_181 (by omega) ?_
            refine TGo.cS (csV4 (y2 := mX10_isPlayed) (t := 18) 3 rfl (hT 0 (by decide)) rfl rfl dX10_play_182 q2340 q2342 qs81 okX10_isPlayed npX10_isPlayed rfl rfl) (kX10_isPlayed hT hz hc hp (by omega) (by omega) P1 e15 (by have q := I1.2.2.2 (r : Int) (by omega) (by omega); rw [show raZ p ((r : Int) / 6) ((r : Int) % 6) = 22 + 36 * p + (r : Int) by show 22 + 36 * p + 6 * ((r : Int) / 6) + (r : Int) % 6 = _; omega]; exact q) (by rw [e8]; exact h8)) (fun v182 V182 h182 => ?_)
            obtain ⟨rfl, hz182⟩ := h182
            have hip := (I1.z (c := c) (s := (r : Int) / 6) (q := (r : Int) % 6) (by omega) (by omega)).2
            refine TGo.if_eq 192 dX10_play_185 (by decide) (by omega) (fun h185 => ?_) (fun h185 => ?_)
            · refine TGo.ic0 dX10_play_192 ?_
              refine TGo.iadd dX10_play_193 ?_
              refine TGo.is2 dX10_play_194 rfl rfl ?_
              refine TGo.iinc dX10_play_195 rfl rfl rfl ?_
              refine TGo.goto 97 dX10_play_198 (by decide) ?_
              have e : ppR c p S (r + 1) = (S1.1 + (ipZ S1.2 c p ((r : Int) / 6) ((r : Int) % 6)).1, (ipZ S1.2 c p ((r : Int) / 6) ((r : Int) % 6)).2) := hstep.trans (if_pos (by assumption))
              refine TGo.forget 5 ?_
              exact TGo.seq [some (.ref T), some (.int (iI p)), some (.int (iI ((ppR c p S (r + 1)).1))), some (.int (iI c)), some (.int (iI (((r + 1) : Nat) : Int))), none] [] _ (by rw [e]; first | (rw [show (ipZ S1.2 c p ((r : Int) / 6) ((r : Int) % 6)).1 = 1 by omega]; rfl) | (rw [show (ipZ S1.2 c p ((r : Int) / 6) ((r : Int) % 6)).1 = 0 by omega]; rfl)) rfl rfl (ih (r + 1) _ (by omega) (by omega) (by rw [e]; exact hz182))
            · refine TGo.ic1 dX10_play_188 ?_
              refine TGo.goto 193 dX10_play_189 (by decide) ?_
              refine TGo.iadd dX10_play_193 ?_
              refine TGo.is2 dX10_play_194 rfl rfl ?_
              refine TGo.iinc dX10_play_195 rfl rfl rfl ?_
              refine TGo.goto 97 dX10_play_198 (by decide) ?_
              have e : ppR c p S (r + 1) = (S1.1 + (ipZ S1.2 c p ((r : Int) / 6) ((r : Int) % 6)).1, (ipZ S1.2 c p ((r : Int) / 6) ((r : Int) % 6)).2) := hstep.trans (if_pos (by assumption))
              refine TGo.forget 5 ?_
              exact TGo.seq [some (.ref T), some (.int (iI p)), some (.int (iI ((ppR c p S (r + 1)).1))), some (.int (iI c)), some (.int (iI (((r + 1) : Nat) : Int))), none] [] _ (by rw [e]; first | (rw [show (ipZ S1.2 c p ((r : Int) / 6) ((r : Int) % 6)).1 = 1 by omega]; rfl) | (rw [show (ipZ S1.2 c p ((r : Int) / 6) ((r : Int) % 6)).1 = 0 by omega]; rfl)) rfl rfl (ih (r + 1) _ (by omega) (by omega) (by rw [e]; exact hz182))
        · refine TGo.al0 dX10_play_128 rfl ?_
          refine TGo.getS (t := 18) 35 35 (T + 16) (hT 0 (by decide)) rfl fgX10_85_10 dX10_play_129 rfl rfl rfl ?_
          refine TGo.il3 dX10_play_132 rfl ?_
          refine TGo.ic1 dX10_play_133 ?_
          refine TGo.iadd dX10_play_134 ?_
          refine TGo.iald dX10_play_135 (hT 16 (by decide)) (by omega) rfl ?_
          refine TGo.toz _ (hz.2.1 35 (by decide) _) ?_
          refine TGo.icm1 dX10_play_136 ?_
          refine TGo.icmp_eq 156 dX10_play_137 (by decide) (by omega) (fun h137 => ?_) (fun h137 => ?_)
          · refine TGo.ic1 dX10_play_156 ?_
            refine TGo.goto 161 dX10_play_157 (by decide) ?_
            refine TGo.toz (bZ (herZ S1.2 c (r : Int))) (by first | exact (bZ_t ⟨by omega, by omega⟩).symm | exact (bZ_f (fun q => by have q1 := q.1; have q2 := q.2; omega)).symm) ?_
            refine TGo.is dX10_play_161 rfl rfl ?_
            refine TGo.il2 dX10_play_163 rfl ?_
            refine TGo.il dX10_play_164 rfl ?_
            refine TGo.ifb_eq 192 dX10_play_166 (by decide) (fun h166 => ?_) (fun h166 => ?_)
            · refine TGo.ic0 dX10_play_192 ?_
              refine TGo.iadd dX10_play_193 ?_
              refine TGo.is2 dX10_play_194 rfl rfl ?_
              refine TGo.iinc dX10_play_195 rfl rfl rfl ?_
              refine TGo.goto 97 dX10_play_198 (by decide) ?_
              have e : ppR c p S (r + 1) = S1 := hstep.trans (if_neg (by assumption))
              refine TGo.forget 5 ?_
              exact TGo.seq [some (.ref T), some (.int (iI p)), some (.int (iI ((ppR c p S (r + 1)).1))), some (.int (iI c)), some (.int (iI (((r + 1) : Nat) : Int))), none] [] _ (by rw [e, Int.add_zero]; rfl) rfl rfl (ih (r + 1) _ (by omega) (by omega) (by rw [e]; exact hz))
            · refine TGo.al0 dX10_play_169 rfl ?_
              refine TGo.il3 dX10_play_170 rfl ?_
              refine TGo.il1 dX10_play_171 rfl ?_
              refine TGo.il dX10_play_172 rfl ?_
              refine TGo.bip 6 dX10_play_174 (by decide) ?_
              refine TGo.idiv dX10_play_176 (by omega) ?_
              refine TGo.il dX10_play_177 rfl ?_
              refine TGo.bip 6 dX10_play_179 (by decide) ?_
              refine TGo.irem dX10_play_181 (by omega) ?_
              refine TGo.cS (csV4 (y2 := mX10_isPlayed) (t := 18) 3 rfl (hT 0 (by decide)) rfl rfl dX10_play_182 q2340 q2342 qs81 okX10_isPlayed npX10_isPlayed rfl rfl) (kX10_isPlayed hT hz hc hp (by omega) (by omega) P1 e15 (by have q := I1.2.2.2 (r : Int) (by omega) (by omega); rw [show raZ p ((r : Int) / 6) ((r : Int) % 6) = 22 + 36 * p + (r : Int) by show 22 + 36 * p + 6 * ((r : Int) / 6) + (r : Int) % 6 = _; omega]; exact q) (by rw [e8]; exact h8)) (fun v182 V182 h182 => ?_)
              obtain ⟨rfl, hz182⟩ := h182
              have hip := (I1.z (c := c) (s := (r : Int) / 6) (q := (r : Int) % 6) (by omega) (by omega)).2
              refine TGo.if_eq 192 dX10_play_185 (by decide) (by omega) (fun h185 => ?_) (fun h185 => ?_)
              · refine TGo.ic0 dX10_play_192 ?_
                refine TGo.iadd dX10_play_193 ?_
                refine TGo.is2 dX10_play_194 rfl rfl ?_
                refine TGo.iinc dX10_play_195 rfl rfl rfl ?_
                refine TGo.goto 97 dX10_play_198 (by decide) ?_
                have e : ppR c p S (r + 1) = (S1.1 + (ipZ S1.2 c p ((r : Int) / 6) ((r : Int) % 6)).1, (ipZ S1.2 c p ((r : Int) / 6) ((r : Int) % 6)).2) := hstep.trans (if_pos (by assumption))
                refine TGo.forget 5 ?_
                exact TGo.seq [some (.ref T), some (.int (iI p)), some (.int (iI ((ppR c p S (r + 1)).1))), some (.int (iI c)), some (.int (iI (((r + 1) : Nat) : Int))), none] [] _ (by rw [e]; first | (rw [show (ipZ S1.2 c p ((r : Int) / 6) ((r : Int) % 6)).1 = 1 by omega]; rfl) | (rw [show (ipZ S1.2 c p ((r : Int) / 6) ((r : Int) % 6)).1 = 0 by omega]; rfl)) rfl rfl (ih (r + 1) _ (by omega) (by omega) (by rw [e]; exact hz182))
              · refine TGo.ic1 dX10_play_188 ?_
                refine TGo.goto 193 dX10_play_189 (by decide) ?_
                refine TGo.iadd dX10_play_193 ?_
                refine TGo.is2 dX10_play_194 rfl rfl ?_
                refine TGo.iinc dX10_play_195 rfl rfl rfl ?_
                refine TGo.goto 97 dX10_play_198 (by decide) ?_
                have e : ppR c p S (r + 1) = (S1.1 + (ipZ S1.2 c p ((r : Int) / 6) ((r : Int) % 6)).1, (ipZ S1.2 c p ((r : Int) / 6) ((r : Int) % 6)).2) := hstep.trans (if_pos (by assumption))
                refine TGo.forget 5 ?_
                exact TGo.seq [some (.ref T), some (.int (iI p)), some (.int (iI ((ppR c p S (r + 1)).1))), some (.int (iI c)), some (.int (iI (((r + 1) : Nat) : Int))), none] [] _ (by rw [e]; first | (rw [show (ipZ S1.2 c p ((r : Int) / 6) ((r : Int) % 6)).1 = 1 by omega]; rfl) | (rw [show (ipZ S1.2 c p ((r : Int) / 6) ((r : Int) % 6)).1 = 0 by omega]; rfl)) rfl rfl (ih (r + 1) _ (by omega) (by omega) (by rw [e]; exact hz182))
          · refine TGo.al0 dX10_play_140 rfl ?_
            refine TGo.getS (t := 18) 35 35 (T + 16) (hT 0 (by decide)) rfl fgX10_85_10 dX10_play_141 rfl rfl rfl ?_
            refine TGo.il3 dX10_play_144 rfl ?_
            refine TGo.ic1 dX10_play_145 ?_
            refine TGo.iadd dX10_play_146 ?_
            refine TGo.iald dX10_play_147 (hT 16 (by decide)) (by omega) rfl ?_
            refine TGo.toz _ (hz.2.1 35 (by decide) _) ?_
            refine TGo.il dX10_play_148 rfl ?_
            refine TGo.bip 6 dX10_play_150 (by decide) ?_
            refine TGo.irem dX10_play_152 (by omega) ?_
            refine TGo.icmp_ne 160 dX10_play_153 (by decide) (by omega) (fun h153 => ?_) (fun h153 => ?_)
            · refine TGo.ic0 dX10_play_160 ?_
              refine TGo.toz (bZ (herZ S1.2 c (r : Int))) (by first | exact (bZ_t ⟨by omega, by omega⟩).symm | exact (bZ_f (fun q => by have q1 := q.1; have q2 := q.2; omega)).symm) ?_
              refine TGo.is dX10_play_161 rfl rfl ?_
              refine TGo.il2 dX10_play_163 rfl ?_
              refine TGo.il dX10_play_164 rfl ?_
              refine TGo.ifb_eq 192 dX10_play_166 (by decide) (fun h166 => ?_) (fun h166 => ?_)
              · refine TGo.ic0 dX10_play_192 ?_
                refine TGo.iadd dX10_play_193 ?_
                refine TGo.is2 dX10_play_194 rfl rfl ?_
                refine TGo.iinc dX10_play_195 rfl rfl rfl ?_
                refine TGo.goto 97 dX10_play_198 (by decide) ?_
                have e : ppR c p S (r + 1) = S1 := hstep.trans (if_neg (by assumption))
                refine TGo.forget 5 ?_
                exact TGo.seq [some (.ref T), some (.int (iI p)), some (.int (iI ((ppR c p S (r + 1)).1))), some (.int (iI c)), some (.int (iI (((r + 1) : Nat) : Int))), none] [] _ (by rw [e, Int.add_zero]; rfl) rfl rfl (ih (r + 1) _ (by omega) (by omega) (by rw [e]; exact hz))
              · refine TGo.al0 dX10_play_169 rfl ?_
                refine TGo.il3 dX10_play_170 rfl ?_
                refine TGo.il1 dX10_play_171 rfl ?_
                refine TGo.il dX10_play_172 rfl ?_
                refine TGo.bip 6 dX10_play_174 (by decide) ?_
                refine TGo.idiv dX10_play_176 (by omega) ?_
                refine TGo.il dX10_play_177 rfl ?_
                refine TGo.bip 6 dX10_play_179 (by decide) ?_
                refine TGo.irem dX10_play_181 (by omega) ?_
                refine TGo.cS (csV4 (y2 := mX10_isPlayed) (t := 18) 3 rfl (hT 0 (by decide)) rfl rfl dX10_play_182 q2340 q2342 qs81 okX10_isPlayed npX10_isPlayed rfl rfl) (kX10_isPlayed hT hz hc hp (by omega) (by omega) P1 e15 (by have q := I1.2.2.2 (r : Int) (by omega) (by omega); rw [show raZ p ((r : Int) / 6) ((r : Int) % 6) = 22 + 36 * p + (r : Int) by show 22 + 36 * p + 6 * ((r : Int) / 6) + (r : Int) % 6 = _; omega]; exact q) (by rw [e8]; exact h8)) (fun v182 V182 h182 => ?_)
                obtain ⟨rfl, hz182⟩ := h182
                have hip := (I1.z (c := c) (s := (r : Int) / 6) (q := (r : Int) % 6) (by omega) (by omega)).2
                refine TGo.if_eq 192 dX10_play_185 (by decide) (by omega) (fun h185 => ?_) (fun h185 => ?_)
                · refine TGo.ic0 dX10_play_192 ?_
                  refine TGo.iadd dX10_play_193 ?_
                  refine TGo.is2 dX10_play_194 rfl rfl ?_
                  refine TGo.iinc dX10_play_195 rfl rfl rfl ?_
                  refine TGo.goto 97 dX10_play_198 (by decide) ?_
                  have e : ppR c p S (r + 1) = (S1.1 + (ipZ S1.2 c p ((r : Int) / 6) ((r : Int) % 6)).1, (ipZ S1.2 c p ((r : Int) / 6) ((r : Int) % 6)).2) := hstep.trans (if_pos (by assumption))
                  refine TGo.forget 5 ?_
                  exact TGo.seq [some (.ref T), some (.int (iI p)), some (.int (iI ((ppR c p S (r + 1)).1))), some (.int (iI c)), some (.int (iI (((r + 1) : Nat) : Int))), none] [] _ (by rw [e]; first | (rw [show (ipZ S1.2 c p ((r : Int) / 6) ((r : Int) % 6)).1 = 1 by omega]; rfl) | (rw [show (ipZ S1.2 c p ((r : Int) / 6) ((r : Int) % 6)).1 = 0 by omega]; rfl)) rfl rfl (ih (r + 1) _ (by omega) (by omega) (by rw [e]; exact hz182))
                · refine TGo.ic1 dX10_play_188 ?_
                  refine TGo.goto 193 dX10_play_189 (by decide) ?_
                  refine TGo.iadd dX10_play_193 ?_
                  refine TGo.is2 dX10_play_194 rfl rfl ?_
                  refine TGo.iinc dX10_play_195 rfl rfl rfl ?_
                  refine TGo.goto 97 dX10_play_198 (by decide) ?_
                  have e : ppR c p S (r + 1) = (S1.1 + (ipZ S1.2 c p ((r : Int) / 6) ((r : Int) % 6)).1, (ipZ S1.2 c p ((r : Int) / 6) ((r : Int) % 6)).2) := hstep.trans (if_pos (by assumption))
                  refine TGo.forget 5 ?_
                  exact TGo.seq [some (.ref T), some (.int (iI p)), some (.int (iI ((ppR c p S (r + 1)).1))), some (.int (iI c)), some (.int (iI (((r + 1) : Nat) : Int))), none] [] _ (by rw [e]; first | (rw [show (ipZ S1.2 c p ((r : Int) / 6) ((r : Int) % 6)).1 = 1 by omega]; rfl) | (rw [show (ipZ S1.2 c p ((r : Int) / 6) ((r : Int) % 6)).1 = 0 by omega]; rfl)) rfl rfl (ih (r + 1) _ (by omega) (by omega) (by rw [e]; exact hz182))
            · refine TGo.ic1 dX10_play_156 ?_
              refine TGo.goto 161 dX10_play_157 (by decide) ?_
              refine TGo.toz (bZ (herZ S1.2 c (r : Int))) (by first | exact (bZ_t ⟨by omega, by omega⟩).symm | exact (bZ_f (fun q => by have q1 := q.1; have q2 := q.2; omega)).symm) ?_
              refine TGo.is dX10_play_161 rfl rfl ?_
              refine TGo.il2 dX10_play_163 rfl ?_
              refine TGo.il dX10_play_164 rfl ?_
              refine TGo.ifb_eq 192 dX10_play_166 (by decide) (fun h166 => ?_) (fun h166 => ?_)
              · refine TGo.ic0 dX10_play_192 ?_
                refine TGo.iadd dX10_play_193 ?_
                refine TGo.is2 dX10_play_194 rfl rfl ?_
                refine TGo.iinc dX10_play_195 rfl rfl rfl ?_
                refine TGo.goto 97 dX10_play_198 (by decide) ?_
                have e : ppR c p S (r + 1) = S1 := hstep.trans (if_neg (by assumption))
                refine TGo.forget 5 ?_
                exact TGo.seq [some (.ref T), some (.int (iI p)), some (.int (iI ((ppR c p S (r + 1)).1))), some (.int (iI c)), some (.int (iI (((r + 1) : Nat) : Int))), none] [] _ (by rw [e, Int.add_zero]; rfl) rfl rfl (ih (r + 1) _ (by omega) (by omega) (by rw [e]; exact hz))
              · refine TGo.al0 dX10_play_169 rfl ?_
                refine TGo.il3 dX10_play_170 rfl ?_
                refine TGo.il1 dX10_play_171 rfl ?_
                refine TGo.il dX10_play_172 rfl ?_
                refine TGo.bip 6 dX10_play_174 (by decide) ?_
                refine TGo.idiv dX10_play_176 (by omega) ?_
                refine TGo.il dX10_play_177 rfl ?_
                refine TGo.bip 6 dX10_play_179 (by decide) ?_
                refine TGo.irem dX10_play_181 (by omega) ?_
                refine TGo.cS (csV4 (y2 := mX10_isPlayed) (t := 18) 3 rfl (hT 0 (by decide)) rfl rfl dX10_play_182 q2340 q2342 qs81 okX10_isPlayed npX10_isPlayed rfl rfl) (kX10_isPlayed hT hz hc hp (by omega) (by omega) P1 e15 (by have q := I1.2.2.2 (r : Int) (by omega) (by omega); rw [show raZ p ((r : Int) / 6) ((r : Int) % 6) = 22 + 36 * p + (r : Int) by show 22 + 36 * p + 6 * ((r : Int) / 6) + (r : Int) % 6 = _; omega]; exact q) (by rw [e8]; exact h8)) (fun v182 V182 h182 => ?_)
                obtain ⟨rfl, hz182⟩ := h182
                have hip := (I1.z (c := c) (s := (r : Int) / 6) (q := (r : Int) % 6) (by omega) (by omega)).2
                refine TGo.if_eq 192 dX10_play_185 (by decide) (by omega) (fun h185 => ?_) (fun h185 => ?_)
                · refine TGo.ic0 dX10_play_192 ?_
                  refine TGo.iadd dX10_play_193 ?_
                  refine TGo.is2 dX10_play_194 rfl rfl ?_
                  refine TGo.iinc dX10_play_195 rfl rfl rfl ?_
                  refine TGo.goto 97 dX10_play_198 (by decide) ?_
                  have e : ppR c p S (r + 1) = (S1.1 + (ipZ S1.2 c p ((r : Int) / 6) ((r : Int) % 6)).1, (ipZ S1.2 c p ((r : Int) / 6) ((r : Int) % 6)).2) := hstep.trans (if_pos (by assumption))
                  refine TGo.forget 5 ?_
                  exact TGo.seq [some (.ref T), some (.int (iI p)), some (.int (iI ((ppR c p S (r + 1)).1))), some (.int (iI c)), some (.int (iI (((r + 1) : Nat) : Int))), none] [] _ (by rw [e]; first | (rw [show (ipZ S1.2 c p ((r : Int) / 6) ((r : Int) % 6)).1 = 1 by omega]; rfl) | (rw [show (ipZ S1.2 c p ((r : Int) / 6) ((r : Int) % 6)).1 = 0 by omega]; rfl)) rfl rfl (ih (r + 1) _ (by omega) (by omega) (by rw [e]; exact hz182))
                · refine TGo.ic1 dX10_play_188 ?_
                  refine TGo.goto 193 dX10_play_189 (by decide) ?_
                  refine TGo.iadd dX10_play_193 ?_
                  refine TGo.is2 dX10_play_194 rfl rfl ?_
                  refine TGo.iinc dX10_play_195 rfl rfl rfl ?_
                  refine TGo.goto 97 dX10_play_198 (by decide) ?_
                  have e : ppR c p S (r + 1) = (S1.1 + (ipZ S1.2 c p ((r : Int) / 6) ((r : Int) % 6)).1, (ipZ S1.2 c p ((r : Int) / 6) ((r : Int) % 6)).2) := hstep.trans (if_pos (by assumption))
                  refine TGo.forget 5 ?_
                  exact TGo.seq [some (.ref T), some (.int (iI p)), some (.int (iI ((ppR c p S (r + 1)).1))), some (.int (iI c)), some (.int (iI (((r + 1) : Nat) : Int))), none] [] _ (by rw [e]; first | (rw [show (ipZ S1.2 c p ((r : Int) / 6) ((r : Int) % 6)).1 = 1 by omega]; rfl) | (rw [show (ipZ S1.2 c p ((r : Int) / 6) ((r : Int) % 6)).1 = 0 by omega]; rfl)) rfl rfl (ih (r + 1) _ (by omega) (by omega) (by rw [e]; exact hz182))
set_option maxHeartbeats 4000000 in
theorem lX10_playC {E : ET} {sh : SHT} {nn : Nat × Nat} {T : Nat} {y : ZT} {p : Int} (hT : MSh T sh) (h16 : 0 ≤ y.1 16 ∧ y.1 16 ≤ 12) (h14 : y.1 14 = 0) (hp : 0 ≤ p ∧ p < 6) (P : ∀ c, 0 ≤ c → c < y.1 16 → PcZ y (10 * c)) (h8 : 0 ≤ y.2 3 8 ∧ y.2 3 8 ≤ 9) (hco : ∀ r, 0 ≤ r → r < 36 → cOK (y.2 3 (22 + 36 * p + r))) : ∀ (n k : Nat) (V : VT), (y.1 16).toNat - k < n → k ≤ (y.1 16).toNat → PZ T V (ppC p (0, zi y 15 1) k).2 → TGo E mX10_play 9 83 [some (.ref T), some (.int (iI p)), some (.int (iI ((ppC p (0, zi y 15 1) k).1))), some (.int (iI (10 * (((k) : Nat) : Int)))), none, none] [] sh nn V (ZP T sh nn (plE p y)) := by
  intro n
  induction n with
  | zero => intro k V hn; omega
  | succ n ih =>
    intro k V hn hk hz
    have I0 : PPI p (zi y 15 1) (zi y 15 1) := PPI.rf hco
    obtain ⟨I1, b1, b2⟩ := PPI.c I0 (k := k)
    have e16 : (ppC p (0, zi y 15 1) k).2.1 16 = y.1 16 := by rw [I1.1]; rfl
    refine TGo.il3 dX10_play_83 rfl ?_
    refine TGo.bip 10 dX10_play_84 (by decide) ?_
    refine TGo.al0 dX10_play_86 rfl ?_
    refine TGo.getI (t := 18) 16 16 (hT 0 (by decide)) rfl fgX10_374_10 dX10_play_87 rfl rfl rfl ?_
    refine TGo.toz _ (hz.1 16 rfl) ?_
    refine TGo.toz (y.1 16) e16 ?_
    refine TGo.imul dX10_play_90 ?_
    refine TGo.icmp_ge 207 dX10_play_91 (by decide) (by omega) (fun h91 => ?_) (fun h91 => ?_)
    · obtain rfl : k = (y.1 16).toNat := by omega
      refine TGo.al0 dX10_play_207 rfl ?_
      refine TGo.ic0 dX10_play_208 ?_
      refine TGo.putZ (t := 18) 15 15 (hT 0 (by decide)) rfl fpX10_326_10 dX10_play_209 rfl ⟨rfl, (by first | exact Or.inl rfl | exact Or.inr rfl | exact bZ_or _ | assumption)⟩ rfl ?_
      refine TGo.al0 dX10_play_212 rfl ?_
      refine TGo.il2 dX10_play_213 rfl ?_
      refine TGo.cS (csV1 (y2 := mX10_tell) (t := 18) 1 rfl (hT 0 (by decide)) rfl rfl dX10_play_214 q2035 q2037 qs39 okX10_tell npX10_tell rfl rfl) (kX10_tell hT ((hz.i rfl)).pe (by omega)) (fun v214 V214 h214 => ?_)
      obtain ⟨rfl, hz214⟩ := h214
      refine TGo.iret dX10_play_217 rfl ?_
      unfold plE
      rw [if_pos h14]
      exact ⟨rfl, rfl, rfl, hz214⟩
    · refine TGo.ic0 dX10_play_94 ?_
      refine TGo.is dX10_play_95 rfl rfl ?_
      have hPc : PcZ (zi y 15 1) (10 * (k : Int)) := P (k : Int) (by omega) (by omega)
      refine TGo.seq [some (.ref T), some (.int (iI p)), some (.int (iI ((ppR (10 * (k : Int)) p (ppC p (0, zi y 15 1) k) 0).1))), some (.int (iI (10 * (k : Int)))), some (.int (iI (((0) : Nat) : Int))), none] [] _ rfl rfl rfl (lX10_playR (y0 := zi y 15 1) hT (by omega) hp hPc rfl h8 I1 (by omega) (fun V1 hz1 => ?_) 37 0 _ (by omega) (by omega) hz)
      refine TGo.iinc dX10_play_201 rfl rfl rfl ?_
      refine TGo.goto 83 dX10_play_204 (by decide) ?_
      refine TGo.forget 4 ?_
      exact TGo.seq [some (.ref T), some (.int (iI p)), some (.int (iI ((ppC p (0, zi y 15 1) (k + 1)).1))), some (.int (iI (10 * (((k + 1) : Nat) : Int)))), none, none] [] _ (by rw [show 10 * ((k + 1 : Nat) : Int) = 10 * (k : Int) + 10 by omega]; rfl) rfl rfl (ih (k + 1) _ (by omega) (by omega) hz1)
theorem etZ_15 {z : ZT} (h : z.2 3 = z.2 3) : (etZ z).1 15 = 0 := rfl
theorem plF_t (n : Nat) (z : ZT) : plF (n + 1) z = if z.1 14 = 0 ∧ sgA z 59 then plF n (rplZ (neZ z)) else z := rfl
set_option maxHeartbeats 4000000 in
theorem lX10_playE {E : ET} {sh : SHT} {nn : Nat × Nat} {T : Nat} {z : ZT} {V : VT} {p : Int} (hT : MSh T sh) (hz : PZ T V z) (Y : YV z) (hp : 0 ≤ p ∧ p < 6) (h8 : 0 ≤ z.2 3 8 ∧ z.2 3 8 ≤ 9) (hco : ∀ r, 0 ≤ r → r < 36 → cOK (z.2 3 (22 + 36 * p + r))) (P : (etZ z).1 14 = 0 → ∀ c, 0 ≤ c → c < (etZ z).1 16 → PcZ (etZ z) (10 * c)) : TGo E mX10_play 9 56 [some (.ref T), some (.int (iI p)), none, none, none, none] [] sh nn V (ZP T sh nn (plE p (etZ z))) := by
  have hb := Y.b
  obtain ⟨q1, q2, q3, q4⟩ := etZ_f Y
  refine TGo.al0 dX10_play_56 rfl ?_
  refine TGo.cN (csV0 (y2 := mX10_endText) (t := 18) 4 rfl (hT 0 (by decide)) rfl rfl dX10_play_57 q2272 q2274 qs70 okX10_endText npX10_endText rfl rfl) (kX10_endText hT hz Y) (fun V57 hz57 => ?_)
  refine TGo.al0 dX10_play_60 rfl ?_
  refine TGo.getI (t := 18) 14 14 (hT 0 (by decide)) rfl fgX10_249_10 dX10_play_61 rfl rfl rfl ?_
  refine TGo.toz _ (hz57.1 14 rfl) ?_
  refine TGo.if_eq 74 dX10_play_64 (by decide) (by omega) (fun h64 => ?_) (fun h64 => ?_)
  · refine TGo.al0 dX10_play_74 rfl ?_
    refine TGo.ic1 dX10_play_75 ?_
    refine TGo.putZ (t := 18) 15 15 (hT 0 (by decide)) rfl fpX10_326_10 dX10_play_76 rfl ⟨rfl, (by first | exact Or.inl rfl | exact Or.inr rfl | exact bZ_or _ | assumption)⟩ rfl ?_
    refine TGo.ic0 dX10_play_79 ?_
    refine TGo.is2 dX10_play_80 rfl rfl ?_
    refine TGo.ic0 dX10_play_81 ?_
    refine TGo.is3 dX10_play_82 rfl rfl ?_
    have h14 : (etZ z).1 14 = 0 := by assumption
    exact TGo.seq [some (.ref T), some (.int (iI p)), some (.int (iI ((ppC p (0, zi (etZ z) 15 1) 0).1))), some (.int (iI (10 * (((0) : Nat) : Int)))), none, none] [] _ rfl rfl rfl (lX10_playC (y := etZ z) hT (by omega) h14 hp (P h14) (by rw [q4]; exact h8) (by rw [q4]; exact hco) ((((etZ z).1 16).toNat) + 1) 0 _ (by omega) (by omega) (hz57.i rfl))
  · refine TGo.al0 dX10_play_67 rfl ?_
    refine TGo.bip (-6) dX10_play_68 (by decide) ?_
    refine TGo.cS (csV1 (y2 := mX10_tell) (t := 18) 1 rfl (hT 0 (by decide)) rfl rfl dX10_play_70 q2035 q2037 qs39 okX10_tell npX10_tell rfl rfl) (kX10_tell hT (hz57).pe (by omega)) (fun v70 V70 h70 => ?_)
    obtain ⟨rfl, hz70⟩ := h70
    refine TGo.iret dX10_play_73 rfl ?_
    unfold plE
    rw [if_neg (by assumption)]
    exact ⟨rfl, rfl, rfl, hz70⟩
set_option maxHeartbeats 4000000 in
theorem lX10_playL {E : ET} {sh : SHT} {nn : Nat × Nat} {T : Nat} {p : Int} (hT : MSh T sh) : ∀ (N n : Nat) (z : ZT) (V : VT), n < N → PZ T V z → YV z → (z.1 15 = 0 ∨ z.1 15 = 1) → (0 ≤ p ∧ p < 6) → (0 ≤ z.2 3 8 ∧ z.2 3 8 ≤ 9) → (∀ r, 0 ≤ r → r < 36 → cOK (z.2 3 (22 + 36 * p + r))) → ((etZ (plF (n + 1) z)).1 14 = 0 → ∀ c, 0 ≤ c → c < (etZ (plF (n + 1) z)).1 16 → PcZ (etZ (plF (n + 1) z)) (10 * c)) → z.1 8 - z.1 9 ≤ (n : Int) → TGo E mX10_play 9 29 [some (.ref T), some (.int (iI p)), none, none, none, none] [] sh nn V (ZP T sh nn (plE p (etZ (plF (n + 1) z)))) := by
  intro N
  induction N with
  | zero => intro n z V h; omega
  | succ N ih =>
    intro n z V hn hz Y h15 hp h8 hco P hm
    have hb := Y.b
    rw [plF_t] at P ⊢
    refine TGo.al0 dX10_play_29 rfl ?_
    refine TGo.getI (t := 18) 14 14 (hT 0 (by decide)) rfl fgX10_249_10 dX10_play_30 rfl rfl rfl ?_
    refine TGo.toz _ (hz.1 14 rfl) ?_
    refine TGo.if_ne 56 dX10_play_33 (by decide) (by omega) (fun h33 => ?_) (fun h33 => ?_)
    · rw [if_neg (fun q => by first | exact absurd q.1 (by assumption) | exact absurd q.2 (by assumption))] at P ⊢
      exact lX10_playE hT hz Y hp h8 hco P
    · refine TGo.al0 dX10_play_36 rfl ?_
      refine TGo.bip 59 dX10_play_37 (by decide) ?_
      refine TGo.cF (csV1 (y2 := mX10_isSign) (t := 18) 1 rfl (hT 0 (by decide)) rfl rfl dX10_play_39 q2214 q2216 qs58 okX10_isSign npX10_isSign rfl rfl) (qX10_isSignT hT hz Y.yt (by omega)) ?_
      refine TGo.ifb_eq 56 dX10_play_42 (by decide) (fun h42 => ?_) (fun h42 => ?_)
      · rw [if_neg (fun q => by first | exact absurd q.1 (by assumption) | exact absurd q.2 (by assumption))] at P ⊢
        exact lX10_playE hT hz Y hp h8 hco P
      · refine TGo.al0 dX10_play_45 rfl ?_
        refine TGo.cN (csV0 (y2 := mX10_next) (t := 18) 2 rfl (hT 0 (by decide)) rfl rfl dX10_play_46 q2170 q2172 qs51 okX10_next npX10_next rfl rfl) (kX10_next hT hz Y.yt.1 (by omega)) (fun V46 hz46 => ?_)
        refine TGo.al0 dX10_play_49 rfl ?_
        refine TGo.cN (csV0 (y2 := mX10_readPlay) (t := 18) 8 rfl (hT 0 (by decide)) rfl rfl dX10_play_50 q2322 q2324 qs78 okX10_readPlay npX10_readPlay rfl rfl) (kX10_readPlay hT hz46 Y.n.1 h15) (fun V50 hz50 => ?_)
        refine TGo.goto 29 dX10_play_53 (by decide) ?_
        have hs : sgA z 59 := by assumption
        have hN := Y.n
        have a := hN.2.2 (by rw [hs.1]; decide)
        have R := rplG hN.1
        have e8 : (rplZ (neZ z)).1 8 = z.1 8 := R.2.2.2.1.trans (Sm.rf.ne.1 8 rfl)
        have e15 : (rplZ (neZ z)).1 15 = z.1 15 := R.2.2.1.trans (Sm.rf.ne.1 15 rfl)
        have e3 : (rplZ (neZ z)).2 3 = z.2 3 := R.2.2.2.2 3 rfl
        have hN8 := (hN.1.b).1
        have e8n : (neZ z).1 8 = z.1 8 := Sm.rf.ne.1 8 rfl
        have hR := R.2.1
        obtain ⟨n, rfl⟩ : ∃ j, n = j + 1 := ⟨n - 1, by omega⟩
        rw [if_pos ⟨by assumption, hs⟩] at P ⊢
        exact ih n _ _ (by omega) hz50 R.1 (by rw [e15]; exact h15) hp (by rw [e3]; exact h8) (by rw [e3]; exact hco) P (by omega)
set_option maxHeartbeats 4000000 in
theorem lX10_play0 {E : ET} {sh : SHT} {nn : Nat × Nat} {T : Nat} {z : ZT} {V : VT} {p : Int} (hT : MSh T sh) (hz : PZ T V z) (Y : TPZ z) (W : RWZ (z.2 3)) (P : PlOK z) (rp : R32 p) : TC E mX10_play 9 [.ref T, .int (iI p)] sh nn V (ZP T sh nn (zp_play z p)) := by
  have hY := Y.1
  have w0 := W.1.1
  have w8 := W.1.2.2.2.2.2.2.2.2.1
  refine TC.intro [some (.ref T), some (.int (iI p)), none, none, none, none] rfl ?_
  refine TGo.al0 dX10_play_0 rfl ?_
  refine TGo.ic0 dX10_play_1 ?_
  refine TGo.putI (t := 18) 0 0 (hT 0 (by decide)) rfl fpX10_163_10 dX10_play_2 rfl rfl rfl ?_
  refine TGo.al0 dX10_play_5 rfl ?_
  refine TGo.il1 dX10_play_6 rfl ?_
  refine TGo.cF (csV1 (y2 := mX10_isPart) (t := 18) 2 rfl (hT 0 (by decide)) rfl rfl dX10_play_7 q2061 q2063 qs40 okX10_isPart npX10_isPart rfl rfl) (kX10_isPart hT ((hz.s rfl)).pe w0 rp) ?_
  refine TGo.ifb_ne 20 dX10_play_10 (by decide) (fun h10 => ?_) (fun h10 => ?_)
  · refine TGo.al0 dX10_play_20 rfl ?_
    refine TGo.ic1 dX10_play_21 ?_
    refine TGo.cN (csV1 (y2 := mX10_beginText) (t := 18) 4 rfl (hT 0 (by decide)) rfl rfl dX10_play_22 q2162 q2164 qs49 okX10_beginText npX10_beginText rfl rfl) (kX10_beginText hT (hz.s rfl) Y (Or.inr rfl)) (fun V22 hz22 => ?_)
    refine TGo.al0 dX10_play_25 rfl ?_
    refine TGo.cN (csV0 (y2 := mX10_readPlay) (t := 18) 8 rfl (hT 0 (by decide)) rfl rfl dX10_play_26 q2322 q2324 qs78 okX10_readPlay npX10_readPlay rfl rfl) (kX10_readPlay hT hz22 (btxY Y) (Or.inr rfl)) (fun V26 hz26 => ?_)
    have hpp : 0 ≤ p ∧ p < z.2 3 0 := by assumption
    unfold zp_play
    rw [if_pos hpp]
    have R := rplG (btxY (p := 1) Y)
    have b := R.1.b
    have e3 : (rplZ (btxZ z 1)).2 3 = z.2 3 := R.2.2.2.2 3 rfl
    exact lX10_playL hT 500 499 _ _ (by omega) hz26 R.1 (Or.inr R.2.2.1) (by omega) (by rw [e3]; exact w8) (by rw [e3]; exact fun r h1 h2 => W.2.2.1 p r hpp.1 hpp.2 h1 h2) P (by omega)
  · refine TGo.al0 dX10_play_13 rfl ?_
    refine TGo.bip (-2) dX10_play_14 (by decide) ?_
    refine TGo.cS (csV1 (y2 := mX10_tell) (t := 18) 1 rfl (hT 0 (by decide)) rfl rfl dX10_play_16 q2035 q2037 qs39 okX10_tell npX10_tell rfl rfl) (kX10_tell hT ((hz.s rfl)).pe (by omega)) (fun v16 V16 h16 => ?_)
    obtain ⟨rfl, hz16⟩ := h16
    refine TGo.iret dX10_play_19 rfl ?_
    unfold zp_play
    rw [if_neg (by assumption)]
    exact ⟨rfl, rfl, rfl, hz16⟩
theorem kX10_play {E : ET} {sh : SHT} {nn : Nat × Nat} {T : Nat} {z : ZT} {V : VT} {p : Int} (hT : MSh T sh) (hz : PE T V z) (Y : TPZ z) (W : RWZ (z.2 3)) (P : ∀ z', PSm z z' → PlOK z') (rp : R32 p) : TC E mX10_play 9 [.ref T, .int (iI p)] sh nn V (ZPX T sh nn z (fun z' => zp_play z' p)) := by
  obtain ⟨z', hs, hp⟩ := hz.pz
  exact (lX10_play0 hT hp (hs.tp Y) (by rw [hs.2 3 (by decide)]; exact W) (P z' hs) rp).mono fun o sh' nn' V' q => ⟨z', hs, q⟩
