/-! X: the simple operations -/
set_option maxRecDepth 100000
theorem zf3 {z : ZT} {j v i : Int} (h : i ≠ j) : (za z 3 j v).2 3 i = z.2 3 i := u2_n (Or.inr h)
theorem zf3s {z : ZT} {j v : Int} : (za z 3 j v).2 3 j = v := u2_s
theorem XC.st {V : VT} {B : Nat} {z : ZT} {v : Int} (h : XC V B z)  : XC (vI V B 0 v) B (zi z 1 v) := by
  obtain ⟨⟨n1, n2, n3, n4, n5, n6, n7⟩, s1, s2, s3, s4⟩ := h
  refine ⟨⟨n1, ⟨((u2_n (Or.inl (by omega))).trans (n2.1)).trans (rfl), ((u2_n (Or.inl (by omega))).trans (n2.2.1)).trans (rfl), ((u2_n (Or.inl (by omega))).trans (n2.2.2.1)).trans (rfl), ((u2_n (Or.inl (by omega))).trans (n2.2.2.2)).trans (rfl)⟩, fun i i0 i1 => ((u2_n (Or.inl (by omega))).trans (n3 i i0 (by exact i1))).trans (rfl), fun i i0 i1 => ((u2_n (Or.inl (by omega))).trans (n4 i i0 (by exact i1))).trans (rfl), fun i i0 i1 => ((u2_n (Or.inl (by omega))).trans (n5 i i0 (by exact i1))).trans (rfl), fun i i0 i1 => ((u2_n (Or.inl (by omega))).trans (n6 i i0 (by exact i1))).trans (rfl), fun p hp6 hp r r0 r1 => by
    have w := n7 p hp6 hp r r0 r1
    show u2 V.1 B 0 v (B + 2 + 2 + 3 * p + 1) r = _ ∧ (_ → u2 V.1 B 0 v (B + 2 + 2 + 3 * p + 2) r = _)
    rw [(u2_n (Or.inl (by omega)) : u2 V.1 B 0 v (B + 2 + 2 + 3 * p + 1) r = _), (u2_n (Or.inl (by omega)) : u2 V.1 B 0 v (B + 2 + 2 + 3 * p + 2) r = _)]; exact w⟩, ⟨u2_s, ((u2_n (Or.inr (by decide))).trans (s1.2.1)).trans (rfl), ((u2_n (Or.inr (by decide))).trans (s1.2.2.1)).trans (rfl), ((u2_n (Or.inr (by decide))).trans (s1.2.2.2.1)).trans (rfl), ((u2_n (Or.inr (by decide))).trans (s1.2.2.2.2)).trans (rfl)⟩, fun j j0 j1 => ((u2_n (Or.inl (by omega))).trans (s2 j j0 j1)).trans (rfl), fun i i0 i1 => ((u2_n (Or.inl (by omega))).trans (s3 i i0 i1)).trans (rfl), fun h => ⟨fun r r0 r1 => ((u2_n (Or.inl (by omega))).trans ((s4 h).1 r r0 r1)).trans (rfl), fun p p0 p1 => ((u2_n (Or.inl (by omega))).trans ((s4 h).2 p p0 p1)).trans (rfl)⟩⟩
theorem XC.tp {V : VT} {B : Nat} {z : ZT} {v : Int} (h : XC V B z)  : XC (vI V B 5 v) B (zi z 8 v) := by
  obtain ⟨⟨n1, n2, n3, n4, n5, n6, n7⟩, s1, s2, s3, s4⟩ := h
  refine ⟨⟨n1, ⟨((u2_n (Or.inl (by omega))).trans (n2.1)).trans (rfl), ((u2_n (Or.inl (by omega))).trans (n2.2.1)).trans (rfl), ((u2_n (Or.inl (by omega))).trans (n2.2.2.1)).trans (rfl), ((u2_n (Or.inl (by omega))).trans (n2.2.2.2)).trans (rfl)⟩, fun i i0 i1 => ((u2_n (Or.inl (by omega))).trans (n3 i i0 (by exact i1))).trans (rfl), fun i i0 i1 => ((u2_n (Or.inl (by omega))).trans (n4 i i0 (by exact i1))).trans (rfl), fun i i0 i1 => ((u2_n (Or.inl (by omega))).trans (n5 i i0 (by exact i1))).trans (rfl), fun i i0 i1 => ((u2_n (Or.inl (by omega))).trans (n6 i i0 (by exact i1))).trans (rfl), fun p hp6 hp r r0 r1 => by
    have w := n7 p hp6 hp r r0 r1
    show u2 V.1 B 5 v (B + 2 + 2 + 3 * p + 1) r = _ ∧ (_ → u2 V.1 B 5 v (B + 2 + 2 + 3 * p + 2) r = _)
    rw [(u2_n (Or.inl (by omega)) : u2 V.1 B 5 v (B + 2 + 2 + 3 * p + 1) r = _), (u2_n (Or.inl (by omega)) : u2 V.1 B 5 v (B + 2 + 2 + 3 * p + 2) r = _)]; exact w⟩, ⟨((u2_n (Or.inr (by decide))).trans (s1.1)).trans (rfl), u2_s, ((u2_n (Or.inr (by decide))).trans (s1.2.2.1)).trans (rfl), ((u2_n (Or.inr (by decide))).trans (s1.2.2.2.1)).trans (rfl), ((u2_n (Or.inr (by decide))).trans (s1.2.2.2.2)).trans (rfl)⟩, fun j j0 j1 => ((u2_n (Or.inl (by omega))).trans (s2 j j0 j1)).trans (rfl), fun i i0 i1 => ((u2_n (Or.inl (by omega))).trans (s3 i i0 i1)).trans (rfl), fun h => ⟨fun r r0 r1 => ((u2_n (Or.inl (by omega))).trans ((s4 h).1 r r0 r1)).trans (rfl), fun p p0 p1 => ((u2_n (Or.inl (by omega))).trans ((s4 h).2 p p0 p1)).trans (rfl)⟩⟩
theorem XC.fa {V : VT} {B : Nat} {z : ZT} {v : Int} (h : XC V B z)  : XC (vI V B 6 v) B (zi z 13 v) := by
  obtain ⟨⟨n1, n2, n3, n4, n5, n6, n7⟩, s1, s2, s3, s4⟩ := h
  refine ⟨⟨n1, ⟨((u2_n (Or.inl (by omega))).trans (n2.1)).trans (rfl), ((u2_n (Or.inl (by omega))).trans (n2.2.1)).trans (rfl), ((u2_n (Or.inl (by omega))).trans (n2.2.2.1)).trans (rfl), ((u2_n (Or.inl (by omega))).trans (n2.2.2.2)).trans (rfl)⟩, fun i i0 i1 => ((u2_n (Or.inl (by omega))).trans (n3 i i0 (by exact i1))).trans (rfl), fun i i0 i1 => ((u2_n (Or.inl (by omega))).trans (n4 i i0 (by exact i1))).trans (rfl), fun i i0 i1 => ((u2_n (Or.inl (by omega))).trans (n5 i i0 (by exact i1))).trans (rfl), fun i i0 i1 => ((u2_n (Or.inl (by omega))).trans (n6 i i0 (by exact i1))).trans (rfl), fun p hp6 hp r r0 r1 => by
    have w := n7 p hp6 hp r r0 r1
    show u2 V.1 B 6 v (B + 2 + 2 + 3 * p + 1) r = _ ∧ (_ → u2 V.1 B 6 v (B + 2 + 2 + 3 * p + 2) r = _)
    rw [(u2_n (Or.inl (by omega)) : u2 V.1 B 6 v (B + 2 + 2 + 3 * p + 1) r = _), (u2_n (Or.inl (by omega)) : u2 V.1 B 6 v (B + 2 + 2 + 3 * p + 2) r = _)]; exact w⟩, ⟨((u2_n (Or.inr (by decide))).trans (s1.1)).trans (rfl), ((u2_n (Or.inr (by decide))).trans (s1.2.1)).trans (rfl), u2_s, ((u2_n (Or.inr (by decide))).trans (s1.2.2.2.1)).trans (rfl), ((u2_n (Or.inr (by decide))).trans (s1.2.2.2.2)).trans (rfl)⟩, fun j j0 j1 => ((u2_n (Or.inl (by omega))).trans (s2 j j0 j1)).trans (rfl), fun i i0 i1 => ((u2_n (Or.inl (by omega))).trans (s3 i i0 i1)).trans (rfl), fun h => ⟨fun r r0 r1 => ((u2_n (Or.inl (by omega))).trans ((s4 h).1 r r0 r1)).trans (rfl), fun p p0 p1 => ((u2_n (Or.inl (by omega))).trans ((s4 h).2 p p0 p1)).trans (rfl)⟩⟩
theorem XC.pr {V : VT} {B : Nat} {z : ZT} {v : Int} (h : XC V B z)  : XC (vI V B 7 v) B (zi z 6 v) := by
  obtain ⟨⟨n1, n2, n3, n4, n5, n6, n7⟩, s1, s2, s3, s4⟩ := h
  refine ⟨⟨n1, ⟨((u2_n (Or.inl (by omega))).trans (n2.1)).trans (rfl), ((u2_n (Or.inl (by omega))).trans (n2.2.1)).trans (rfl), ((u2_n (Or.inl (by omega))).trans (n2.2.2.1)).trans (rfl), ((u2_n (Or.inl (by omega))).trans (n2.2.2.2)).trans (rfl)⟩, fun i i0 i1 => ((u2_n (Or.inl (by omega))).trans (n3 i i0 (by exact i1))).trans (rfl), fun i i0 i1 => ((u2_n (Or.inl (by omega))).trans (n4 i i0 (by exact i1))).trans (rfl), fun i i0 i1 => ((u2_n (Or.inl (by omega))).trans (n5 i i0 (by exact i1))).trans (rfl), fun i i0 i1 => ((u2_n (Or.inl (by omega))).trans (n6 i i0 (by exact i1))).trans (rfl), fun p hp6 hp r r0 r1 => by
    have w := n7 p hp6 hp r r0 r1
    show u2 V.1 B 7 v (B + 2 + 2 + 3 * p + 1) r = _ ∧ (_ → u2 V.1 B 7 v (B + 2 + 2 + 3 * p + 2) r = _)
    rw [(u2_n (Or.inl (by omega)) : u2 V.1 B 7 v (B + 2 + 2 + 3 * p + 1) r = _), (u2_n (Or.inl (by omega)) : u2 V.1 B 7 v (B + 2 + 2 + 3 * p + 2) r = _)]; exact w⟩, ⟨((u2_n (Or.inr (by decide))).trans (s1.1)).trans (rfl), ((u2_n (Or.inr (by decide))).trans (s1.2.1)).trans (rfl), ((u2_n (Or.inr (by decide))).trans (s1.2.2.1)).trans (rfl), u2_s, ((u2_n (Or.inr (by decide))).trans (s1.2.2.2.2)).trans (rfl)⟩, fun j j0 j1 => ((u2_n (Or.inl (by omega))).trans (s2 j j0 j1)).trans (rfl), fun i i0 i1 => ((u2_n (Or.inl (by omega))).trans (s3 i i0 i1)).trans (rfl), fun h => ⟨fun r r0 r1 => ((u2_n (Or.inl (by omega))).trans ((s4 h).1 r r0 r1)).trans (rfl), fun p p0 p1 => ((u2_n (Or.inl (by omega))).trans ((s4 h).2 p p0 p1)).trans (rfl)⟩⟩
theorem XC.x0 {V : VT} {B : Nat} {z : ZT} {v : Int} (h : XC V B z)  : XC (vI V B 21 v) B (z) := by
  obtain ⟨⟨n1, n2, n3, n4, n5, n6, n7⟩, s1, s2, s3, s4⟩ := h
  refine ⟨⟨n1, ⟨((u2_n (Or.inl (by omega))).trans (n2.1)).trans (rfl), ((u2_n (Or.inl (by omega))).trans (n2.2.1)).trans (rfl), ((u2_n (Or.inl (by omega))).trans (n2.2.2.1)).trans (rfl), ((u2_n (Or.inl (by omega))).trans (n2.2.2.2)).trans (rfl)⟩, fun i i0 i1 => ((u2_n (Or.inl (by omega))).trans (n3 i i0 (by exact i1))).trans (rfl), fun i i0 i1 => ((u2_n (Or.inl (by omega))).trans (n4 i i0 (by exact i1))).trans (rfl), fun i i0 i1 => ((u2_n (Or.inl (by omega))).trans (n5 i i0 (by exact i1))).trans (rfl), fun i i0 i1 => ((u2_n (Or.inl (by omega))).trans (n6 i i0 (by exact i1))).trans (rfl), fun p hp6 hp r r0 r1 => by
    have w := n7 p hp6 hp r r0 r1
    show u2 V.1 B 21 v (B + 2 + 2 + 3 * p + 1) r = _ ∧ (_ → u2 V.1 B 21 v (B + 2 + 2 + 3 * p + 2) r = _)
    rw [(u2_n (Or.inl (by omega)) : u2 V.1 B 21 v (B + 2 + 2 + 3 * p + 1) r = _), (u2_n (Or.inl (by omega)) : u2 V.1 B 21 v (B + 2 + 2 + 3 * p + 2) r = _)]; exact w⟩, ⟨((u2_n (Or.inr (by decide))).trans (s1.1)).trans (rfl), ((u2_n (Or.inr (by decide))).trans (s1.2.1)).trans (rfl), ((u2_n (Or.inr (by decide))).trans (s1.2.2.1)).trans (rfl), ((u2_n (Or.inr (by decide))).trans (s1.2.2.2.1)).trans (rfl), ((u2_n (Or.inr (by decide))).trans (s1.2.2.2.2)).trans (rfl)⟩, fun j j0 j1 => ((u2_n (Or.inl (by omega))).trans (s2 j j0 j1)).trans (rfl), fun i i0 i1 => ((u2_n (Or.inl (by omega))).trans (s3 i i0 i1)).trans (rfl), fun h => ⟨fun r r0 r1 => ((u2_n (Or.inl (by omega))).trans ((s4 h).1 r r0 r1)).trans (rfl), fun p p0 p1 => ((u2_n (Or.inl (by omega))).trans ((s4 h).2 p p0 p1)).trans (rfl)⟩⟩
theorem XC.rf {V : VT} {B : Nat} {z : ZT} {k v : Int} (h : XC V B z)  : XC (vI V (B + 1) k v) B (za z 2 k v) := by
  obtain ⟨⟨n1, n2, n3, n4, n5, n6, n7⟩, s1, s2, s3, s4⟩ := h
  refine ⟨⟨n1, ⟨((u2_n (Or.inl (by omega))).trans (n2.1)).trans (rfl), ((u2_n (Or.inl (by omega))).trans (n2.2.1)).trans (rfl), ((u2_n (Or.inl (by omega))).trans (n2.2.2.1)).trans (rfl), ((u2_n (Or.inl (by omega))).trans (n2.2.2.2)).trans (rfl)⟩, fun i i0 i1 => ((u2_n (Or.inl (by omega))).trans (n3 i i0 (by exact i1))).trans (rfl), fun i i0 i1 => ((u2_n (Or.inl (by omega))).trans (n4 i i0 (by exact i1))).trans (rfl), fun i i0 i1 => ((u2_n (Or.inl (by omega))).trans (n5 i i0 (by exact i1))).trans (rfl), fun i i0 i1 => ((u2_n (Or.inl (by omega))).trans (n6 i i0 (by exact i1))).trans (rfl), fun p hp6 hp r r0 r1 => by
    have w := n7 p hp6 hp r r0 r1
    show u2 V.1 (B + 1) k v (B + 2 + 2 + 3 * p + 1) r = _ ∧ (_ → u2 V.1 (B + 1) k v (B + 2 + 2 + 3 * p + 2) r = _)
    rw [(u2_n (Or.inl (by omega)) : u2 V.1 (B + 1) k v (B + 2 + 2 + 3 * p + 1) r = _), (u2_n (Or.inl (by omega)) : u2 V.1 (B + 1) k v (B + 2 + 2 + 3 * p + 2) r = _)]; exact w⟩, ⟨((u2_n (Or.inl (by omega))).trans (s1.1)).trans (rfl), ((u2_n (Or.inl (by omega))).trans (s1.2.1)).trans (rfl), ((u2_n (Or.inl (by omega))).trans (s1.2.2.1)).trans (rfl), ((u2_n (Or.inl (by omega))).trans (s1.2.2.2.1)).trans (rfl), ((u2_n (Or.inl (by omega))).trans (s1.2.2.2.2)).trans (rfl)⟩, fun j j0 j1 => by
    by_cases e : j = k
    · subst e; exact u2_s.trans (u2_s : u2 z.2 2 j v 2 j = v).symm
    · exact ((u2_n (Or.inr e)).trans (s2 j j0 j1)).trans (u2_n (Or.inr e) : u2 z.2 2 k v 2 j = z.2 2 j).symm, fun i i0 i1 => ((u2_n (Or.inl (by omega))).trans (s3 i i0 i1)).trans (rfl), fun h => ⟨fun r r0 r1 => ((u2_n (Or.inl (by omega))).trans ((s4 h).1 r r0 r1)).trans (rfl), fun p p0 p1 => ((u2_n (Or.inl (by omega))).trans ((s4 h).2 p p0 p1)).trans (rfl)⟩⟩
theorem XC.fo {V : VT} {B : Nat} {z : ZT} {v : Int} (h : XC V B z)  : XC (vI V (B + 2) 11 v) B (za z 3 4 v) := by
  obtain ⟨⟨n1, n2, n3, n4, n5, n6, n7⟩, s1, s2, s3, s4⟩ := h
  refine ⟨⟨n1, ⟨((u2_n (Or.inr (by decide))).trans (n2.1)).trans ((zf3 (by omega)).symm), ((u2_n (Or.inr (by decide))).trans (n2.2.1)).trans ((zf3 (by omega)).symm), ((u2_n (Or.inr (by decide))).trans (n2.2.2.1)).trans ((zf3 (by omega)).symm), (u2_s.trans zf3s.symm)⟩, fun i i0 i1 => ((u2_n (Or.inl (by omega))).trans (n3 i i0 (by exact i1))).trans ((zf3 (by omega)).symm), fun i i0 i1 => ((u2_n (Or.inl (by omega))).trans (n4 i i0 (by exact i1))).trans ((zf3 (by omega)).symm), fun i i0 i1 => ((u2_n (Or.inl (by omega))).trans (n5 i i0 (by exact i1))).trans ((zf3 (by omega)).symm), fun i i0 i1 => ((u2_n (Or.inl (by omega))).trans (n6 i i0 (by exact i1))).trans ((zf3 (by omega)).symm), fun p hp6 hp r r0 r1 => by
    have w := n7 p hp6 (by have q : (p : Int) < (za z 3 (4) v).2 3 0 := hp; rw [zf3 (by omega)] at q; exact q) r r0 r1
    show u2 V.1 (B + 2) 11 v (B + 2 + 2 + 3 * p + 1) r = wZ (u2 z.2 3 (4) v 3 (22 + 36 * p + r)) ∧ (u2 z.2 3 (4) v 3 (22 + 36 * p + r) ≠ -1 → u2 V.1 (B + 2) 11 v (B + 2 + 2 + 3 * p + 2) r = nZ (u2 z.2 3 (4) v 3 (22 + 36 * p + r)))
    rw [(u2_n (Or.inr (by omega)) : u2 z.2 3 (4) v 3 (22 + 36 * p + r) = _), (u2_n (Or.inl (by omega)) : u2 V.1 (B + 2) 11 v (B + 2 + 2 + 3 * p + 1) r = _), (u2_n (Or.inl (by omega)) : u2 V.1 (B + 2) 11 v (B + 2 + 2 + 3 * p + 2) r = _)]; exact w⟩, ⟨((u2_n (Or.inl (by omega))).trans (s1.1)).trans (rfl), ((u2_n (Or.inl (by omega))).trans (s1.2.1)).trans (rfl), ((u2_n (Or.inl (by omega))).trans (s1.2.2.1)).trans (rfl), ((u2_n (Or.inl (by omega))).trans (s1.2.2.2.1)).trans (rfl), ((u2_n (Or.inl (by omega))).trans (s1.2.2.2.2)).trans (rfl)⟩, fun j j0 j1 => ((u2_n (Or.inl (by omega))).trans (s2 j j0 j1)).trans (rfl), fun i i0 i1 => ((u2_n (Or.inl (by omega))).trans (s3 i i0 i1)).trans (rfl), fun h => ⟨fun r r0 r1 => ((u2_n (Or.inl (by omega))).trans ((s4 h).1 r r0 r1)).trans (rfl), fun p p0 p1 => ((u2_n (Or.inl (by omega))).trans ((s4 h).2 p p0 p1)).trans (rfl)⟩⟩
theorem XC.cm {V : VT} {B : Nat} {z : ZT} {v : Int} (h : XC V B z)  : XC (vI V (B + 2) 9 v) B (za z 3 5 v) := by
  obtain ⟨⟨n1, n2, n3, n4, n5, n6, n7⟩, s1, s2, s3, s4⟩ := h
  refine ⟨⟨n1, ⟨((u2_n (Or.inr (by decide))).trans (n2.1)).trans ((zf3 (by omega)).symm), (u2_s.trans zf3s.symm), ((u2_n (Or.inr (by decide))).trans (n2.2.2.1)).trans ((zf3 (by omega)).symm), ((u2_n (Or.inr (by decide))).trans (n2.2.2.2)).trans ((zf3 (by omega)).symm)⟩, fun i i0 i1 => ((u2_n (Or.inl (by omega))).trans (n3 i i0 (by exact i1))).trans ((zf3 (by omega)).symm), fun i i0 i1 => ((u2_n (Or.inl (by omega))).trans (n4 i i0 (by exact i1))).trans ((zf3 (by omega)).symm), fun i i0 i1 => ((u2_n (Or.inl (by omega))).trans (n5 i i0 (by exact i1))).trans ((zf3 (by omega)).symm), fun i i0 i1 => ((u2_n (Or.inl (by omega))).trans (n6 i i0 (by exact i1))).trans ((zf3 (by omega)).symm), fun p hp6 hp r r0 r1 => by
    have w := n7 p hp6 (by have q : (p : Int) < (za z 3 (5) v).2 3 0 := hp; rw [zf3 (by omega)] at q; exact q) r r0 r1
    show u2 V.1 (B + 2) 9 v (B + 2 + 2 + 3 * p + 1) r = wZ (u2 z.2 3 (5) v 3 (22 + 36 * p + r)) ∧ (u2 z.2 3 (5) v 3 (22 + 36 * p + r) ≠ -1 → u2 V.1 (B + 2) 9 v (B + 2 + 2 + 3 * p + 2) r = nZ (u2 z.2 3 (5) v 3 (22 + 36 * p + r)))
    rw [(u2_n (Or.inr (by omega)) : u2 z.2 3 (5) v 3 (22 + 36 * p + r) = _), (u2_n (Or.inl (by omega)) : u2 V.1 (B + 2) 9 v (B + 2 + 2 + 3 * p + 1) r = _), (u2_n (Or.inl (by omega)) : u2 V.1 (B + 2) 9 v (B + 2 + 2 + 3 * p + 2) r = _)]; exact w⟩, ⟨((u2_n (Or.inl (by omega))).trans (s1.1)).trans (rfl), ((u2_n (Or.inl (by omega))).trans (s1.2.1)).trans (rfl), ((u2_n (Or.inl (by omega))).trans (s1.2.2.1)).trans (rfl), ((u2_n (Or.inl (by omega))).trans (s1.2.2.2.1)).trans (rfl), ((u2_n (Or.inl (by omega))).trans (s1.2.2.2.2)).trans (rfl)⟩, fun j j0 j1 => ((u2_n (Or.inl (by omega))).trans (s2 j j0 j1)).trans (rfl), fun i i0 i1 => ((u2_n (Or.inl (by omega))).trans (s3 i i0 i1)).trans (rfl), fun h => ⟨fun r r0 r1 => ((u2_n (Or.inl (by omega))).trans ((s4 h).1 r r0 r1)).trans (rfl), fun p p0 p1 => ((u2_n (Or.inl (by omega))).trans ((s4 h).2 p p0 p1)).trans (rfl)⟩⟩
theorem XC.dm {V : VT} {B : Nat} {z : ZT} {v : Int} (h : XC V B z)  : XC (vI V (B + 2) 10 v) B (za z 3 6 v) := by
  obtain ⟨⟨n1, n2, n3, n4, n5, n6, n7⟩, s1, s2, s3, s4⟩ := h
  refine ⟨⟨n1, ⟨((u2_n (Or.inr (by decide))).trans (n2.1)).trans ((zf3 (by omega)).symm), ((u2_n (Or.inr (by decide))).trans (n2.2.1)).trans ((zf3 (by omega)).symm), (u2_s.trans zf3s.symm), ((u2_n (Or.inr (by decide))).trans (n2.2.2.2)).trans ((zf3 (by omega)).symm)⟩, fun i i0 i1 => ((u2_n (Or.inl (by omega))).trans (n3 i i0 (by exact i1))).trans ((zf3 (by omega)).symm), fun i i0 i1 => ((u2_n (Or.inl (by omega))).trans (n4 i i0 (by exact i1))).trans ((zf3 (by omega)).symm), fun i i0 i1 => ((u2_n (Or.inl (by omega))).trans (n5 i i0 (by exact i1))).trans ((zf3 (by omega)).symm), fun i i0 i1 => ((u2_n (Or.inl (by omega))).trans (n6 i i0 (by exact i1))).trans ((zf3 (by omega)).symm), fun p hp6 hp r r0 r1 => by
    have w := n7 p hp6 (by have q : (p : Int) < (za z 3 (6) v).2 3 0 := hp; rw [zf3 (by omega)] at q; exact q) r r0 r1
    show u2 V.1 (B + 2) 10 v (B + 2 + 2 + 3 * p + 1) r = wZ (u2 z.2 3 (6) v 3 (22 + 36 * p + r)) ∧ (u2 z.2 3 (6) v 3 (22 + 36 * p + r) ≠ -1 → u2 V.1 (B + 2) 10 v (B + 2 + 2 + 3 * p + 2) r = nZ (u2 z.2 3 (6) v 3 (22 + 36 * p + r)))
    rw [(u2_n (Or.inr (by omega)) : u2 z.2 3 (6) v 3 (22 + 36 * p + r) = _), (u2_n (Or.inl (by omega)) : u2 V.1 (B + 2) 10 v (B + 2 + 2 + 3 * p + 1) r = _), (u2_n (Or.inl (by omega)) : u2 V.1 (B + 2) 10 v (B + 2 + 2 + 3 * p + 2) r = _)]; exact w⟩, ⟨((u2_n (Or.inl (by omega))).trans (s1.1)).trans (rfl), ((u2_n (Or.inl (by omega))).trans (s1.2.1)).trans (rfl), ((u2_n (Or.inl (by omega))).trans (s1.2.2.1)).trans (rfl), ((u2_n (Or.inl (by omega))).trans (s1.2.2.2.1)).trans (rfl), ((u2_n (Or.inl (by omega))).trans (s1.2.2.2.2)).trans (rfl)⟩, fun j j0 j1 => ((u2_n (Or.inl (by omega))).trans (s2 j j0 j1)).trans (rfl), fun i i0 i1 => ((u2_n (Or.inl (by omega))).trans (s3 i i0 i1)).trans (rfl), fun h => ⟨fun r r0 r1 => ((u2_n (Or.inl (by omega))).trans ((s4 h).1 r r0 r1)).trans (rfl), fun p p0 p1 => ((u2_n (Or.inl (by omega))).trans ((s4 h).2 p p0 p1)).trans (rfl)⟩⟩
theorem XC.cu {V : VT} {B : Nat} {z : ZT} {k v : Int} (h : XC V B z) (hk : 0 ≤ k ∧ k < 12) : XC (vI V (B + 23) k v) B (za z 3 (730 + k) v) := by
  obtain ⟨⟨n1, n2, n3, n4, n5, n6, n7⟩, s1, s2, s3, s4⟩ := h
  refine ⟨⟨n1, ⟨((u2_n (Or.inl (by omega))).trans (n2.1)).trans ((zf3 (by omega)).symm), ((u2_n (Or.inl (by omega))).trans (n2.2.1)).trans ((zf3 (by omega)).symm), ((u2_n (Or.inl (by omega))).trans (n2.2.2.1)).trans ((zf3 (by omega)).symm), ((u2_n (Or.inl (by omega))).trans (n2.2.2.2)).trans ((zf3 (by omega)).symm)⟩, fun i i0 i1 => ((u2_n (Or.inl (by omega))).trans (n3 i i0 (by exact i1))).trans ((zf3 (by omega)).symm), fun i i0 i1 => by
    by_cases e : i = k
    · subst e; exact u2_s.trans zf3s.symm
    · exact ((u2_n (Or.inr e)).trans (n4 i i0 (by exact i1))).trans (zf3 (by omega)).symm, fun i i0 i1 => ((u2_n (Or.inl (by omega))).trans (n5 i i0 (by exact i1))).trans ((zf3 (by omega)).symm), fun i i0 i1 => ((u2_n (Or.inl (by omega))).trans (n6 i i0 (by exact i1))).trans ((zf3 (by omega)).symm), fun p hp6 hp r r0 r1 => by
    have w := n7 p hp6 (by have q : (p : Int) < (za z 3 (730 + k) v).2 3 0 := hp; rw [zf3 (by omega)] at q; exact q) r r0 r1
    show u2 V.1 (B + 23) k v (B + 2 + 2 + 3 * p + 1) r = wZ (u2 z.2 3 (730 + k) v 3 (22 + 36 * p + r)) ∧ (u2 z.2 3 (730 + k) v 3 (22 + 36 * p + r) ≠ -1 → u2 V.1 (B + 23) k v (B + 2 + 2 + 3 * p + 2) r = nZ (u2 z.2 3 (730 + k) v 3 (22 + 36 * p + r)))
    rw [(u2_n (Or.inr (by omega)) : u2 z.2 3 (730 + k) v 3 (22 + 36 * p + r) = _), (u2_n (Or.inl (by omega)) : u2 V.1 (B + 23) k v (B + 2 + 2 + 3 * p + 1) r = _), (u2_n (Or.inl (by omega)) : u2 V.1 (B + 23) k v (B + 2 + 2 + 3 * p + 2) r = _)]; exact w⟩, ⟨((u2_n (Or.inl (by omega))).trans (s1.1)).trans (rfl), ((u2_n (Or.inl (by omega))).trans (s1.2.1)).trans (rfl), ((u2_n (Or.inl (by omega))).trans (s1.2.2.1)).trans (rfl), ((u2_n (Or.inl (by omega))).trans (s1.2.2.2.1)).trans (rfl), ((u2_n (Or.inl (by omega))).trans (s1.2.2.2.2)).trans (rfl)⟩, fun j j0 j1 => ((u2_n (Or.inl (by omega))).trans (s2 j j0 j1)).trans (rfl), fun i i0 i1 => ((u2_n (Or.inl (by omega))).trans (s3 i i0 i1)).trans (rfl), fun h => ⟨fun r r0 r1 => ((u2_n (Or.inl (by omega))).trans ((s4 h).1 r r0 r1)).trans (rfl), fun p p0 p1 => ((u2_n (Or.inl (by omega))).trans ((s4 h).2 p p0 p1)).trans (rfl)⟩⟩
theorem XC.de {V : VT} {B : Nat} {z : ZT} {k v : Int} (h : XC V B z) (hk : 0 ≤ k ∧ k < 36) : XC (vI V (B + 24) k v) B (za z 3 (742 + k) v) := by
  obtain ⟨⟨n1, n2, n3, n4, n5, n6, n7⟩, s1, s2, s3, s4⟩ := h
  refine ⟨⟨n1, ⟨((u2_n (Or.inl (by omega))).trans (n2.1)).trans ((zf3 (by omega)).symm), ((u2_n (Or.inl (by omega))).trans (n2.2.1)).trans ((zf3 (by omega)).symm), ((u2_n (Or.inl (by omega))).trans (n2.2.2.1)).trans ((zf3 (by omega)).symm), ((u2_n (Or.inl (by omega))).trans (n2.2.2.2)).trans ((zf3 (by omega)).symm)⟩, fun i i0 i1 => ((u2_n (Or.inl (by omega))).trans (n3 i i0 (by exact i1))).trans ((zf3 (by omega)).symm), fun i i0 i1 => ((u2_n (Or.inl (by omega))).trans (n4 i i0 (by exact i1))).trans ((zf3 (by omega)).symm), fun i i0 i1 => by
    by_cases e : i = k
    · subst e; exact u2_s.trans zf3s.symm
    · exact ((u2_n (Or.inr e)).trans (n5 i i0 (by exact i1))).trans (zf3 (by omega)).symm, fun i i0 i1 => ((u2_n (Or.inl (by omega))).trans (n6 i i0 (by exact i1))).trans ((zf3 (by omega)).symm), fun p hp6 hp r r0 r1 => by
    have w := n7 p hp6 (by have q : (p : Int) < (za z 3 (742 + k) v).2 3 0 := hp; rw [zf3 (by omega)] at q; exact q) r r0 r1
    show u2 V.1 (B + 24) k v (B + 2 + 2 + 3 * p + 1) r = wZ (u2 z.2 3 (742 + k) v 3 (22 + 36 * p + r)) ∧ (u2 z.2 3 (742 + k) v 3 (22 + 36 * p + r) ≠ -1 → u2 V.1 (B + 24) k v (B + 2 + 2 + 3 * p + 2) r = nZ (u2 z.2 3 (742 + k) v 3 (22 + 36 * p + r)))
    rw [(u2_n (Or.inr (by omega)) : u2 z.2 3 (742 + k) v 3 (22 + 36 * p + r) = _), (u2_n (Or.inl (by omega)) : u2 V.1 (B + 24) k v (B + 2 + 2 + 3 * p + 1) r = _), (u2_n (Or.inl (by omega)) : u2 V.1 (B + 24) k v (B + 2 + 2 + 3 * p + 2) r = _)]; exact w⟩, ⟨((u2_n (Or.inl (by omega))).trans (s1.1)).trans (rfl), ((u2_n (Or.inl (by omega))).trans (s1.2.1)).trans (rfl), ((u2_n (Or.inl (by omega))).trans (s1.2.2.1)).trans (rfl), ((u2_n (Or.inl (by omega))).trans (s1.2.2.2.1)).trans (rfl), ((u2_n (Or.inl (by omega))).trans (s1.2.2.2.2)).trans (rfl)⟩, fun j j0 j1 => ((u2_n (Or.inl (by omega))).trans (s2 j j0 j1)).trans (rfl), fun i i0 i1 => ((u2_n (Or.inl (by omega))).trans (s3 i i0 i1)).trans (rfl), fun h => ⟨fun r r0 r1 => ((u2_n (Or.inl (by omega))).trans ((s4 h).1 r r0 r1)).trans (rfl), fun p p0 p1 => ((u2_n (Or.inl (by omega))).trans ((s4 h).2 p p0 p1)).trans (rfl)⟩⟩
theorem XC.te {V : VT} {B : Nat} {z : ZT} {k v : Int} (h : XC V B z) (hk : 0 ≤ k ∧ k < 3) : XC (vI V (B + 25) k v) B (za z 3 (7 + k) v) := by
  obtain ⟨⟨n1, n2, n3, n4, n5, n6, n7⟩, s1, s2, s3, s4⟩ := h
  refine ⟨⟨n1, ⟨((u2_n (Or.inl (by omega))).trans (n2.1)).trans ((zf3 (by omega)).symm), ((u2_n (Or.inl (by omega))).trans (n2.2.1)).trans ((zf3 (by omega)).symm), ((u2_n (Or.inl (by omega))).trans (n2.2.2.1)).trans ((zf3 (by omega)).symm), ((u2_n (Or.inl (by omega))).trans (n2.2.2.2)).trans ((zf3 (by omega)).symm)⟩, fun i i0 i1 => ((u2_n (Or.inl (by omega))).trans (n3 i i0 (by exact i1))).trans ((zf3 (by omega)).symm), fun i i0 i1 => ((u2_n (Or.inl (by omega))).trans (n4 i i0 (by exact i1))).trans ((zf3 (by omega)).symm), fun i i0 i1 => ((u2_n (Or.inl (by omega))).trans (n5 i i0 (by exact i1))).trans ((zf3 (by omega)).symm), fun i i0 i1 => by
    by_cases e : i = k
    · subst e; exact u2_s.trans zf3s.symm
    · exact ((u2_n (Or.inr e)).trans (n6 i i0 (by exact i1))).trans (zf3 (by omega)).symm, fun p hp6 hp r r0 r1 => by
    have w := n7 p hp6 (by have q : (p : Int) < (za z 3 (7 + k) v).2 3 0 := hp; rw [zf3 (by omega)] at q; exact q) r r0 r1
    show u2 V.1 (B + 25) k v (B + 2 + 2 + 3 * p + 1) r = wZ (u2 z.2 3 (7 + k) v 3 (22 + 36 * p + r)) ∧ (u2 z.2 3 (7 + k) v 3 (22 + 36 * p + r) ≠ -1 → u2 V.1 (B + 25) k v (B + 2 + 2 + 3 * p + 2) r = nZ (u2 z.2 3 (7 + k) v 3 (22 + 36 * p + r)))
    rw [(u2_n (Or.inr (by omega)) : u2 z.2 3 (7 + k) v 3 (22 + 36 * p + r) = _), (u2_n (Or.inl (by omega)) : u2 V.1 (B + 25) k v (B + 2 + 2 + 3 * p + 1) r = _), (u2_n (Or.inl (by omega)) : u2 V.1 (B + 25) k v (B + 2 + 2 + 3 * p + 2) r = _)]; exact w⟩, ⟨((u2_n (Or.inl (by omega))).trans (s1.1)).trans (rfl), ((u2_n (Or.inl (by omega))).trans (s1.2.1)).trans (rfl), ((u2_n (Or.inl (by omega))).trans (s1.2.2.1)).trans (rfl), ((u2_n (Or.inl (by omega))).trans (s1.2.2.2.1)).trans (rfl), ((u2_n (Or.inl (by omega))).trans (s1.2.2.2.2)).trans (rfl)⟩, fun j j0 j1 => ((u2_n (Or.inl (by omega))).trans (s2 j j0 j1)).trans (rfl), fun i i0 i1 => ((u2_n (Or.inl (by omega))).trans (s3 i i0 i1)).trans (rfl), fun h => ⟨fun r r0 r1 => ((u2_n (Or.inl (by omega))).trans ((s4 h).1 r r0 r1)).trans (rfl), fun p p0 p1 => ((u2_n (Or.inl (by omega))).trans ((s4 h).2 p p0 p1)).trans (rfl)⟩⟩
theorem XC.sg {V : VT} {B : Nat} {z : ZT} {k v : Int} (h : XC V B z) (hk : 0 ≤ k ∧ k < 12) : XC (vI V (B + 22) k v) B (za z 3 (10 + k) v) := by
  obtain ⟨⟨n1, n2, n3, n4, n5, n6, n7⟩, s1, s2, s3, s4⟩ := h
  refine ⟨⟨n1, ⟨((u2_n (Or.inl (by omega))).trans (n2.1)).trans ((zf3 (by omega)).symm), ((u2_n (Or.inl (by omega))).trans (n2.2.1)).trans ((zf3 (by omega)).symm), ((u2_n (Or.inl (by omega))).trans (n2.2.2.1)).trans ((zf3 (by omega)).symm), ((u2_n (Or.inl (by omega))).trans (n2.2.2.2)).trans ((zf3 (by omega)).symm)⟩, fun i i0 i1 => by
    by_cases e : i = k
    · subst e; exact u2_s.trans zf3s.symm
    · exact ((u2_n (Or.inr e)).trans (n3 i i0 (by exact i1))).trans (zf3 (by omega)).symm, fun i i0 i1 => ((u2_n (Or.inl (by omega))).trans (n4 i i0 (by exact i1))).trans ((zf3 (by omega)).symm), fun i i0 i1 => ((u2_n (Or.inl (by omega))).trans (n5 i i0 (by exact i1))).trans ((zf3 (by omega)).symm), fun i i0 i1 => ((u2_n (Or.inl (by omega))).trans (n6 i i0 (by exact i1))).trans ((zf3 (by omega)).symm), fun p hp6 hp r r0 r1 => by
    have w := n7 p hp6 (by have q : (p : Int) < (za z 3 (10 + k) v).2 3 0 := hp; rw [zf3 (by omega)] at q; exact q) r r0 r1
    show u2 V.1 (B + 22) k v (B + 2 + 2 + 3 * p + 1) r = wZ (u2 z.2 3 (10 + k) v 3 (22 + 36 * p + r)) ∧ (u2 z.2 3 (10 + k) v 3 (22 + 36 * p + r) ≠ -1 → u2 V.1 (B + 22) k v (B + 2 + 2 + 3 * p + 2) r = nZ (u2 z.2 3 (10 + k) v 3 (22 + 36 * p + r)))
    rw [(u2_n (Or.inr (by omega)) : u2 z.2 3 (10 + k) v 3 (22 + 36 * p + r) = _), (u2_n (Or.inl (by omega)) : u2 V.1 (B + 22) k v (B + 2 + 2 + 3 * p + 1) r = _), (u2_n (Or.inl (by omega)) : u2 V.1 (B + 22) k v (B + 2 + 2 + 3 * p + 2) r = _)]; exact w⟩, ⟨((u2_n (Or.inl (by omega))).trans (s1.1)).trans (rfl), ((u2_n (Or.inl (by omega))).trans (s1.2.1)).trans (rfl), ((u2_n (Or.inl (by omega))).trans (s1.2.2.1)).trans (rfl), ((u2_n (Or.inl (by omega))).trans (s1.2.2.2.1)).trans (rfl), ((u2_n (Or.inl (by omega))).trans (s1.2.2.2.2)).trans (rfl)⟩, fun j j0 j1 => ((u2_n (Or.inl (by omega))).trans (s2 j j0 j1)).trans (rfl), fun i i0 i1 => ((u2_n (Or.inl (by omega))).trans (s3 i i0 i1)).trans (rfl), fun h => ⟨fun r r0 r1 => ((u2_n (Or.inl (by omega))).trans ((s4 h).1 r r0 r1)).trans (rfl), fun p p0 p1 => ((u2_n (Or.inl (by omega))).trans ((s4 h).2 p p0 p1)).trans (rfl)⟩⟩
theorem FrX.tr {B : Nat} {V V1 V2 : VT} (h : FrX B V V1) (h2 : FrX B V1 V2) : FrX B V V2 := fun a ha => ⟨(h2 a ha).1.trans (h a ha).1, (h2 a ha).2.1.trans (h a ha).2.1, (h2 a ha).2.2.trans (h a ha).2.2⟩
theorem zTell_2 {z : ZT} {c : Int} {j : Nat} (h : (j == 2) = false) : (zTell z c).2 j = z.2 j := by
  unfold zTell
  split
  · exact za_2 h
  · rfl
theorem StA.tell {z : ZT} {f : Int → Int} {c : Int} (h : StA f (z.2 3)) : StA f ((zTell z c).2 3) := by rw [zTell_2 rfl]; exact h
theorem StA.i {z : ZT} {f : Int → Int} {k v : Int} (h : StA f (z.2 3)) : StA f ((zi z k v).2 3) := h
theorem zi_2 {z : ZT} {k v : Int} {j : Nat} : (zi z k v).2 j = z.2 j := rfl
theorem StA.ab {z : ZT} {f : Int → Int} {k : Nat} {i v : Int} (h : StA f (z.2 3)) (hk : (3 == k) = false) : StA f ((za z k i v).2 3) := by rw [za_2 hk]; exact h
set_option maxHeartbeats 4000000 in
theorem kX0_in {E : ET} {sh : SHT} {nn : Nat × Nat} {V : VT} {v lo hi : Int} (h0 : R32 v) (h1 : R32 lo) (h2 : R32 hi) : TF E mX0_in 1 [.int (iI v), .int (iI lo), .int (iI hi)] sh nn V (.int (iI (bZ (lo ≤ v ∧ v ≤ hi)))) := by
  refine TC.intro [some (.int (iI v)), some (.int (iI lo)), some (.int (iI hi))] rfl ?_
  refine TGo.il0 dX0_in_0 rfl ?_
  refine TGo.il1 dX0_in_1 rfl ?_
  refine TGo.icmp_lt 14 dX0_in_2 (by decide) (by omega) (fun h2 => ?_) (fun h2 => ?_)
  · refine TGo.ic0 dX0_in_14 ?_
    refine TGo.zret dX0_in_15 rfl (by first | exact Or.inl rfl | exact Or.inr rfl | exact bZ_or _ | assumption) ?_
    refine leafF ?_
    first | rfl | omega | exact (bZ_t (by omega)).symm | exact (bZ_f (by omega)).symm | exact bZ_iff (by omega)
  · refine TGo.il0 dX0_in_5 rfl ?_
    refine TGo.il2 dX0_in_6 rfl ?_
    refine TGo.icmp_gt 14 dX0_in_7 (by decide) (by omega) (fun h7 => ?_) (fun h7 => ?_)
    · refine TGo.ic0 dX0_in_14 ?_
      refine TGo.zret dX0_in_15 rfl (by first | exact Or.inl rfl | exact Or.inr rfl | exact bZ_or _ | assumption) ?_
      refine leafF ?_
      first | rfl | omega | exact (bZ_t (by omega)).symm | exact (bZ_f (by omega)).symm | exact bZ_iff (by omega)
    · refine TGo.ic1 dX0_in_10 ?_
      refine TGo.goto 15 dX0_in_11 (by decide) ?_
      refine TGo.zret dX0_in_15 rfl (by first | exact Or.inl rfl | exact Or.inr rfl | exact bZ_or _ | assumption) ?_
      refine leafF ?_
      first | rfl | omega | exact (bZ_t (by omega)).symm | exact (bZ_f (by omega)).symm | exact bZ_iff (by omega)
set_option maxHeartbeats 4000000 in
theorem kX0_isRule {E : ET} {sh : SHT} {nn : Nat × Nat} {V : VT} {a b : Int} (h0 : R32 a) (h1 : R32 b) : TF E mX0_isRule 2 [.int (iI a), .int (iI b)] sh nn V (.int (iI (bZ ((0 ≤ a ∧ a ≤ 5) ∧ 0 ≤ b ∧ b ≤ 5)))) := by
  refine TC.intro [some (.int (iI a)), some (.int (iI b))] rfl ?_
  refine TGo.il0 dX0_isRule_0 rfl ?_
  refine TGo.ic0 dX0_isRule_1 ?_
  refine TGo.ic5 dX0_isRule_2 ?_
  refine TGo.cF (csS3 (y2 := mX0_in) 1 rfl dX0_isRule_3 q598 q599 okX0_in npX0_in rfl rfl) (kX0_in (by omega) (by omega) (by omega)) ?_
  refine TGo.ifb_eq 22 dX0_isRule_6 (by decide) (fun h6 => ?_) (fun h6 => ?_)
  · refine TGo.ic0 dX0_isRule_22 ?_
    refine TGo.zret dX0_isRule_23 rfl (by first | exact Or.inl rfl | exact Or.inr rfl | exact bZ_or _ | assumption) ?_
    refine leafF ?_
    first | rfl | omega | exact (bZ_t (by omega)).symm | exact (bZ_f (by omega)).symm | exact bZ_iff (by omega)
  · refine TGo.il1 dX0_isRule_9 rfl ?_
    refine TGo.ic0 dX0_isRule_10 ?_
    refine TGo.ic5 dX0_isRule_11 ?_
    refine TGo.cF (csS3 (y2 := mX0_in) 1 rfl dX0_isRule_12 q598 q599 okX0_in npX0_in rfl rfl) (kX0_in (by omega) (by omega) (by omega)) ?_
    refine TGo.ifb_eq 22 dX0_isRule_15 (by decide) (fun h15 => ?_) (fun h15 => ?_)
    · refine TGo.ic0 dX0_isRule_22 ?_
      refine TGo.zret dX0_isRule_23 rfl (by first | exact Or.inl rfl | exact Or.inr rfl | exact bZ_or _ | assumption) ?_
      refine leafF ?_
      first | rfl | omega | exact (bZ_t (by omega)).symm | exact (bZ_f (by omega)).symm | exact bZ_iff (by omega)
    · refine TGo.ic1 dX0_isRule_18 ?_
      refine TGo.goto 23 dX0_isRule_19 (by decide) ?_
      refine TGo.zret dX0_isRule_23 rfl (by first | exact Or.inl rfl | exact Or.inr rfl | exact bZ_or _ | assumption) ?_
      refine leafF ?_
      first | rfl | omega | exact (bZ_t (by omega)).symm | exact (bZ_f (by omega)).symm | exact bZ_iff (by omega)
set_option maxHeartbeats 4000000 in
theorem kX0_isSaid {E : ET} {sh : SHT} {nn : Nat × Nat} {V : VT} {a b : Int} (h0 : R32 a) (h1 : R32 b) : TF E mX0_isSaid 2 [.int (iI a), .int (iI b)] sh nn V (.int (iI (bZ ((0 ≤ a ∧ a ≤ 9) ∧ 0 ≤ b ∧ b ≤ 5)))) := by
  refine TC.intro [some (.int (iI a)), some (.int (iI b))] rfl ?_
  refine TGo.il0 dX0_isSaid_0 rfl ?_
  refine TGo.ic0 dX0_isSaid_1 ?_
  refine TGo.bip 9 dX0_isSaid_2 (by decide) ?_
  refine TGo.cF (csS3 (y2 := mX0_in) 1 rfl dX0_isSaid_4 q598 q599 okX0_in npX0_in rfl rfl) (kX0_in (by omega) (by omega) (by omega)) ?_
  refine TGo.ifb_eq 23 dX0_isSaid_7 (by decide) (fun h7 => ?_) (fun h7 => ?_)
  · refine TGo.ic0 dX0_isSaid_23 ?_
    refine TGo.zret dX0_isSaid_24 rfl (by first | exact Or.inl rfl | exact Or.inr rfl | exact bZ_or _ | assumption) ?_
    refine leafF ?_
    first | rfl | omega | exact (bZ_t (by omega)).symm | exact (bZ_f (by omega)).symm | exact bZ_iff (by omega)
  · refine TGo.il1 dX0_isSaid_10 rfl ?_
    refine TGo.ic0 dX0_isSaid_11 ?_
    refine TGo.ic5 dX0_isSaid_12 ?_
    refine TGo.cF (csS3 (y2 := mX0_in) 1 rfl dX0_isSaid_13 q598 q599 okX0_in npX0_in rfl rfl) (kX0_in (by omega) (by omega) (by omega)) ?_
    refine TGo.ifb_eq 23 dX0_isSaid_16 (by decide) (fun h16 => ?_) (fun h16 => ?_)
    · refine TGo.ic0 dX0_isSaid_23 ?_
      refine TGo.zret dX0_isSaid_24 rfl (by first | exact Or.inl rfl | exact Or.inr rfl | exact bZ_or _ | assumption) ?_
      refine leafF ?_
      first | rfl | omega | exact (bZ_t (by omega)).symm | exact (bZ_f (by omega)).symm | exact bZ_iff (by omega)
    · refine TGo.ic1 dX0_isSaid_19 ?_
      refine TGo.goto 24 dX0_isSaid_20 (by decide) ?_
      refine TGo.zret dX0_isSaid_24 rfl (by first | exact Or.inl rfl | exact Or.inr rfl | exact bZ_or _ | assumption) ?_
      refine leafF ?_
      first | rfl | omega | exact (bZ_t (by omega)).symm | exact (bZ_f (by omega)).symm | exact bZ_iff (by omega)
set_option maxHeartbeats 4000000 in
theorem kX0_refuse {E : ET} {sh : SHT} {nn : Nat × Nat} {V : VT} {B : Nat} {z : ZT} {c : Int} (hB : XSh B sh) (hc : XC V B z) (h : -6 ≤ c ∧ c ≤ -1) : TS E mX0_refuse 1 [.ref B, .int (iI c)] sh nn V (fun v V1 => v = .int (iI c) ∧ XC V1 B (zTell z c) ∧ FrX B V V1) := by
  refine TC.intro [some (.ref B), some (.int (iI c))] rfl ?_
  refine TGo.al0 dX0_refuse_0 rfl ?_
  refine TGo.il1 dX0_refuse_1 rfl ?_
  refine TGo.putI (t := 8) 0 0 (hB 0 (by decide)) rfl fpX0_101_0 dX0_refuse_2 rfl rfl rfl ?_
  refine TGo.al0 dX0_refuse_5 rfl ?_
  refine TGo.getS (t := 8) 1 1 (B + 1) (hB 0 (by decide)) rfl fgX0_9_0 dX0_refuse_6 rfl rfl rfl ?_
  refine TGo.il1 dX0_refuse_9 rfl ?_
  refine TGo.ineg dX0_refuse_10 ?_
  refine TGo.dup2 dX0_refuse_11 rfl rfl ?_
  refine TGo.iald dX0_refuse_12 (hB 1 (by decide)) (by omega) rfl ?_
  refine TGo.toz _ ((u2_n (Or.inl (by omega))).trans (hc.2.2.1 _ (by omega) (by omega))) ?_
  refine TGo.ic1 dX0_refuse_13 ?_
  refine TGo.iadd dX0_refuse_14 ?_
  refine TGo.iast dX0_refuse_15 (hB 1 (by decide)) (by omega) rfl ?_
  refine TGo.il1 dX0_refuse_16 rfl ?_
  refine TGo.iret dX0_refuse_17 rfl ?_
  have e : zTell z c = za (zi z 1 c) 2 (-c) (z.2 2 (-c) + 1) := if_pos (by omega)
  rw [e]
  exact ⟨_, rfl, rfl, rfl, rfl, ((hc.st).rf), ((FrX.rf.b).i 1 rfl)⟩
set_option maxHeartbeats 4000000 in
theorem kX0_done {E : ET} {sh : SHT} {nn : Nat × Nat} {V : VT} {B : Nat} {z : ZT} {v : Int} (hB : XSh B sh) (hc : XC V B z) : TS E mX0_done 1 [.ref B, .int (iI v)] sh nn V (fun w V1 => w = .int (iI v) ∧ XC V1 B (zi z 1 0) ∧ FrX B V V1) := by
  refine TC.intro [some (.ref B), some (.int (iI v))] rfl ?_
  refine TGo.al0 dX0_done_0 rfl ?_
  refine TGo.ic0 dX0_done_1 ?_
  refine TGo.putI (t := 8) 0 0 (hB 0 (by decide)) rfl fpX0_101_0 dX0_done_2 rfl rfl rfl ?_
  refine TGo.il1 dX0_done_5 rfl ?_
  refine TGo.iret dX0_done_6 rfl ?_
  exact ⟨_, rfl, rfl, rfl, rfl, (hc.st), (FrX.rf.b)⟩
set_option maxHeartbeats 4000000 in
theorem kX0_isPart {E : ET} {sh : SHT} {nn : Nat × Nat} {V : VT} {B : Nat} {z : ZT} {p : Int} (hB : XSh B sh) (hc : XC V B z) (w0 : 0 ≤ z.2 3 0 ∧ z.2 3 0 ≤ 6) (hp : R32 p) : TF E mX0_isPart 2 [.ref B, .int (iI p)] sh nn V (.int (iI (bZ (0 ≤ p ∧ p < z.2 3 0)))) := by
  refine TC.intro [some (.ref B), some (.int (iI p))] rfl ?_
  refine TGo.il1 dX0_isPart_0 rfl ?_
  refine TGo.ic0 dX0_isPart_1 ?_
  refine TGo.al0 dX0_isPart_2 rfl ?_
  refine TGo.getS (t := 8) 2 2 (B + 2) (hB 0 (by decide)) rfl fgX0_16_0 dX0_isPart_3 rfl rfl rfl ?_
  refine TGo.getI (t := 9) 8 8 (hB 2 (by decide)) rfl fgX0_119_1 dX0_isPart_6 rfl rfl rfl ?_
  refine TGo.toz _ (hc.1.2.1.1) ?_
  refine TGo.ic1 dX0_isPart_9 ?_
  refine TGo.isub dX0_isPart_10 ?_
  refine TGo.cF (csS3 (y2 := mX0_in) 1 rfl dX0_isPart_11 q598 q599 okX0_in npX0_in rfl rfl) (kX0_in (by omega) (by omega) (by omega)) ?_
  refine TGo.zret dX0_isPart_14 rfl (by first | exact Or.inl rfl | exact Or.inr rfl | exact bZ_or _ | assumption) ?_
  refine leafF ?_
  first | rfl | omega | exact (bZ_t (by omega)).symm | exact (bZ_f (by omega)).symm | exact bZ_iff (by omega)
set_option maxHeartbeats 4000000 in
theorem kX0_status {E : ET} {sh : SHT} {nn : Nat × Nat} {V : VT} {B : Nat} {ow : Nat → Nat} {z : ZT} (hR : XR ow sh nn V B z) (W : RWZ (z.2 3))   : TC E mX0_status 1 [.ref B] sh nn V (XP B nn (zp_status z)) := by
  obtain ⟨hB, -, hc, -⟩ := id hR
  have w0 := W.1.1
  refine TC.intro [some (.ref B)] rfl ?_
  refine TGo.al0 dX0_status_0 rfl ?_
  refine TGo.getI (t := 8) 0 0 (hB 0 (by decide)) rfl fgX0_101_0 dX0_status_1 rfl rfl rfl ?_
  refine TGo.toz _ (hc.2.1.1) ?_
  refine TGo.iret dX0_status_4 rfl ?_
  first
  | (exfalso; omega)
  | (refine hR.same ?_
     unfold zp_status
     (repeat (first | rw [if_pos (by first | rfl | assumption | omega)] | rw [if_neg (by first | decide | assumption | omega)]))
     (try first | rfl))
set_option maxHeartbeats 4000000 in
theorem kX0_fault {E : ET} {sh : SHT} {nn : Nat × Nat} {V : VT} {B : Nat} {ow : Nat → Nat} {z : ZT} (hR : XR ow sh nn V B z) (W : RWZ (z.2 3))   : TC E mX0_fault 1 [.ref B] sh nn V (XP B nn (zp_fault z)) := by
  obtain ⟨hB, -, hc, -⟩ := id hR
  have w0 := W.1.1
  refine TC.intro [some (.ref B)] rfl ?_
  refine TGo.al0 dX0_fault_0 rfl ?_
  refine TGo.getI (t := 8) 6 6 (hB 0 (by decide)) rfl fgX0_28_0 dX0_fault_1 rfl rfl rfl ?_
  refine TGo.toz _ (hc.2.1.2.2.1) ?_
  refine TGo.iret dX0_fault_4 rfl ?_
  first
  | (exfalso; omega)
  | (refine hR.same ?_
     unfold zp_fault
     (repeat (first | rw [if_pos (by first | rfl | assumption | omega)] | rw [if_neg (by first | decide | assumption | omega)]))
     (try first | rfl))
set_option maxHeartbeats 4000000 in
theorem kX0_prattle {E : ET} {sh : SHT} {nn : Nat × Nat} {V : VT} {B : Nat} {ow : Nat → Nat} {z : ZT} (hR : XR ow sh nn V B z) (W : RWZ (z.2 3))   : TC E mX0_prattle 1 [.ref B] sh nn V (XP B nn (zp_prattle z)) := by
  obtain ⟨hB, -, hc, -⟩ := id hR
  have w0 := W.1.1
  refine TC.intro [some (.ref B)] rfl ?_
  refine TGo.al0 dX0_prattle_0 rfl ?_
  refine TGo.getI (t := 8) 7 7 (hB 0 (by decide)) rfl fgX0_239_0 dX0_prattle_1 rfl rfl rfl ?_
  refine TGo.toz _ (hc.2.1.2.2.2.1) ?_
  refine TGo.iret dX0_prattle_4 rfl ?_
  first
  | (exfalso; omega)
  | (refine hR.same ?_
     unfold zp_prattle
     (repeat (first | rw [if_pos (by first | rfl | assumption | omega)] | rw [if_neg (by first | decide | assumption | omega)]))
     (try first | rfl))
set_option maxHeartbeats 4000000 in
theorem kX0_still {E : ET} {sh : SHT} {nn : Nat × Nat} {V : VT} {B : Nat} {ow : Nat → Nat} {z : ZT} (hR : XR ow sh nn V B z) (W : RWZ (z.2 3))   : TC E mX0_still 1 [.ref B] sh nn V (XP B nn (zp_still z)) := by
  obtain ⟨hB, -, hc, -⟩ := id hR
  have w5 := W.1.2.2.2.2.2.1
  refine TC.intro [some (.ref B), none] rfl ?_
  refine TGo.al0 dX0_still_0 rfl ?_
  refine TGo.getS (t := 8) 2 2 (B + 2) (hB 0 (by decide)) rfl fgX0_16_0 dX0_still_1 rfl rfl rfl ?_
  refine TGo.getI (t := 9) 9 9 (hB 2 (by decide)) rfl fgX0_321_1 dX0_still_4 rfl rfl rfl ?_
  refine TGo.toz _ (hc.1.2.1.2.1) ?_
  refine TGo.is1 dX0_still_7 rfl rfl ?_
  refine TGo.al0 dX0_still_8 rfl ?_
  refine TGo.getS (t := 8) 2 2 (B + 2) (hB 0 (by decide)) rfl fgX0_16_0 dX0_still_9 rfl rfl rfl ?_
  refine TGo.ic0 dX0_still_12 ?_
  refine TGo.putI (t := 9) 9 9 (hB 2 (by decide)) rfl fpX0_321_1 dX0_still_13 rfl rfl rfl ?_
  refine TGo.il1 dX0_still_16 rfl ?_
  refine TGo.iret dX0_still_17 rfl ?_
  first
  | (exfalso; omega)
  | (refine hR.leaf W (FrX.rf.i 2 rfl) (hc.cm) ((za_2 rfl).trans rfl) ((za_2 rfl).trans rfl) (StA.rf.a3 (by omega)) ?_
     unfold zp_still
     (repeat (first | rw [if_pos (by first | rfl | assumption | omega)] | rw [if_neg (by first | decide | assumption | omega)]))
     (try first | rfl))
set_option maxHeartbeats 4000000 in
theorem kX0_forget {E : ET} {sh : SHT} {nn : Nat × Nat} {V : VT} {B : Nat} {ow : Nat → Nat} {z : ZT} (hR : XR ow sh nn V B z) (W : RWZ (z.2 3))   : TC E mX0_forget 1 [.ref B] sh nn V (XP B nn (zp_forget z)) := by
  obtain ⟨hB, -, hc, -⟩ := id hR
  have w6 := W.1.2.2.2.2.2.2.1
  refine TC.intro [some (.ref B), none] rfl ?_
  refine TGo.al0 dX0_forget_0 rfl ?_
  refine TGo.getS (t := 8) 2 2 (B + 2) (hB 0 (by decide)) rfl fgX0_16_0 dX0_forget_1 rfl rfl rfl ?_
  refine TGo.getI (t := 9) 10 10 (hB 2 (by decide)) rfl fgX0_482_1 dX0_forget_4 rfl rfl rfl ?_
  refine TGo.toz _ (hc.1.2.1.2.2.1) ?_
  refine TGo.is1 dX0_forget_7 rfl rfl ?_
  refine TGo.al0 dX0_forget_8 rfl ?_
  refine TGo.getS (t := 8) 2 2 (B + 2) (hB 0 (by decide)) rfl fgX0_16_0 dX0_forget_9 rfl rfl rfl ?_
  refine TGo.ic0 dX0_forget_12 ?_
  refine TGo.putI (t := 9) 10 10 (hB 2 (by decide)) rfl fpX0_482_1 dX0_forget_13 rfl rfl rfl ?_
  refine TGo.il1 dX0_forget_16 rfl ?_
  refine TGo.iret dX0_forget_17 rfl ?_
  first
  | (exfalso; omega)
  | (refine hR.leaf W (FrX.rf.i 2 rfl) (hc.dm) ((za_2 rfl).trans rfl) ((za_2 rfl).trans rfl) (StA.rf.a3 (by omega)) ?_
     unfold zp_forget
     (repeat (first | rw [if_pos (by first | rfl | assumption | omega)] | rw [if_neg (by first | decide | assumption | omega)]))
     (try first | rfl))
set_option maxHeartbeats 4000000 in
theorem kX0_cue {E : ET} {sh : SHT} {nn : Nat × Nat} {V : VT} {B : Nat} {ow : Nat → Nat} {z : ZT} {c : Int} (hR : XR ow sh nn V B z) (W : RWZ (z.2 3))  (rc : R32 c) : TC E mX0_cue 2 [.ref B, .int (iI c)] sh nn V (XP B nn (zp_cue z c)) := by
  obtain ⟨hB, -, hc, -⟩ := id hR
  have w5 := W.1.2.2.2.2.2.1
  refine TC.intro [some (.ref B), some (.int (iI c))] rfl ?_
  refine TGo.il1 dX0_cue_0 rfl ?_
  refine TGo.ic0 dX0_cue_1 ?_
  refine TGo.ic5 dX0_cue_2 ?_
  refine TGo.cF (csS3 (y2 := mX0_in) 1 rfl dX0_cue_3 q598 q599 okX0_in npX0_in rfl rfl) (kX0_in (by omega) (by omega) (by omega)) ?_
  refine TGo.ifb_ne 15 dX0_cue_6 (by decide) (fun h6 => ?_) (fun h6 => ?_)
  · refine TGo.al0 dX0_cue_15 rfl ?_
    refine TGo.getS (t := 8) 2 2 (B + 2) (hB 0 (by decide)) rfl fgX0_16_0 dX0_cue_16 rfl rfl rfl ?_
    refine TGo.getI (t := 9) 9 9 (hB 2 (by decide)) rfl fgX0_321_1 dX0_cue_19 rfl rfl rfl ?_
    refine TGo.toz _ (hc.1.2.1.2.1) ?_
    refine TGo.bip 12 dX0_cue_22 (by decide) ?_
    refine TGo.icmp_ne 34 dX0_cue_24 (by decide) (by omega) (fun h24 => ?_) (fun h24 => ?_)
    · refine TGo.al0 dX0_cue_34 rfl ?_
      refine TGo.getS (t := 8) 2 2 (B + 2) (hB 0 (by decide)) rfl fgX0_16_0 dX0_cue_35 rfl rfl rfl ?_
      refine TGo.getS (t := 9) 2 2 (B + 23) (hB 2 (by decide)) rfl fgX0_324_1 dX0_cue_38 rfl rfl rfl ?_
      refine TGo.al0 dX0_cue_41 rfl ?_
      refine TGo.getS (t := 8) 2 2 (B + 2) (hB 0 (by decide)) rfl fgX0_16_0 dX0_cue_42 rfl rfl rfl ?_
      refine TGo.getI (t := 9) 9 9 (hB 2 (by decide)) rfl fgX0_321_1 dX0_cue_45 rfl rfl rfl ?_
      refine TGo.toz _ (hc.1.2.1.2.1) ?_
      refine TGo.il1 dX0_cue_48 rfl ?_
      refine TGo.iast dX0_cue_49 (hB 23 (by decide)) (by omega) rfl ?_
      refine TGo.al0 dX0_cue_50 rfl ?_
      refine TGo.getS (t := 8) 2 2 (B + 2) (hB 0 (by decide)) rfl fgX0_16_0 dX0_cue_51 rfl rfl rfl ?_
      refine TGo.dup dX0_cue_54 rfl ?_
      refine TGo.getI (t := 9) 9 9 (hB 2 (by decide)) rfl fgX0_321_1 dX0_cue_55 rfl rfl rfl ?_
      refine TGo.toz _ ((u2_n (Or.inl (by omega))).trans (hc.1.2.1.2.1)) ?_
      refine TGo.ic1 dX0_cue_58 ?_
      refine TGo.iadd dX0_cue_59 ?_
      refine TGo.putI (t := 9) 9 9 (hB 2 (by decide)) rfl fpX0_321_1 dX0_cue_60 rfl rfl rfl ?_
      refine TGo.al0 dX0_cue_63 rfl ?_
      refine TGo.al0 dX0_cue_64 rfl ?_
      refine TGo.getS (t := 8) 2 2 (B + 2) (hB 0 (by decide)) rfl fgX0_16_0 dX0_cue_65 rfl rfl rfl ?_
      refine TGo.getI (t := 9) 9 9 (hB 2 (by decide)) rfl fgX0_321_1 dX0_cue_68 rfl rfl rfl ?_
      refine TGo.toz _ (u2_s) ?_
      refine TGo.cS (csV1 (y2 := mX0_done) (t := 8) 1 rfl (hB 0 (by decide)) rfl rfl dX0_cue_71 q695 q697 qs3 okX0_done npX0_done rfl rfl) (kX0_done hB ((hc.cu (by omega)).cm)) (fun v71 V71 h71 => ?_)
      obtain ⟨rfl, hc71, hf71⟩ := h71
      refine TGo.iret dX0_cue_74 rfl ?_
      first
      | (exfalso; omega)
      | (refine hR.leaf W (((FrX.rf.i 23 rfl).i 2 rfl).tr hf71) hc71 (zi_2.trans ((za_2 rfl).trans ((za_2 rfl).trans rfl))) (zi_2.trans ((za_2 rfl).trans ((za_2 rfl).trans rfl))) (((StA.rf.a3 (by omega)).a3 (by omega)).i) ?_
         unfold zp_cue
         (repeat (first | rw [if_pos (by first | rfl | assumption | omega)] | rw [if_neg (by first | decide | assumption | omega)]))
         (try first | rfl | rw [zTell, if_neg (by omega)]))
    · refine TGo.al0 dX0_cue_27 rfl ?_
      refine TGo.bip (-5) dX0_cue_28 (by decide) ?_
      refine TGo.cS (csV1 (y2 := mX0_refuse) (t := 8) 1 rfl (hB 0 (by decide)) rfl rfl dX0_cue_30 q601 q603 qs1 okX0_refuse npX0_refuse rfl rfl) (kX0_refuse hB hc (by omega)) (fun v30 V30 h30 => ?_)
      obtain ⟨rfl, hc30, hf30⟩ := h30
      refine TGo.iret dX0_cue_33 rfl ?_
      first
      | (exfalso; omega)
      | (refine hR.leaf W (FrX.rf.tr hf30) hc30 ((zTell_2 rfl).trans rfl) ((zTell_2 rfl).trans rfl) (StA.rf.tell) ?_
         unfold zp_cue
         (repeat (first | rw [if_pos (by first | rfl | assumption | omega)] | rw [if_neg (by first | decide | assumption | omega)]))
         (try first | rfl | rw [zTell, if_neg (by omega)]))
  · refine TGo.al0 dX0_cue_9 rfl ?_
    refine TGo.icm1 dX0_cue_10 ?_
    refine TGo.cS (csV1 (y2 := mX0_refuse) (t := 8) 1 rfl (hB 0 (by decide)) rfl rfl dX0_cue_11 q601 q603 qs1 okX0_refuse npX0_refuse rfl rfl) (kX0_refuse hB hc (by omega)) (fun v11 V11 h11 => ?_)
    obtain ⟨rfl, hc11, hf11⟩ := h11
    refine TGo.iret dX0_cue_14 rfl ?_
    first
    | (exfalso; omega)
    | (refine hR.leaf W (FrX.rf.tr hf11) hc11 ((zTell_2 rfl).trans rfl) ((zTell_2 rfl).trans rfl) (StA.rf.tell) ?_
       unfold zp_cue
       (repeat (first | rw [if_pos (by first | rfl | assumption | omega)] | rw [if_neg (by first | decide | assumption | omega)]))
       (try first | rfl | rw [zTell, if_neg (by omega)]))
set_option maxHeartbeats 4000000 in
theorem kX0_end {E : ET} {sh : SHT} {nn : Nat × Nat} {V : VT} {B : Nat} {ow : Nat → Nat} {z : ZT} {n : Int} (hR : XR ow sh nn V B z) (W : RWZ (z.2 3)) (wt : 0 ≤ z.1 8 ∧ z.1 8 ≤ 400) (rn : R32 n) : TC E mX0_end 1 [.ref B, .int (iI n)] sh nn V (XP B nn (zp_end z n)) := by
  obtain ⟨hB, -, hc, -⟩ := id hR
  refine TC.intro [some (.ref B), some (.int (iI n))] rfl ?_
  refine TGo.il1 dX0_end_0 rfl ?_
  refine TGo.if_lt 12 dX0_end_1 (by decide) (by omega) (fun h1 => ?_) (fun h1 => ?_)
  · refine TGo.icm1 dX0_end_12 ?_
    refine TGo.iret dX0_end_13 rfl ?_
    first
    | (exfalso; omega)
    | (refine hR.same ?_
       unfold zp_end
       (repeat (first | rw [if_pos (by first | rfl | assumption | omega)] | rw [if_neg (by first | decide | assumption | omega)]))
       (try first | rfl))
  · refine TGo.il1 dX0_end_4 rfl ?_
    refine TGo.al0 dX0_end_5 rfl ?_
    refine TGo.getI (t := 8) 5 5 (hB 0 (by decide)) rfl fgX0_232_0 dX0_end_6 rfl rfl rfl ?_
    refine TGo.toz _ (hc.2.1.2.1) ?_
    refine TGo.icmp_le 14 dX0_end_9 (by decide) (by omega) (fun h9 => ?_) (fun h9 => ?_)
    · refine TGo.al0 dX0_end_14 rfl ?_
      refine TGo.il1 dX0_end_15 rfl ?_
      refine TGo.putI (t := 8) 5 5 (hB 0 (by decide)) rfl fpX0_232_0 dX0_end_16 rfl rfl rfl ?_
      refine TGo.il1 dX0_end_19 rfl ?_
      refine TGo.iret dX0_end_20 rfl ?_
      first
      | (exfalso; omega)
      | (refine hR.leaf W (FrX.rf.b) (hc.tp) (zi_2.trans rfl) (zi_2.trans rfl) (StA.rf.i) ?_
         unfold zp_end
         (repeat (first | rw [if_pos (by first | rfl | assumption | omega)] | rw [if_neg (by first | decide | assumption | omega)]))
         (try first | rfl))
    · refine TGo.icm1 dX0_end_12 ?_
      refine TGo.iret dX0_end_13 rfl ?_
      first
      | (exfalso; omega)
      | (refine hR.same ?_
         unfold zp_end
         (repeat (first | rw [if_pos (by first | rfl | assumption | omega)] | rw [if_neg (by first | decide | assumption | omega)]))
         (try first | rfl))
set_option maxHeartbeats 4000000 in
theorem kX0_terms {E : ET} {sh : SHT} {nn : Nat × Nat} {V : VT} {B : Nat} {ow : Nat → Nat} {z : ZT} {w v : Int} (hR : XR ow sh nn V B z) (W : RWZ (z.2 3))  (rw : R32 w) (rv : R32 v) : TC E mX0_terms 2 [.ref B, .int (iI w), .int (iI v)] sh nn V (XP B nn (zp_terms z w v)) := by
  obtain ⟨hB, -, hc, -⟩ := id hR
  have w7 := W.1.2.2.2.2.2.2.2.1
  have w8 := W.1.2.2.2.2.2.2.2.2.1
  have w9 := W.1.2.2.2.2.2.2.2.2.2
  refine TC.intro [some (.ref B), some (.int (iI w)), some (.int (iI v)), none] rfl ?_
  refine TGo.il1 dX0_terms_0 rfl ?_
  refine TGo.ic0 dX0_terms_1 ?_
  refine TGo.ic2 dX0_terms_2 ?_
  refine TGo.cF (csS3 (y2 := mX0_in) 1 rfl dX0_terms_3 q598 q599 okX0_in npX0_in rfl rfl) (kX0_in (by omega) (by omega) (by omega)) ?_
  refine TGo.ifb_eq 39 dX0_terms_6 (by decide) (fun h6 => ?_) (fun h6 => ?_)
  · refine TGo.al0 dX0_terms_39 rfl ?_
    refine TGo.icm1 dX0_terms_40 ?_
    refine TGo.cS (csV1 (y2 := mX0_refuse) (t := 8) 1 rfl (hB 0 (by decide)) rfl rfl dX0_terms_41 q601 q603 qs1 okX0_refuse npX0_refuse rfl rfl) (kX0_refuse hB hc (by omega)) (fun v41 V41 h41 => ?_)
    obtain ⟨rfl, hc41, hf41⟩ := h41
    refine TGo.iret dX0_terms_44 rfl ?_
    first
    | (exfalso; omega)
    | (refine hR.leaf W (FrX.rf.tr hf41) hc41 ((zTell_2 rfl).trans rfl) ((zTell_2 rfl).trans rfl) (StA.rf.tell) ?_
       unfold zp_terms
       (repeat (first | rw [if_pos (by first | rfl | assumption | omega)] | rw [if_neg (by first | decide | assumption | omega)]))
       (try first | rfl))
  · refine TGo.il2 dX0_terms_9 rfl ?_
    refine TGo.ic0 dX0_terms_10 ?_
    refine TGo.il1 dX0_terms_11 rfl ?_
    refine TGo.if_ne 21 dX0_terms_12 (by decide) (by omega) (fun h12 => ?_) (fun h12 => ?_)
    · refine TGo.il1 dX0_terms_21 rfl ?_
      refine TGo.ic1 dX0_terms_22 ?_
      refine TGo.icmp_ne 31 dX0_terms_23 (by decide) (by omega) (fun h23 => ?_) (fun h23 => ?_)
      · refine TGo.bip 100 dX0_terms_31 (by decide) ?_
        refine TGo.cF (csS3 (y2 := mX0_in) 1 rfl dX0_terms_33 q598 q599 okX0_in npX0_in rfl rfl) (kX0_in (by omega) (by omega) (by omega)) ?_
        refine TGo.ifb_ne 45 dX0_terms_36 (by decide) (fun h36 => ?_) (fun h36 => ?_)
        · refine TGo.al0 dX0_terms_45 rfl ?_
          refine TGo.getS (t := 8) 2 2 (B + 2) (hB 0 (by decide)) rfl fgX0_16_0 dX0_terms_46 rfl rfl rfl ?_
          refine TGo.getS (t := 9) 4 4 (B + 25) (hB 2 (by decide)) rfl fgX0_154_1 dX0_terms_49 rfl rfl rfl ?_
          refine TGo.il1 dX0_terms_52 rfl ?_
          refine TGo.iald dX0_terms_53 (hB 25 (by decide)) (by omega) rfl ?_
          refine TGo.toz _ (hc.1.2.2.2.2.2.1 _ (by omega) (by omega)) ?_
          refine TGo.is3 dX0_terms_54 rfl rfl ?_
          refine TGo.al0 dX0_terms_55 rfl ?_
          refine TGo.getS (t := 8) 2 2 (B + 2) (hB 0 (by decide)) rfl fgX0_16_0 dX0_terms_56 rfl rfl rfl ?_
          refine TGo.getS (t := 9) 4 4 (B + 25) (hB 2 (by decide)) rfl fgX0_154_1 dX0_terms_59 rfl rfl rfl ?_
          refine TGo.il1 dX0_terms_62 rfl ?_
          refine TGo.il2 dX0_terms_63 rfl ?_
          refine TGo.iast dX0_terms_64 (hB 25 (by decide)) (by omega) rfl ?_
          refine TGo.al0 dX0_terms_65 rfl ?_
          refine TGo.il3 dX0_terms_66 rfl ?_
          refine TGo.cS (csV1 (y2 := mX0_done) (t := 8) 1 rfl (hB 0 (by decide)) rfl rfl dX0_terms_67 q695 q697 qs3 okX0_done npX0_done rfl rfl) (kX0_done hB (hc.te (by omega))) (fun v67 V67 h67 => ?_)
          obtain ⟨rfl, hc67, hf67⟩ := h67
          refine TGo.iret dX0_terms_70 rfl ?_
          first
          | (exfalso; omega)
          | (refine hR.leaf W ((FrX.rf.i 25 rfl).tr hf67) hc67 (zi_2.trans ((za_2 rfl).trans rfl)) (zi_2.trans ((za_2 rfl).trans rfl)) ((StA.rf.a3 (by omega)).i) ?_
             unfold zp_terms
             (repeat (first | rw [if_pos (by first | rfl | assumption | omega)] | rw [if_neg (by first | decide | assumption | omega)]))
             (try first | rfl))
        · refine TGo.al0 dX0_terms_39 rfl ?_
          refine TGo.icm1 dX0_terms_40 ?_
          refine TGo.cS (csV1 (y2 := mX0_refuse) (t := 8) 1 rfl (hB 0 (by decide)) rfl rfl dX0_terms_41 q601 q603 qs1 okX0_refuse npX0_refuse rfl rfl) (kX0_refuse hB hc (by omega)) (fun v41 V41 h41 => ?_)
          obtain ⟨rfl, hc41, hf41⟩ := h41
          refine TGo.iret dX0_terms_44 rfl ?_
          first
          | (exfalso; omega)
          | (refine hR.leaf W (FrX.rf.tr hf41) hc41 ((zTell_2 rfl).trans rfl) ((zTell_2 rfl).trans rfl) (StA.rf.tell) ?_
             unfold zp_terms
             (repeat (first | rw [if_pos (by first | rfl | assumption | omega)] | rw [if_neg (by first | decide | assumption | omega)]))
             (try first | rfl))
      · refine TGo.bip 9 dX0_terms_26 (by decide) ?_
        refine TGo.goto 33 dX0_terms_28 (by decide) ?_
        refine TGo.cF (csS3 (y2 := mX0_in) 1 rfl dX0_terms_33 q598 q599 okX0_in npX0_in rfl rfl) (kX0_in (by omega) (by omega) (by omega)) ?_
        refine TGo.ifb_ne 45 dX0_terms_36 (by decide) (fun h36 => ?_) (fun h36 => ?_)
        · refine TGo.al0 dX0_terms_45 rfl ?_
          refine TGo.getS (t := 8) 2 2 (B + 2) (hB 0 (by decide)) rfl fgX0_16_0 dX0_terms_46 rfl rfl rfl ?_
          refine TGo.getS (t := 9) 4 4 (B + 25) (hB 2 (by decide)) rfl fgX0_154_1 dX0_terms_49 rfl rfl rfl ?_
          refine TGo.il1 dX0_terms_52 rfl ?_
          refine TGo.iald dX0_terms_53 (hB 25 (by decide)) (by omega) rfl ?_
          refine TGo.toz _ (hc.1.2.2.2.2.2.1 _ (by omega) (by omega)) ?_
          refine TGo.is3 dX0_terms_54 rfl rfl ?_
          refine TGo.al0 dX0_terms_55 rfl ?_
          refine TGo.getS (t := 8) 2 2 (B + 2) (hB 0 (by decide)) rfl fgX0_16_0 dX0_terms_56 rfl rfl rfl ?_
          refine TGo.getS (t := 9) 4 4 (B + 25) (hB 2 (by decide)) rfl fgX0_154_1 dX0_terms_59 rfl rfl rfl ?_
          refine TGo.il1 dX0_terms_62 rfl ?_
          refine TGo.il2 dX0_terms_63 rfl ?_
          refine TGo.iast dX0_terms_64 (hB 25 (by decide)) (by omega) rfl ?_
          refine TGo.al0 dX0_terms_65 rfl ?_
          refine TGo.il3 dX0_terms_66 rfl ?_
          refine TGo.cS (csV1 (y2 := mX0_done) (t := 8) 1 rfl (hB 0 (by decide)) rfl rfl dX0_terms_67 q695 q697 qs3 okX0_done npX0_done rfl rfl) (kX0_done hB (hc.te (by omega))) (fun v67 V67 h67 => ?_)
          obtain ⟨rfl, hc67, hf67⟩ := h67
          refine TGo.iret dX0_terms_70 rfl ?_
          first
          | (exfalso; omega)
          | (refine hR.leaf W ((FrX.rf.i 25 rfl).tr hf67) hc67 (zi_2.trans ((za_2 rfl).trans rfl)) (zi_2.trans ((za_2 rfl).trans rfl)) ((StA.rf.a3 (by omega)).i) ?_
             unfold zp_terms
             (repeat (first | rw [if_pos (by first | rfl | assumption | omega)] | rw [if_neg (by first | decide | assumption | omega)]))
             (try first | rfl))
        · refine TGo.al0 dX0_terms_39 rfl ?_
          refine TGo.icm1 dX0_terms_40 ?_
          refine TGo.cS (csV1 (y2 := mX0_refuse) (t := 8) 1 rfl (hB 0 (by decide)) rfl rfl dX0_terms_41 q601 q603 qs1 okX0_refuse npX0_refuse rfl rfl) (kX0_refuse hB hc (by omega)) (fun v41 V41 h41 => ?_)
          obtain ⟨rfl, hc41, hf41⟩ := h41
          refine TGo.iret dX0_terms_44 rfl ?_
          first
          | (exfalso; omega)
          | (refine hR.leaf W (FrX.rf.tr hf41) hc41 ((zTell_2 rfl).trans rfl) ((zTell_2 rfl).trans rfl) (StA.rf.tell) ?_
             unfold zp_terms
             (repeat (first | rw [if_pos (by first | rfl | assumption | omega)] | rw [if_neg (by first | decide | assumption | omega)]))
             (try first | rfl))
    · refine TGo.sip 300 dX0_terms_15 (by decide) ?_
      refine TGo.goto 33 dX0_terms_18 (by decide) ?_
      refine TGo.cF (csS3 (y2 := mX0_in) 1 rfl dX0_terms_33 q598 q599 okX0_in npX0_in rfl rfl) (kX0_in (by omega) (by omega) (by omega)) ?_
      refine TGo.ifb_ne 45 dX0_terms_36 (by decide) (fun h36 => ?_) (fun h36 => ?_)
      · refine TGo.al0 dX0_terms_45 rfl ?_
        refine TGo.getS (t := 8) 2 2 (B + 2) (hB 0 (by decide)) rfl fgX0_16_0 dX0_terms_46 rfl rfl rfl ?_
        refine TGo.getS (t := 9) 4 4 (B + 25) (hB 2 (by decide)) rfl fgX0_154_1 dX0_terms_49 rfl rfl rfl ?_
        refine TGo.il1 dX0_terms_52 rfl ?_
        refine TGo.iald dX0_terms_53 (hB 25 (by decide)) (by omega) rfl ?_
        refine TGo.toz _ (hc.1.2.2.2.2.2.1 _ (by omega) (by omega)) ?_
        refine TGo.is3 dX0_terms_54 rfl rfl ?_
        refine TGo.al0 dX0_terms_55 rfl ?_
        refine TGo.getS (t := 8) 2 2 (B + 2) (hB 0 (by decide)) rfl fgX0_16_0 dX0_terms_56 rfl rfl rfl ?_
        refine TGo.getS (t := 9) 4 4 (B + 25) (hB 2 (by decide)) rfl fgX0_154_1 dX0_terms_59 rfl rfl rfl ?_
        refine TGo.il1 dX0_terms_62 rfl ?_
        refine TGo.il2 dX0_terms_63 rfl ?_
        refine TGo.iast dX0_terms_64 (hB 25 (by decide)) (by omega) rfl ?_
        refine TGo.al0 dX0_terms_65 rfl ?_
        refine TGo.il3 dX0_terms_66 rfl ?_
        refine TGo.cS (csV1 (y2 := mX0_done) (t := 8) 1 rfl (hB 0 (by decide)) rfl rfl dX0_terms_67 q695 q697 qs3 okX0_done npX0_done rfl rfl) (kX0_done hB (hc.te (by omega))) (fun v67 V67 h67 => ?_)
        obtain ⟨rfl, hc67, hf67⟩ := h67
        refine TGo.iret dX0_terms_70 rfl ?_
        first
        | (exfalso; omega)
        | (refine hR.leaf W ((FrX.rf.i 25 rfl).tr hf67) hc67 (zi_2.trans ((za_2 rfl).trans rfl)) (zi_2.trans ((za_2 rfl).trans rfl)) ((StA.rf.a3 (by omega)).i) ?_
           unfold zp_terms
           (repeat (first | rw [if_pos (by first | rfl | assumption | omega)] | rw [if_neg (by first | decide | assumption | omega)]))
           (try first | rfl))
      · refine TGo.al0 dX0_terms_39 rfl ?_
        refine TGo.icm1 dX0_terms_40 ?_
        refine TGo.cS (csV1 (y2 := mX0_refuse) (t := 8) 1 rfl (hB 0 (by decide)) rfl rfl dX0_terms_41 q601 q603 qs1 okX0_refuse npX0_refuse rfl rfl) (kX0_refuse hB hc (by omega)) (fun v41 V41 h41 => ?_)
        obtain ⟨rfl, hc41, hf41⟩ := h41
        refine TGo.iret dX0_terms_44 rfl ?_
        first
        | (exfalso; omega)
        | (refine hR.leaf W (FrX.rf.tr hf41) hc41 ((zTell_2 rfl).trans rfl) ((zTell_2 rfl).trans rfl) (StA.rf.tell) ?_
           unfold zp_terms
           (repeat (first | rw [if_pos (by first | rfl | assumption | omega)] | rw [if_neg (by first | decide | assumption | omega)]))
           (try first | rfl))
theorem zT0 {z : ZT} {c : Int} (h : 0 ≤ c) : zTell z c = zi z 1 0 := if_neg (by omega)
set_option maxHeartbeats 4000000 in
theorem kX2_isHole {E : ET} {sh : SHT} {nn : Nat × Nat} {V : VT} {S : Nat} {g : Int → Int} {r : Int} (hS : ScS sh S) (hv : ScV V S g) (hr : 0 ≤ r ∧ r < 36) (hg : cOK (g r)) : TF E mX2_isHole 1 [.ref S, .int (iI r)] sh nn V (.int (iI (bZ (g r = -1)))) := by
  have hg : -1 ≤ g r ∧ g r < 60 := hg
  have hw : -1 ≤ wZ (g r) ∧ wZ (g r) ≤ 9 ∧ (wZ (g r) = -1 ↔ g r = -1) := by unfold wZ; split <;> omega
  refine TC.intro [some (.ref S), some (.int (iI r))] rfl ?_
  refine TGo.al0 dX2_isHole_0 rfl ?_
  refine TGo.getS (t := 10) 0 0 (S + 1) hS.1 rfl fgX2_9_2 dX2_isHole_1 rfl rfl rfl ?_
  refine TGo.il1 dX2_isHole_4 rfl ?_
  refine TGo.iald dX2_isHole_5 hS.2.1 (by omega) rfl ?_
  refine TGo.toz _ ((hv _ (by omega) (by omega)).1) ?_
  refine TGo.icm1 dX2_isHole_6 ?_
  refine TGo.icmp_ne 14 dX2_isHole_7 (by decide) (by omega) (fun h7 => ?_) (fun h7 => ?_)
  · refine TGo.ic0 dX2_isHole_14 ?_
    refine TGo.zret dX2_isHole_15 rfl (by first | exact Or.inl rfl | exact Or.inr rfl | exact bZ_or _ | assumption) ?_
    refine leafF ?_
    first | exact (bZ_t (by omega)).symm | exact (bZ_f (by omega)).symm
  · refine TGo.ic1 dX2_isHole_10 ?_
    refine TGo.goto 15 dX2_isHole_11 (by decide) ?_
    refine TGo.zret dX2_isHole_15 rfl (by first | exact Or.inl rfl | exact Or.inr rfl | exact bZ_or _ | assumption) ?_
    refine leafF ?_
    first | exact (bZ_t (by omega)).symm | exact (bZ_f (by omega)).symm
set_option maxHeartbeats 4000000 in
theorem kX2_next {E : ET} {sh : SHT} {nn : Nat × Nat} {V : VT} {S : Nat} {g : Int → Int} {r : Int} (hS : ScS sh S) (hv : ScV V S g) (hr : 0 ≤ r ∧ r < 36) (hg : cOK (g r)) : TF E mX2_next 2 [.ref S, .int (iI r)] sh nn V (.int (iI (nZ (g r)))) := by
  refine TC.intro [some (.ref S), some (.int (iI r))] rfl ?_
  refine TGo.al0 dX2_next_0 rfl ?_
  refine TGo.il1 dX2_next_1 rfl ?_
  refine TGo.cF (csV1 (y2 := mX2_isHole) (t := 10) 1 rfl hS.1 rfl rfl dX2_next_2 q744 q745 q746 okX2_isHole npX2_isHole rfl rfl) (kX2_isHole hS hv hr hg) ?_
  refine TGo.ifb_eq 12 dX2_next_5 (by decide) (fun h5 => ?_) (fun h5 => ?_)
  · refine TGo.al0 dX2_next_12 rfl ?_
    refine TGo.getS (t := 10) 1 1 (S + 2) hS.1 rfl fgX2_15_2 dX2_next_13 rfl rfl rfl ?_
    refine TGo.il1 dX2_next_16 rfl ?_
    refine TGo.iald dX2_next_17 hS.2.2 (by omega) rfl ?_
    refine TGo.toz (nZ (g r)) (by first | exact (by rw [nZ, if_pos (by assumption)]) | exact (hv r hr.1 hr.2).2 (by assumption)) ?_
    refine TGo.iret dX2_next_18 rfl ?_
    exact ⟨rfl, rfl, rfl, rfl⟩
  · refine TGo.icm1 dX2_next_8 ?_
    refine TGo.goto 18 dX2_next_9 (by decide) ?_
    refine TGo.toz (nZ (g r)) (by first | exact (by rw [nZ, if_pos (by assumption)]) | exact (hv r hr.1 hr.2).2 (by assumption)) ?_
    refine TGo.iret dX2_next_18 rfl ?_
    exact ⟨rfl, rfl, rfl, rfl⟩
set_option maxHeartbeats 4000000 in
theorem kX2_says {E : ET} {sh : SHT} {nn : Nat × Nat} {V : VT} {S : Nat} {r w n : Int} (hS : ScS sh S) (hr : 0 ≤ r ∧ r < 36) : TW E mX2_says 1 [.ref S, .int (iI r), .int (iI w), .int (iI n)] sh nn V none (vI (vI V (S + 1) r w) (S + 2) r n) := by
  refine TC.intro [some (.ref S), some (.int (iI r)), some (.int (iI w)), some (.int (iI n))] rfl ?_
  refine TGo.al0 dX2_says_0 rfl ?_
  refine TGo.getS (t := 10) 0 0 (S + 1) hS.1 rfl fgX2_9_2 dX2_says_1 rfl rfl rfl ?_
  refine TGo.il1 dX2_says_4 rfl ?_
  refine TGo.il2 dX2_says_5 rfl ?_
  refine TGo.iast dX2_says_6 hS.2.1 (by omega) rfl ?_
  refine TGo.al0 dX2_says_7 rfl ?_
  refine TGo.getS (t := 10) 1 1 (S + 2) hS.1 rfl fgX2_15_2 dX2_says_8 rfl rfl rfl ?_
  refine TGo.il1 dX2_says_11 rfl ?_
  refine TGo.il3 dX2_says_12 rfl ?_
  refine TGo.iast dX2_says_13 hS.2.2 (by omega) rfl ?_
  refine TGo.vret dX2_says_14 rfl ?_
  exact ⟨rfl, rfl, rfl, rfl⟩
set_option maxHeartbeats 4000000 in
theorem kX2_hushes {E : ET} {sh : SHT} {nn : Nat × Nat} {V : VT} {S : Nat} {g : Int → Int} {r : Int} (hS : ScS sh S) (hv : ScV V S g) (hr : 0 ≤ r ∧ r < 36) : TW E mX2_hushes 1 [.ref S, .int (iI r)] sh nn V (some (.int (iI (wZ (g r))))) (vI V (S + 1) r (-1)) := by
  refine TC.intro [some (.ref S), some (.int (iI r)), none] rfl ?_
  refine TGo.al0 dX2_hushes_0 rfl ?_
  refine TGo.getS (t := 10) 0 0 (S + 1) hS.1 rfl fgX2_9_2 dX2_hushes_1 rfl rfl rfl ?_
  refine TGo.il1 dX2_hushes_4 rfl ?_
  refine TGo.iald dX2_hushes_5 hS.2.1 (by omega) rfl ?_
  refine TGo.toz _ ((hv _ (by omega) (by omega)).1) ?_
  refine TGo.is2 dX2_hushes_6 rfl rfl ?_
  refine TGo.al0 dX2_hushes_7 rfl ?_
  refine TGo.getS (t := 10) 0 0 (S + 1) hS.1 rfl fgX2_9_2 dX2_hushes_8 rfl rfl rfl ?_
  refine TGo.il1 dX2_hushes_11 rfl ?_
  refine TGo.icm1 dX2_hushes_12 ?_
  refine TGo.iast dX2_hushes_13 hS.2.1 (by omega) rfl ?_
  refine TGo.il2 dX2_hushes_14 rfl ?_
  refine TGo.iret dX2_hushes_15 rfl ?_
  exact ⟨rfl, rfl, rfl, rfl⟩
set_option maxHeartbeats 4000000 in
theorem kX0_told {E : ET} {sh : SHT} {nn : Nat × Nat} {V : VT} {S : Nat} {g : Int → Int} {r w : Int} (hS : ScS sh S) (hv : ScV V S g) (hr : 0 ≤ r ∧ r < 36) (hg : cOK (g r)) (hw : w = 0 ∨ w = 1) : TF E mX0_told 3 [.ref S, .int (iI r), .int (iI w)] sh nn V (.int (iI (ofZ (g r) w))) := by
  refine TC.intro [some (.ref S), some (.int (iI r)), some (.int (iI w))] rfl ?_
  refine TGo.il2 dX0_told_0 rfl ?_
  refine TGo.if_ne 13 dX0_told_1 (by decide) (by omega) (fun h1 => ?_) (fun h1 => ?_)
  · refine TGo.al0 dX0_told_13 rfl ?_
    refine TGo.il1 dX0_told_14 rfl ?_
    refine TGo.cF (csV1 (y2 := mX2_next) (t := 10) 2 rfl hS.1 rfl rfl dX0_told_15 q740 q741 q742 okX2_next npX2_next rfl rfl) (kX2_next hS hv hr hg) ?_
    refine TGo.iret dX0_told_18 rfl ?_
    refine leafF ?_
    unfold ofZ
    first | rw [if_pos (by assumption)] | rw [if_neg (by assumption)]
  · refine TGo.al0 dX0_told_4 rfl ?_
    refine TGo.getS (t := 10) 0 0 (S + 1) hS.1 rfl fgX0_187_2 dX0_told_5 rfl rfl rfl ?_
    refine TGo.il1 dX0_told_8 rfl ?_
    refine TGo.iald dX0_told_9 hS.2.1 (by omega) rfl ?_
    refine TGo.toz _ ((hv _ (by omega) (by omega)).1) ?_
    refine TGo.goto 18 dX0_told_10 (by decide) ?_
    refine TGo.iret dX0_told_18 rfl ?_
    refine leafF ?_
    unfold ofZ
    first | rw [if_pos (by assumption)] | rw [if_neg (by assumption)]
/-- part p's script -/
theorem XSh.sc {B : Nat} {sh : SHT} (h : XSh B sh) {p : Nat} (hp : p < 6) : ScS sh (B + (4 + 3 * p)) := by
  rcases (show p = 0 ∨ p = 1 ∨ p = 2 ∨ p = 3 ∨ p = 4 ∨ p = 5 by omega) with e | e | e | e | e | e <;> subst e
  · exact ⟨h 4 (by decide), h 5 (by decide), h 6 (by decide)⟩
  · exact ⟨h 7 (by decide), h 8 (by decide), h 9 (by decide)⟩
  · exact ⟨h 10 (by decide), h 11 (by decide), h 12 (by decide)⟩
  · exact ⟨h 13 (by decide), h 14 (by decide), h 15 (by decide)⟩
  · exact ⟨h 16 (by decide), h 17 (by decide), h 18 (by decide)⟩
  · exact ⟨h 19 (by decide), h 20 (by decide), h 21 (by decide)⟩
theorem XC.scr {V : VT} {B : Nat} {z : ZT} (h : XC V B z) {p : Nat} (hp : p < 6) (hf : (p : Int) < z.2 3 0) : ScV V (B + (4 + 3 * p)) (fun r => z.2 3 (22 + 36 * p + r)) := by
  have q := h.1.2.2.2.2.2.2 p hp hf
  rw [show B + 2 + 2 + 3 * p = B + (4 + 3 * p) by omega] at q
  exact q
theorem XC.srf {V : VT} {B : Nat} {z : ZT} (h : XC V B z) {p : Int} (hp : 0 ≤ p ∧ p < 6) : V.2.2 (B + 3) p = some (B + (4 + 3 * p.toNat)) := by
  have q := h.1.1 p.toNat (by omega)
  rw [Int.toNat_of_nonneg hp.1] at q
  rw [show B + (4 + 3 * p.toNat) = B + 2 + 2 + 3 * p.toNat by omega]
  exact q
set_option maxHeartbeats 4000000 in
theorem kX0_of {E : ET} {sh : SHT} {nn : Nat × Nat} {V : VT} {B : Nat} {ow : Nat → Nat} {z : ZT} {p a b w : Int} (hR : XR ow sh nn V B z) (W : RWZ (z.2 3))  (rp : R32 p) (ra : R32 a) (rb : R32 b) (rw : R32 w) : TC E mX0_of 4 [.ref B, .int (iI p), .int (iI a), .int (iI b), .int (iI w)] sh nn V (XP B nn (zp_of z p a b w)) := by
  obtain ⟨hB, -, hc, -⟩ := id hR
  have w0 := W.1.1
  have hS (hp : 0 ≤ p ∧ p < z.2 3 0) : ScS sh (B + (4 + 3 * p.toNat)) := hB.sc (by omega)
  have hsv (hp : 0 ≤ p ∧ p < z.2 3 0) : ScV V (B + (4 + 3 * p.toNat)) (fun r => z.2 3 (22 + 36 * p + r)) := by have q := hc.scr (p := p.toNat) (by omega) (by omega); rw [Int.toNat_of_nonneg hp.1] at q; exact q
  refine TC.intro [some (.ref B), some (.int (iI p)), some (.int (iI a)), some (.int (iI b)), some (.int (iI w))] rfl ?_
  refine TGo.al0 dX0_of_0 rfl ?_
  refine TGo.il1 dX0_of_1 rfl ?_
  refine TGo.cF (csV1 (y2 := mX0_isPart) (t := 8) 2 rfl (hB 0 (by decide)) rfl rfl dX0_of_2 q721 q723 qs4 okX0_isPart npX0_isPart rfl rfl) (kX0_isPart hB hc w0 (by omega)) ?_
  refine TGo.ifb_eq 49 dX0_of_5 (by decide) (fun h5 => ?_) (fun h5 => ?_)
  · refine TGo.icm1 dX0_of_49 ?_
    refine TGo.iret dX0_of_50 rfl ?_
    first
    | (exfalso; omega)
    | (refine hR.same ?_
       unfold zp_of
       first
       | (rw [if_pos ⟨by assumption, by assumption, by assumption⟩, show 22 + 36 * p + 6 * a + b = 22 + 36 * p + (6 * a + b) by omega])
       | (rw [if_neg (fun q => by first | exact absurd q.1 (by assumption) | exact absurd q.2.1 (by assumption) | exact absurd q.2.2 (by assumption))]))
  · refine TGo.il2 dX0_of_8 rfl ?_
    refine TGo.il3 dX0_of_9 rfl ?_
    refine TGo.cF (csS2 (y2 := mX0_isRule) 2 rfl dX0_of_10 q715 q716 okX0_isRule npX0_isRule rfl rfl) (kX0_isRule (by omega) (by omega)) ?_
    refine TGo.ifb_eq 49 dX0_of_13 (by decide) (fun h13 => ?_) (fun h13 => ?_)
    · refine TGo.icm1 dX0_of_49 ?_
      refine TGo.iret dX0_of_50 rfl ?_
      first
      | (exfalso; omega)
      | (refine hR.same ?_
         unfold zp_of
         first
         | (rw [if_pos ⟨by assumption, by assumption, by assumption⟩, show 22 + 36 * p + 6 * a + b = 22 + 36 * p + (6 * a + b) by omega])
         | (rw [if_neg (fun q => by first | exact absurd q.1 (by assumption) | exact absurd q.2.1 (by assumption) | exact absurd q.2.2 (by assumption))]))
    · refine TGo.il dX0_of_16 rfl ?_
      refine TGo.ic0 dX0_of_18 ?_
      refine TGo.ic1 dX0_of_19 ?_
      refine TGo.cF (csS3 (y2 := mX0_in) 1 rfl dX0_of_20 q598 q599 okX0_in npX0_in rfl rfl) (kX0_in (by omega) (by omega) (by omega)) ?_
      refine TGo.ifb_eq 49 dX0_of_23 (by decide) (fun h23 => ?_) (fun h23 => ?_)
      · refine TGo.icm1 dX0_of_49 ?_
        refine TGo.iret dX0_of_50 rfl ?_
        first
        | (exfalso; omega)
        | (refine hR.same ?_
           unfold zp_of
           first
           | (rw [if_pos ⟨by assumption, by assumption, by assumption⟩, show 22 + 36 * p + 6 * a + b = 22 + 36 * p + (6 * a + b) by omega])
           | (rw [if_neg (fun q => by first | exact absurd q.1 (by assumption) | exact absurd q.2.1 (by assumption) | exact absurd q.2.2 (by assumption))]))
      · refine TGo.al0 dX0_of_26 rfl ?_
        refine TGo.getS (t := 8) 2 2 (B + 2) (hB 0 (by decide)) rfl fgX0_16_0 dX0_of_27 rfl rfl rfl ?_
        refine TGo.getS (t := 9) 0 0 (B + 3) (hB 2 (by decide)) rfl fgX0_170_1 dX0_of_30 rfl rfl rfl ?_
        refine TGo.il1 dX0_of_33 rfl ?_
        refine TGo.aaldSq (B + (4 + 3 * p.toNat)) dX0_of_34 (hB 3 (by decide)) (by omega) rfl (hc.srf (by omega)) ?_
        refine TGo.bip 6 dX0_of_35 (by decide) ?_
        refine TGo.il2 dX0_of_37 rfl ?_
        refine TGo.imul dX0_of_38 ?_
        refine TGo.il3 dX0_of_39 rfl ?_
        refine TGo.iadd dX0_of_40 ?_
        refine TGo.il dX0_of_41 rfl ?_
        refine TGo.cF (csS3 (y2 := mX0_told) 3 rfl dX0_of_43 q737 q738 okX0_told npX0_told rfl rfl) (kX0_told (hS (by assumption)) (hsv (by assumption)) (by omega) (W.2.2.1 p (6 * a + b) (by omega) (by omega) (by omega) (by omega)) (by omega)) ?_
        refine TGo.goto 50 dX0_of_46 (by decide) ?_
        refine TGo.iret dX0_of_50 rfl ?_
        first
        | (exfalso; omega)
        | (refine hR.same ?_
           unfold zp_of
           first
           | (rw [if_pos ⟨by assumption, by assumption, by assumption⟩, show 22 + 36 * p + 6 * a + b = 22 + 36 * p + (6 * a + b) by omega])
           | (rw [if_neg (fun q => by first | exact absurd q.1 (by assumption) | exact absurd q.2.1 (by assumption) | exact absurd q.2.2 (by assumption))]))
set_option maxHeartbeats 4000000 in
theorem kX0_deed {E : ET} {sh : SHT} {nn : Nat × Nat} {V : VT} {B : Nat} {ow : Nat → Nat} {z : ZT} {r c w : Int} (hR : XR ow sh nn V B z) (W : RWZ (z.2 3))  (rr : R32 r) (rc : R32 c) (rw : R32 w) : TC E mX0_deed 2 [.ref B, .int (iI r), .int (iI c), .int (iI w)] sh nn V (XP B nn (zp_deed z r c w)) := by
  obtain ⟨hB, -, hc, -⟩ := id hR
  have w6 := W.1.2.2.2.2.2.2.1
  refine TC.intro [some (.ref B), some (.int (iI r)), some (.int (iI c)), some (.int (iI w))] rfl ?_
  refine TGo.il1 dX0_deed_0 rfl ?_
  refine TGo.ic0 dX0_deed_1 ?_
  refine TGo.ic3 dX0_deed_2 ?_
  refine TGo.cF (csS3 (y2 := mX0_in) 1 rfl dX0_deed_3 q598 q599 okX0_in npX0_in rfl rfl) (kX0_in (by omega) (by omega) (by omega)) ?_
  refine TGo.ifb_eq 28 dX0_deed_6 (by decide) (fun h6 => ?_) (fun h6 => ?_)
  · refine TGo.al0 dX0_deed_28 rfl ?_
    refine TGo.icm1 dX0_deed_29 ?_
    refine TGo.cS (csV1 (y2 := mX0_refuse) (t := 8) 1 rfl (hB 0 (by decide)) rfl rfl dX0_deed_30 q601 q603 qs1 okX0_refuse npX0_refuse rfl rfl) (kX0_refuse hB hc (by omega)) (fun v30 V30 h30 => ?_)
    obtain ⟨rfl, hc30, hf30⟩ := h30
    refine TGo.iret dX0_deed_33 rfl ?_
    first
    | (exfalso; omega)
    | (refine hR.leaf W (FrX.rf.tr hf30) hc30 ((zTell_2 rfl).trans rfl) ((zTell_2 rfl).trans rfl) (StA.rf.tell) ?_
       unfold zp_deed
       (repeat (first | rw [if_pos (by first | rfl | assumption | omega)] | rw [if_neg (by first | decide | assumption | omega)]))
       (try first | rfl | rw [zT0 (by omega), show 742 + (3 * z.2 3 6 + 1) = 742 + 3 * z.2 3 6 + 1 by omega, show 742 + (3 * z.2 3 6 + 2) = 742 + 3 * z.2 3 6 + 2 by omega]))
  · refine TGo.il2 dX0_deed_9 rfl ?_
    refine TGo.ic0 dX0_deed_10 ?_
    refine TGo.ic5 dX0_deed_11 ?_
    refine TGo.cF (csS3 (y2 := mX0_in) 1 rfl dX0_deed_12 q598 q599 okX0_in npX0_in rfl rfl) (kX0_in (by omega) (by omega) (by omega)) ?_
    refine TGo.ifb_eq 28 dX0_deed_15 (by decide) (fun h15 => ?_) (fun h15 => ?_)
    · refine TGo.al0 dX0_deed_28 rfl ?_
      refine TGo.icm1 dX0_deed_29 ?_
      refine TGo.cS (csV1 (y2 := mX0_refuse) (t := 8) 1 rfl (hB 0 (by decide)) rfl rfl dX0_deed_30 q601 q603 qs1 okX0_refuse npX0_refuse rfl rfl) (kX0_refuse hB hc (by omega)) (fun v30 V30 h30 => ?_)
      obtain ⟨rfl, hc30, hf30⟩ := h30
      refine TGo.iret dX0_deed_33 rfl ?_
      first
      | (exfalso; omega)
      | (refine hR.leaf W (FrX.rf.tr hf30) hc30 ((zTell_2 rfl).trans rfl) ((zTell_2 rfl).trans rfl) (StA.rf.tell) ?_
         unfold zp_deed
         (repeat (first | rw [if_pos (by first | rfl | assumption | omega)] | rw [if_neg (by first | decide | assumption | omega)]))
         (try first | rfl | rw [zT0 (by omega), show 742 + (3 * z.2 3 6 + 1) = 742 + 3 * z.2 3 6 + 1 by omega, show 742 + (3 * z.2 3 6 + 2) = 742 + 3 * z.2 3 6 + 2 by omega]))
    · refine TGo.il3 dX0_deed_18 rfl ?_
      refine TGo.ic0 dX0_deed_19 ?_
      refine TGo.bip 9 dX0_deed_20 (by decide) ?_
      refine TGo.cF (csS3 (y2 := mX0_in) 1 rfl dX0_deed_22 q598 q599 okX0_in npX0_in rfl rfl) (kX0_in (by omega) (by omega) (by omega)) ?_
      refine TGo.ifb_ne 34 dX0_deed_25 (by decide) (fun h25 => ?_) (fun h25 => ?_)
      · refine TGo.al0 dX0_deed_34 rfl ?_
        refine TGo.getS (t := 8) 2 2 (B + 2) (hB 0 (by decide)) rfl fgX0_16_0 dX0_deed_35 rfl rfl rfl ?_
        refine TGo.getI (t := 9) 10 10 (hB 2 (by decide)) rfl fgX0_482_1 dX0_deed_38 rfl rfl rfl ?_
        refine TGo.toz _ (hc.1.2.1.2.2.1) ?_
        refine TGo.bip 12 dX0_deed_41 (by decide) ?_
        refine TGo.icmp_ne 53 dX0_deed_43 (by decide) (by omega) (fun h43 => ?_) (fun h43 => ?_)
        · refine TGo.al0 dX0_deed_53 rfl ?_
          refine TGo.getS (t := 8) 2 2 (B + 2) (hB 0 (by decide)) rfl fgX0_16_0 dX0_deed_54 rfl rfl rfl ?_
          refine TGo.getS (t := 9) 3 3 (B + 24) (hB 2 (by decide)) rfl fgX0_485_1 dX0_deed_57 rfl rfl rfl ?_
          refine TGo.ic3 dX0_deed_60 ?_
          refine TGo.al0 dX0_deed_61 rfl ?_
          refine TGo.getS (t := 8) 2 2 (B + 2) (hB 0 (by decide)) rfl fgX0_16_0 dX0_deed_62 rfl rfl rfl ?_
          refine TGo.getI (t := 9) 10 10 (hB 2 (by decide)) rfl fgX0_482_1 dX0_deed_65 rfl rfl rfl ?_
          refine TGo.toz _ (hc.1.2.1.2.2.1) ?_
          refine TGo.imul dX0_deed_68 ?_
          refine TGo.il1 dX0_deed_69 rfl ?_
          refine TGo.iast dX0_deed_70 (hB 24 (by decide)) (by omega) rfl ?_
          refine TGo.al0 dX0_deed_71 rfl ?_
          refine TGo.getS (t := 8) 2 2 (B + 2) (hB 0 (by decide)) rfl fgX0_16_0 dX0_deed_72 rfl rfl rfl ?_
          refine TGo.getS (t := 9) 3 3 (B + 24) (hB 2 (by decide)) rfl fgX0_485_1 dX0_deed_75 rfl rfl rfl ?_
          refine TGo.ic3 dX0_deed_78 ?_
          refine TGo.al0 dX0_deed_79 rfl ?_
          refine TGo.getS (t := 8) 2 2 (B + 2) (hB 0 (by decide)) rfl fgX0_16_0 dX0_deed_80 rfl rfl rfl ?_
          refine TGo.getI (t := 9) 10 10 (hB 2 (by decide)) rfl fgX0_482_1 dX0_deed_83 rfl rfl rfl ?_
          refine TGo.toz _ ((u2_n (Or.inl (by omega))).trans (hc.1.2.1.2.2.1)) ?_
          refine TGo.imul dX0_deed_86 ?_
          refine TGo.ic1 dX0_deed_87 ?_
          refine TGo.iadd dX0_deed_88 ?_
          refine TGo.il2 dX0_deed_89 rfl ?_
          refine TGo.iast dX0_deed_90 (hB 24 (by decide)) (by omega) rfl ?_
          refine TGo.al0 dX0_deed_91 rfl ?_
          refine TGo.getS (t := 8) 2 2 (B + 2) (hB 0 (by decide)) rfl fgX0_16_0 dX0_deed_92 rfl rfl rfl ?_
          refine TGo.getS (t := 9) 3 3 (B + 24) (hB 2 (by decide)) rfl fgX0_485_1 dX0_deed_95 rfl rfl rfl ?_
          refine TGo.ic3 dX0_deed_98 ?_
          refine TGo.al0 dX0_deed_99 rfl ?_
          refine TGo.getS (t := 8) 2 2 (B + 2) (hB 0 (by decide)) rfl fgX0_16_0 dX0_deed_100 rfl rfl rfl ?_
          refine TGo.getI (t := 9) 10 10 (hB 2 (by decide)) rfl fgX0_482_1 dX0_deed_103 rfl rfl rfl ?_
          refine TGo.toz _ ((u2_n (Or.inl (by omega))).trans ((u2_n (Or.inl (by omega))).trans (hc.1.2.1.2.2.1))) ?_
          refine TGo.imul dX0_deed_106 ?_
          refine TGo.ic2 dX0_deed_107 ?_
          refine TGo.iadd dX0_deed_108 ?_
          refine TGo.il3 dX0_deed_109 rfl ?_
          refine TGo.iast dX0_deed_110 (hB 24 (by decide)) (by omega) rfl ?_
          refine TGo.al0 dX0_deed_111 rfl ?_
          refine TGo.getS (t := 8) 2 2 (B + 2) (hB 0 (by decide)) rfl fgX0_16_0 dX0_deed_112 rfl rfl rfl ?_
          refine TGo.dup dX0_deed_115 rfl ?_
          refine TGo.getI (t := 9) 10 10 (hB 2 (by decide)) rfl fgX0_482_1 dX0_deed_116 rfl rfl rfl ?_
          refine TGo.toz _ ((u2_n (Or.inl (by omega))).trans ((u2_n (Or.inl (by omega))).trans ((u2_n (Or.inl (by omega))).trans (hc.1.2.1.2.2.1)))) ?_
          refine TGo.ic1 dX0_deed_119 ?_
          refine TGo.iadd dX0_deed_120 ?_
          refine TGo.putI (t := 9) 10 10 (hB 2 (by decide)) rfl fpX0_482_1 dX0_deed_121 rfl rfl rfl ?_
          refine TGo.al0 dX0_deed_124 rfl ?_
          refine TGo.al0 dX0_deed_125 rfl ?_
          refine TGo.getS (t := 8) 2 2 (B + 2) (hB 0 (by decide)) rfl fgX0_16_0 dX0_deed_126 rfl rfl rfl ?_
          refine TGo.getI (t := 9) 10 10 (hB 2 (by decide)) rfl fgX0_482_1 dX0_deed_129 rfl rfl rfl ?_
          refine TGo.toz _ (u2_s) ?_
          refine TGo.cS (csV1 (y2 := mX0_done) (t := 8) 1 rfl (hB 0 (by decide)) rfl rfl dX0_deed_132 q695 q697 qs3 okX0_done npX0_done rfl rfl) (kX0_done hB ((((hc.de (by omega)).de (by omega)).de (by omega)).dm)) (fun v132 V132 h132 => ?_)
          obtain ⟨rfl, hc132, hf132⟩ := h132
          refine TGo.iret dX0_deed_135 rfl ?_
          first
          | (exfalso; omega)
          | (refine hR.leaf W (((((FrX.rf.i 24 rfl).i 24 rfl).i 24 rfl).i 2 rfl).tr hf132) hc132 (zi_2.trans ((za_2 rfl).trans ((za_2 rfl).trans ((za_2 rfl).trans ((za_2 rfl).trans rfl))))) (zi_2.trans ((za_2 rfl).trans ((za_2 rfl).trans ((za_2 rfl).trans ((za_2 rfl).trans rfl))))) (((((StA.rf.a3 (by omega)).a3 (by omega)).a3 (by omega)).a3 (by omega)).i) ?_
             unfold zp_deed
             (repeat (first | rw [if_pos (by first | rfl | assumption | omega)] | rw [if_neg (by first | decide | assumption | omega)]))
             (try first | rfl | rw [zT0 (by omega), show 742 + (3 * z.2 3 6 + 1) = 742 + 3 * z.2 3 6 + 1 by omega, show 742 + (3 * z.2 3 6 + 2) = 742 + 3 * z.2 3 6 + 2 by omega]))
        · refine TGo.al0 dX0_deed_46 rfl ?_
          refine TGo.bip (-5) dX0_deed_47 (by decide) ?_
          refine TGo.cS (csV1 (y2 := mX0_refuse) (t := 8) 1 rfl (hB 0 (by decide)) rfl rfl dX0_deed_49 q601 q603 qs1 okX0_refuse npX0_refuse rfl rfl) (kX0_refuse hB hc (by omega)) (fun v49 V49 h49 => ?_)
          obtain ⟨rfl, hc49, hf49⟩ := h49
          refine TGo.iret dX0_deed_52 rfl ?_
          first
          | (exfalso; omega)
          | (refine hR.leaf W (FrX.rf.tr hf49) hc49 ((zTell_2 rfl).trans rfl) ((zTell_2 rfl).trans rfl) (StA.rf.tell) ?_
             unfold zp_deed
             (repeat (first | rw [if_pos (by first | rfl | assumption | omega)] | rw [if_neg (by first | decide | assumption | omega)]))
             (try first | rfl | rw [zT0 (by omega), show 742 + (3 * z.2 3 6 + 1) = 742 + 3 * z.2 3 6 + 1 by omega, show 742 + (3 * z.2 3 6 + 2) = 742 + 3 * z.2 3 6 + 2 by omega]))
      · refine TGo.al0 dX0_deed_28 rfl ?_
        refine TGo.icm1 dX0_deed_29 ?_
        refine TGo.cS (csV1 (y2 := mX0_refuse) (t := 8) 1 rfl (hB 0 (by decide)) rfl rfl dX0_deed_30 q601 q603 qs1 okX0_refuse npX0_refuse rfl rfl) (kX0_refuse hB hc (by omega)) (fun v30 V30 h30 => ?_)
        obtain ⟨rfl, hc30, hf30⟩ := h30
        refine TGo.iret dX0_deed_33 rfl ?_
        first
        | (exfalso; omega)
        | (refine hR.leaf W (FrX.rf.tr hf30) hc30 ((zTell_2 rfl).trans rfl) ((zTell_2 rfl).trans rfl) (StA.rf.tell) ?_
           unfold zp_deed
           (repeat (first | rw [if_pos (by first | rfl | assumption | omega)] | rw [if_neg (by first | decide | assumption | omega)]))
           (try first | rfl | rw [zT0 (by omega), show 742 + (3 * z.2 3 6 + 1) = 742 + 3 * z.2 3 6 + 1 by omega, show 742 + (3 * z.2 3 6 + 2) = 742 + 3 * z.2 3 6 + 2 by omega]))
theorem XC.says {V : VT} {B : Nat} {z : ZT} {p : Nat} {r w n : Int} (h : XC V B z) (hp : p < 6) (hr : 0 ≤ r ∧ r < 36) (hw : 0 ≤ w ∧ w ≤ 9) (hn : 0 ≤ n ∧ n ≤ 5) : XC (vI (vI V (B + (4 + 3 * p) + 1) r w) (B + (4 + 3 * p) + 2) r n) B (za z 3 (22 + 36 * p + r) (6 * w + n)) := by
  obtain ⟨⟨n1, n2, n3, n4, n5, n6, n7⟩, s1, s2, s3, s4⟩ := h
  have k : ∀ a, (a ≠ B + (4 + 3 * p) + 1 ∧ a ≠ B + (4 + 3 * p) + 2) → (vI (vI V (B + (4 + 3 * p) + 1) r w) (B + (4 + 3 * p) + 2) r n).1 a = V.1 a := fun a ha => (u2_a ha.2).trans (u2_a ha.1)
  have f : ∀ i, i ≠ 22 + 36 * (p : Int) + r → (za z 3 (22 + 36 * p + r) (6 * w + n)).2 3 i = z.2 3 i := fun i hi => zf3 hi
  refine ⟨⟨n1, ?_, fun i i0 i1 => ?_, fun i i0 i1 => ?_, fun i i0 i1 => ?_, fun i i0 i1 => ?_, fun q hq6 hq r' r0 r1 => ?_⟩, ?_, fun j j0 j1 => ?_, fun i i0 i1 => ?_, fun h => ?_⟩
  · rw [k _ (by omega), f 0 (by omega), f 5 (by omega), f 6 (by omega), f 4 (by omega)]; exact n2
  · rw [k _ (by omega), f _ (by omega)]; exact n3 i i0 i1
  · rw [k _ (by omega), f _ (by omega)]; exact n4 i i0 i1
  · rw [k _ (by omega), f _ (by omega)]; exact n5 i i0 i1
  · rw [k _ (by omega), f _ (by omega)]; exact n6 i i0 i1
  · rw [f 0 (by omega)] at hq
    by_cases e : q = p
    · subst e
      by_cases e2 : r' = r
      · subst e2
        have ew : wZ (6 * w + n) = w := by unfold wZ; rw [if_neg (by omega)]; omega
        have en : nZ (6 * w + n) = n := by unfold nZ; rw [if_neg (by omega)]; omega
        show _ = wZ ((za z 3 (22 + 36 * q + r') (6 * w + n)).2 3 (22 + 36 * q + r')) ∧ (_ → _ = nZ ((za z 3 (22 + 36 * q + r') (6 * w + n)).2 3 (22 + 36 * q + r')))
        rw [zf3s, ew, en, show B + 2 + 2 + 3 * q + 1 = B + (4 + 3 * q) + 1 by omega, show B + 2 + 2 + 3 * q + 2 = B + (4 + 3 * q) + 2 by omega]
        exact ⟨(u2_n (Or.inl (by omega))).trans u2_s, fun _ => u2_s⟩
      · have v := n7 q hq6 hq r' r0 r1
        show _ = wZ ((za z 3 (22 + 36 * q + r) (6 * w + n)).2 3 (22 + 36 * q + r')) ∧ ((za z 3 (22 + 36 * q + r) (6 * w + n)).2 3 (22 + 36 * q + r') ≠ -1 → _ = nZ ((za z 3 (22 + 36 * q + r) (6 * w + n)).2 3 (22 + 36 * q + r')))
        rw [f _ (by omega)]
        rw [show B + 2 + 2 + 3 * q + 1 = B + (4 + 3 * q) + 1 by omega, show B + 2 + 2 + 3 * q + 2 = B + (4 + 3 * q) + 2 by omega] at v ⊢
        exact ⟨((u2_n (Or.inl (by omega))).trans (u2_n (Or.inr e2))).trans v.1, fun hh => ((u2_n (Or.inr e2)).trans (u2_n (Or.inl (by omega)))).trans (v.2 hh)⟩
    · have v := n7 q hq6 hq r' r0 r1
      show _ = wZ ((za z 3 (22 + 36 * p + r) (6 * w + n)).2 3 (22 + 36 * q + r')) ∧ ((za z 3 (22 + 36 * p + r) (6 * w + n)).2 3 (22 + 36 * q + r') ≠ -1 → _ = nZ ((za z 3 (22 + 36 * p + r) (6 * w + n)).2 3 (22 + 36 * q + r')))
      rw [f _ (by omega), k _ (by omega), k _ (by omega)]
      exact v
  · rw [k _ (by omega)]; exact s1
  · rw [k _ (by omega)]; exact (s2 j j0 j1)
  · rw [k _ (by omega)]; exact (s3 i i0 i1)
  · rw [k _ (by omega), k _ (by omega)]; exact s4 h
theorem XC.hush {V : VT} {B : Nat} {z : ZT} {p : Nat} {r : Int} (h : XC V B z) (hp : p < 6) (hr : 0 ≤ r ∧ r < 36) : XC (vI V (B + (4 + 3 * p) + 1) r (-1)) B (za z 3 (22 + 36 * p + r) (-1)) := by
  obtain ⟨⟨n1, n2, n3, n4, n5, n6, n7⟩, s1, s2, s3, s4⟩ := h
  have k : ∀ a, a ≠ B + (4 + 3 * p) + 1 → (vI V (B + (4 + 3 * p) + 1) r (-1)).1 a = V.1 a := fun a ha => u2_a ha
  have f : ∀ i, i ≠ 22 + 36 * (p : Int) + r → (za z 3 (22 + 36 * p + r) (-1)).2 3 i = z.2 3 i := fun i hi => zf3 hi
  refine ⟨⟨n1, ?_, fun i i0 i1 => ?_, fun i i0 i1 => ?_, fun i i0 i1 => ?_, fun i i0 i1 => ?_, fun q hq6 hq r' r0 r1 => ?_⟩, ?_, fun j j0 j1 => ?_, fun i i0 i1 => ?_, fun h => ?_⟩
  · rw [k _ (by omega), f 0 (by omega), f 5 (by omega), f 6 (by omega), f 4 (by omega)]; exact n2
  · rw [k _ (by omega), f _ (by omega)]; exact n3 i i0 i1
  · rw [k _ (by omega), f _ (by omega)]; exact n4 i i0 i1
  · rw [k _ (by omega), f _ (by omega)]; exact n5 i i0 i1
  · rw [k _ (by omega), f _ (by omega)]; exact n6 i i0 i1
  · rw [f 0 (by omega)] at hq
    have v := n7 q hq6 hq r' r0 r1
    by_cases e : q = p ∧ r' = r
    · obtain ⟨e, e2⟩ := e
      subst e; subst e2
      show _ = wZ ((za z 3 (22 + 36 * q + r') (-1)).2 3 (22 + 36 * q + r')) ∧ ((za z 3 (22 + 36 * q + r') (-1)).2 3 (22 + 36 * q + r') ≠ -1 → _)
      rw [zf3s, show B + 2 + 2 + 3 * q + 1 = B + (4 + 3 * q) + 1 by omega]
      exact ⟨u2_s, fun hh => absurd rfl hh⟩
    · show _ = wZ ((za z 3 (22 + 36 * p + r) (-1)).2 3 (22 + 36 * q + r')) ∧ ((za z 3 (22 + 36 * p + r) (-1)).2 3 (22 + 36 * q + r') ≠ -1 → _ = nZ ((za z 3 (22 + 36 * p + r) (-1)).2 3 (22 + 36 * q + r')))
      rw [f _ (by omega), k (B + 2 + 2 + 3 * q + 2) (by omega)]
      refine ⟨?_, v.2⟩
      have : u2 V.1 (B + (4 + 3 * p) + 1) r (-1) (B + 2 + 2 + 3 * q + 1) r' = V.1 (B + 2 + 2 + 3 * q + 1) r' := by
        by_cases e2 : r' = r
        · exact u2_n (Or.inl (by omega))
        · exact u2_n (Or.inr e2)
      exact this.trans v.1
  · rw [k _ (by omega)]; exact s1
  · rw [k _ (by omega)]; exact (s2 j j0 j1)
  · rw [k _ (by omega)]; exact (s3 i i0 i1)
  · rw [k _ (by omega), k _ (by omega)]; exact s4 h
theorem xWs {p : Nat} (hp : p < 6) : xWr (4 + 3 * p + 1) = true ∧ xWr (4 + 3 * p + 2) = true := by
  rcases (show p = 0 ∨ p = 1 ∨ p = 2 ∨ p = 3 ∨ p = 4 ∨ p = 5 by omega) with e | e | e | e | e | e <;> subst e <;> decide
theorem FrX.says {B : Nat} {V : VT} {p : Nat} {r w n : Int} (hp : p < 6) : FrX B V (vI (vI V (B + (4 + 3 * p) + 1) r w) (B + (4 + 3 * p) + 2) r n) := (FrX.rf.i (4 + 3 * p + 1) (xWs hp).1).i (4 + 3 * p + 2) (xWs hp).2
theorem FrX.hush {B : Nat} {V : VT} {p : Nat} {r w : Int} (hp : p < 6) : FrX B V (vI V (B + (4 + 3 * p) + 1) r w) := FrX.rf.i (4 + 3 * p + 1) (xWs hp).1
set_option maxHeartbeats 4000000 in
theorem kX0_rule {E : ET} {sh : SHT} {nn : Nat × Nat} {V : VT} {B : Nat} {ow : Nat → Nat} {z : ZT} {p a b w n : Int} (hR : XR ow sh nn V B z) (W : RWZ (z.2 3))  (rp : R32 p) (ra : R32 a) (rb : R32 b) (rw : R32 w) (rn : R32 n) : TC E mX0_rule 3 [.ref B, .int (iI p), .int (iI a), .int (iI b), .int (iI w), .int (iI n)] sh nn V (XP B nn (zp_rule z p a b w n)) := by
  obtain ⟨hB, -, hc, -⟩ := id hR
  have w0 := W.1.1
  have hS (hp : 0 ≤ p ∧ p < z.2 3 0) : ScS sh (B + (4 + 3 * p.toNat)) := hB.sc (by omega)
  have hsv (hp : 0 ≤ p ∧ p < z.2 3 0) : ScV V (B + (4 + 3 * p.toNat)) (fun r => z.2 3 (22 + 36 * p + r)) := by have q := hc.scr (p := p.toNat) (by omega) (by omega); rw [Int.toNat_of_nonneg hp.1] at q; exact q
  refine TC.intro [some (.ref B), some (.int (iI p)), some (.int (iI a)), some (.int (iI b)), some (.int (iI w)), some (.int (iI n)), none] rfl ?_
  refine TGo.il2 dX0_rule_0 rfl ?_
  refine TGo.il3 dX0_rule_1 rfl ?_
  refine TGo.cF (csS2 (y2 := mX0_isRule) 2 rfl dX0_rule_2 q715 q716 okX0_isRule npX0_isRule rfl rfl) (kX0_isRule (by omega) (by omega)) ?_
  refine TGo.ifb_eq 18 dX0_rule_5 (by decide) (fun h5 => ?_) (fun h5 => ?_)
  · refine TGo.al0 dX0_rule_18 rfl ?_
    refine TGo.icm1 dX0_rule_19 ?_
    refine TGo.cS (csV1 (y2 := mX0_refuse) (t := 8) 1 rfl (hB 0 (by decide)) rfl rfl dX0_rule_20 q601 q603 qs1 okX0_refuse npX0_refuse rfl rfl) (kX0_refuse hB hc (by omega)) (fun v20 V20 h20 => ?_)
    obtain ⟨rfl, hc20, hf20⟩ := h20
    refine TGo.iret dX0_rule_23 rfl ?_
    first
    | (exfalso; omega)
    | (refine hR.leaf W (FrX.rf.tr hf20) hc20 ((zTell_2 rfl).trans rfl) ((zTell_2 rfl).trans rfl) (StA.rf.tell) ?_
       unfold zp_rule
       (repeat (first | rw [if_pos (by first | rfl | assumption | omega)] | rw [if_neg (by first | decide | assumption | omega)]))
       (try rfl))
  · refine TGo.il dX0_rule_8 rfl ?_
    refine TGo.il dX0_rule_10 rfl ?_
    refine TGo.cF (csS2 (y2 := mX0_isSaid) 2 rfl dX0_rule_12 q718 q719 okX0_isSaid npX0_isSaid rfl rfl) (kX0_isSaid (by omega) (by omega)) ?_
    refine TGo.ifb_ne 24 dX0_rule_15 (by decide) (fun h15 => ?_) (fun h15 => ?_)
    · refine TGo.al0 dX0_rule_24 rfl ?_
      refine TGo.il1 dX0_rule_25 rfl ?_
      refine TGo.cF (csV1 (y2 := mX0_isPart) (t := 8) 2 rfl (hB 0 (by decide)) rfl rfl dX0_rule_26 q721 q723 qs4 okX0_isPart npX0_isPart rfl rfl) (kX0_isPart hB hc w0 (by omega)) ?_
      refine TGo.ifb_ne 39 dX0_rule_29 (by decide) (fun h29 => ?_) (fun h29 => ?_)
      · refine TGo.al0 dX0_rule_39 rfl ?_
        refine TGo.getS (t := 8) 2 2 (B + 2) (hB 0 (by decide)) rfl fgX0_16_0 dX0_rule_40 rfl rfl rfl ?_
        refine TGo.getS (t := 9) 0 0 (B + 3) (hB 2 (by decide)) rfl fgX0_170_1 dX0_rule_43 rfl rfl rfl ?_
        refine TGo.il1 dX0_rule_46 rfl ?_
        refine TGo.aaldSq (B + (4 + 3 * p.toNat)) dX0_rule_47 (hB 3 (by decide)) (by omega) rfl (hc.srf (by omega)) ?_
        refine TGo.getS (t := 10) 0 0 ((B + (4 + 3 * p.toNat)) + 1) (hS (by assumption)).1 rfl fgX0_187_2 dX0_rule_48 rfl rfl rfl ?_
        refine TGo.bip 6 dX0_rule_51 (by decide) ?_
        refine TGo.il2 dX0_rule_53 rfl ?_
        refine TGo.imul dX0_rule_54 ?_
        refine TGo.il3 dX0_rule_55 rfl ?_
        refine TGo.iadd dX0_rule_56 ?_
        refine TGo.iald dX0_rule_57 (hS (by assumption)).2.1 (by omega) rfl ?_
        refine TGo.toz _ ((hsv (by assumption) _ (by omega) (by omega)).1) ?_
        refine TGo.is dX0_rule_58 rfl rfl ?_
        refine TGo.al0 dX0_rule_60 rfl ?_
        refine TGo.getS (t := 8) 2 2 (B + 2) (hB 0 (by decide)) rfl fgX0_16_0 dX0_rule_61 rfl rfl rfl ?_
        refine TGo.getS (t := 9) 0 0 (B + 3) (hB 2 (by decide)) rfl fgX0_170_1 dX0_rule_64 rfl rfl rfl ?_
        refine TGo.il1 dX0_rule_67 rfl ?_
        refine TGo.aaldSq (B + (4 + 3 * p.toNat)) dX0_rule_68 (hB 3 (by decide)) (by omega) rfl (hc.srf (by omega)) ?_
        refine TGo.bip 6 dX0_rule_69 (by decide) ?_
        refine TGo.il2 dX0_rule_71 rfl ?_
        refine TGo.imul dX0_rule_72 ?_
        refine TGo.il3 dX0_rule_73 rfl ?_
        refine TGo.iadd dX0_rule_74 ?_
        refine TGo.il dX0_rule_75 rfl ?_
        refine TGo.il dX0_rule_77 rfl ?_
        refine TGo.cWn (csV3 (y2 := mX2_says) (t := 10) 1 rfl (hS (by assumption)).1 rfl rfl dX0_rule_79 q725 q726 q727 okX2_says npX2_says rfl rfl) (kX2_says (hS (by assumption)) (by omega)) ?_
        have hc79 := hc.says (p := p.toNat) (r := 6 * a + b) (w := w) (n := n) (by omega) (by omega) (by omega) (by omega)
        have hf79 := FrX.says (B := B) (V := V) (p := p.toNat) (r := 6 * a + b) (w := w) (n := n) (by omega)
        rw [Int.toNat_of_nonneg (show 0 ≤ p by omega)] at hc79
        refine TGo.al0 dX0_rule_82 rfl ?_
        refine TGo.il dX0_rule_83 rfl ?_
        refine TGo.cS (csV1 (y2 := mX0_done) (t := 8) 1 rfl (hB 0 (by decide)) rfl rfl dX0_rule_85 q695 q697 qs3 okX0_done npX0_done rfl rfl) (kX0_done hB hc79) (fun v85 V85 h85 => ?_)
        obtain ⟨rfl, hc85, hf85⟩ := h85
        refine TGo.iret dX0_rule_88 rfl ?_
        first
        | (exfalso; omega)
        | (refine hR.leaf W (hf79.tr hf85) hc85 (zi_2.trans ((za_2 rfl).trans rfl)) (zi_2.trans ((za_2 rfl).trans rfl)) ((StA.rf.a3 (by omega)).i) ?_
           unfold zp_rule
           (repeat (first | rw [if_pos (by first | rfl | assumption | omega)] | rw [if_neg (by first | decide | assumption | omega)]))
           (try rfl))
      · refine TGo.al0 dX0_rule_32 rfl ?_
        refine TGo.bip (-2) dX0_rule_33 (by decide) ?_
        refine TGo.cS (csV1 (y2 := mX0_refuse) (t := 8) 1 rfl (hB 0 (by decide)) rfl rfl dX0_rule_35 q601 q603 qs1 okX0_refuse npX0_refuse rfl rfl) (kX0_refuse hB hc (by omega)) (fun v35 V35 h35 => ?_)
        obtain ⟨rfl, hc35, hf35⟩ := h35
        refine TGo.iret dX0_rule_38 rfl ?_
        first
        | (exfalso; omega)
        | (refine hR.leaf W (FrX.rf.tr hf35) hc35 ((zTell_2 rfl).trans rfl) ((zTell_2 rfl).trans rfl) (StA.rf.tell) ?_
           unfold zp_rule
           (repeat (first | rw [if_pos (by first | rfl | assumption | omega)] | rw [if_neg (by first | decide | assumption | omega)]))
           (try rfl))
    · refine TGo.al0 dX0_rule_18 rfl ?_
      refine TGo.icm1 dX0_rule_19 ?_
      refine TGo.cS (csV1 (y2 := mX0_refuse) (t := 8) 1 rfl (hB 0 (by decide)) rfl rfl dX0_rule_20 q601 q603 qs1 okX0_refuse npX0_refuse rfl rfl) (kX0_refuse hB hc (by omega)) (fun v20 V20 h20 => ?_)
      obtain ⟨rfl, hc20, hf20⟩ := h20
      refine TGo.iret dX0_rule_23 rfl ?_
      first
      | (exfalso; omega)
      | (refine hR.leaf W (FrX.rf.tr hf20) hc20 ((zTell_2 rfl).trans rfl) ((zTell_2 rfl).trans rfl) (StA.rf.tell) ?_
         unfold zp_rule
         (repeat (first | rw [if_pos (by first | rfl | assumption | omega)] | rw [if_neg (by first | decide | assumption | omega)]))
         (try rfl))
set_option maxHeartbeats 4000000 in
theorem kX0_hush {E : ET} {sh : SHT} {nn : Nat × Nat} {V : VT} {B : Nat} {ow : Nat → Nat} {z : ZT} {p a b : Int} (hR : XR ow sh nn V B z) (W : RWZ (z.2 3))  (rp : R32 p) (ra : R32 a) (rb : R32 b) : TC E mX0_hush 3 [.ref B, .int (iI p), .int (iI a), .int (iI b)] sh nn V (XP B nn (zp_hush z p a b)) := by
  obtain ⟨hB, -, hc, -⟩ := id hR
  have w0 := W.1.1
  have hS (hp : 0 ≤ p ∧ p < z.2 3 0) : ScS sh (B + (4 + 3 * p.toNat)) := hB.sc (by omega)
  have hsv (hp : 0 ≤ p ∧ p < z.2 3 0) : ScV V (B + (4 + 3 * p.toNat)) (fun r => z.2 3 (22 + 36 * p + r)) := by have q := hc.scr (p := p.toNat) (by omega) (by omega); rw [Int.toNat_of_nonneg hp.1] at q; exact q
  refine TC.intro [some (.ref B), some (.int (iI p)), some (.int (iI a)), some (.int (iI b))] rfl ?_
  refine TGo.il2 dX0_hush_0 rfl ?_
  refine TGo.il3 dX0_hush_1 rfl ?_
  refine TGo.cF (csS2 (y2 := mX0_isRule) 2 rfl dX0_hush_2 q715 q716 okX0_isRule npX0_isRule rfl rfl) (kX0_isRule (by omega) (by omega)) ?_
  refine TGo.ifb_ne 14 dX0_hush_5 (by decide) (fun h5 => ?_) (fun h5 => ?_)
  · refine TGo.al0 dX0_hush_14 rfl ?_
    refine TGo.il1 dX0_hush_15 rfl ?_
    refine TGo.cF (csV1 (y2 := mX0_isPart) (t := 8) 2 rfl (hB 0 (by decide)) rfl rfl dX0_hush_16 q721 q723 qs4 okX0_isPart npX0_isPart rfl rfl) (kX0_isPart hB hc w0 (by omega)) ?_
    refine TGo.ifb_eq 47 dX0_hush_19 (by decide) (fun h19 => ?_) (fun h19 => ?_)
    · refine TGo.al0 dX0_hush_47 rfl ?_
      refine TGo.bip (-2) dX0_hush_48 (by decide) ?_
      refine TGo.cS (csV1 (y2 := mX0_refuse) (t := 8) 1 rfl (hB 0 (by decide)) rfl rfl dX0_hush_50 q601 q603 qs1 okX0_refuse npX0_refuse rfl rfl) (kX0_refuse hB hc (by omega)) (fun v50 V50 h50 => ?_)
      obtain ⟨rfl, hc50, hf50⟩ := h50
      refine TGo.iret dX0_hush_53 rfl ?_
      first
      | (exfalso; omega)
      | (refine hR.leaf W (FrX.rf.tr hf50) hc50 ((zTell_2 rfl).trans rfl) ((zTell_2 rfl).trans rfl) (StA.rf.tell) ?_
         unfold zp_hush
         (repeat (first | rw [if_pos (by first | rfl | assumption | omega)] | rw [if_neg (by first | decide | assumption | omega)]))
         (try rfl))
    · refine TGo.al0 dX0_hush_22 rfl ?_
      refine TGo.al0 dX0_hush_23 rfl ?_
      refine TGo.getS (t := 8) 2 2 (B + 2) (hB 0 (by decide)) rfl fgX0_16_0 dX0_hush_24 rfl rfl rfl ?_
      refine TGo.getS (t := 9) 0 0 (B + 3) (hB 2 (by decide)) rfl fgX0_170_1 dX0_hush_27 rfl rfl rfl ?_
      refine TGo.il1 dX0_hush_30 rfl ?_
      refine TGo.aaldSq (B + (4 + 3 * p.toNat)) dX0_hush_31 (hB 3 (by decide)) (by omega) rfl (hc.srf (by omega)) ?_
      refine TGo.bip 6 dX0_hush_32 (by decide) ?_
      refine TGo.il2 dX0_hush_34 rfl ?_
      refine TGo.imul dX0_hush_35 ?_
      refine TGo.il3 dX0_hush_36 rfl ?_
      refine TGo.iadd dX0_hush_37 ?_
      refine TGo.cW (csV1 (y2 := mX2_hushes) (t := 10) 1 rfl (hS (by assumption)).1 rfl rfl dX0_hush_38 q707 q708 q709 okX2_hushes npX2_hushes rfl rfl) (kX2_hushes (hS (by assumption)) (hsv (by assumption)) (by omega)) ?_
      have hc38 := hc.hush (p := p.toNat) (r := 6 * a + b) (by omega) (by omega)
      have hf38 := FrX.hush (B := B) (V := V) (p := p.toNat) (r := 6 * a + b) (w := -1) (by omega)
      rw [Int.toNat_of_nonneg (show 0 ≤ p by omega)] at hc38
      refine TGo.cS (csV1 (y2 := mX0_done) (t := 8) 1 rfl (hB 0 (by decide)) rfl rfl dX0_hush_41 q695 q697 qs3 okX0_done npX0_done rfl rfl) (kX0_done hB hc38) (fun v41 V41 h41 => ?_)
      obtain ⟨rfl, hc41, hf41⟩ := h41
      refine TGo.goto 53 dX0_hush_44 (by decide) ?_
      refine TGo.iret dX0_hush_53 rfl ?_
      first
      | (exfalso; omega)
      | (refine hR.leaf W (hf38.tr hf41) hc41 (zi_2.trans ((za_2 rfl).trans rfl)) (zi_2.trans ((za_2 rfl).trans rfl)) ((StA.rf.a3 (by omega)).i) ?_
         unfold zp_hush
         (repeat (first | rw [if_pos (by first | rfl | assumption | omega)] | rw [if_neg (by first | decide | assumption | omega)]))
         (try rfl))
  · refine TGo.al0 dX0_hush_8 rfl ?_
    refine TGo.icm1 dX0_hush_9 ?_
    refine TGo.cS (csV1 (y2 := mX0_refuse) (t := 8) 1 rfl (hB 0 (by decide)) rfl rfl dX0_hush_10 q601 q603 qs1 okX0_refuse npX0_refuse rfl rfl) (kX0_refuse hB hc (by omega)) (fun v10 V10 h10 => ?_)
    obtain ⟨rfl, hc10, hf10⟩ := h10
    refine TGo.iret dX0_hush_13 rfl ?_
    first
    | (exfalso; omega)
    | (refine hR.leaf W (FrX.rf.tr hf10) hc10 ((zTell_2 rfl).trans rfl) ((zTell_2 rfl).trans rfl) (StA.rf.tell) ?_
       unfold zp_hush
       (repeat (first | rw [if_pos (by first | rfl | assumption | omega)] | rw [if_neg (by first | decide | assumption | omega)]))
       (try rfl))
