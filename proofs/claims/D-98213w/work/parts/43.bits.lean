/-! BITS, and parts of arrays -/
set_option maxRecDepth 100000
theorem iI_and255 (x : Int32) : x &&& iI 255 = iI (x.toInt % 256) := by
  apply Int32.toInt_inj.mp
  rw [iI_to (by omega)]
  have h1 : (x &&& iI 255).toInt = (x.toBitVec &&& 255#32).toInt := rfl
  have h2 : x.toInt = x.toBitVec.toInt := rfl
  have h3 : x.toBitVec.toNat &&& 255 = x.toBitVec.toNat % 256 := Nat.and_two_pow_sub_one_eq_mod _ 8
  have h4 := x.toBitVec.isLt
  rw [h1, h2, BitVec.toInt_eq_toNat_cond, BitVec.toInt_eq_toNat_cond, BitVec.toNat_and]
  have h5 : (255#32).toNat = 255 := rfl
  rw [h5, h3]
  split <;> split <;> omega
theorem iI_shr (x : Int32) (n : Nat) (hn : n < 32) : x >>> (iI (n : Int) &&& 31) = iI (x.toInt / ((2 ^ n : Nat) : Int)) := by
  have e : ∀ m : Nat, m < 32 → ((iI (m : Int) &&& 31).toBitVec.smod 32#32).toNat = m := by decide +kernel
  have e2 : (x >>> (iI (n : Int) &&& 31)).toInt = x.toInt >>> n := by
    show (x.toBitVec.sshiftRight' ((iI (n : Int) &&& 31).toBitVec.smod 32#32)).toInt = _
    rw [BitVec.sshiftRight_eq', e n hn, BitVec.toInt_sshiftRight]
    rfl
  apply Int32.toInt_inj.mp
  rw [e2, Int.shiftRight_eq_div_pow]
  have h0 := iI_rng x
  have h1 : (1 : Int) ≤ ((2 ^ n : Nat) : Int) := Int.ofNat_le.mpr Nat.one_le_two_pow
  generalize hd : ((2 ^ n : Nat) : Int) = dd at h1
  have h2 : -2147483648 ≤ x.toInt / dd := (Int.le_ediv_iff_mul_le (by omega)).mpr (by omega)
  have h3 : x.toInt / dd < 2147483648 := (Int.ediv_lt_iff_lt_mul (by omega)).mpr (by omega)
  rw [iI_to (by omega)]
/-- a byte of a number -/
def byZ (v : Int) (k : Nat) : Int := v / ((2 ^ k : Nat) : Int) % 256
theorem byZ_r (v : Int) (k : Nat) : 0 ≤ byZ v k ∧ byZ v k ≤ 255 := by unfold byZ; omega
theorem byZ_eq {v : Int} (h : -2147483648 ≤ v ∧ v ≤ 2147483647) (k : Nat) (hk : k < 32) : (iI v >>> (iI (k : Int) &&& 31)) &&& iI 255 = iI (byZ v k) := by
  rw [iI_shr _ k hk, iI_and255, iI_to h]
  have h0 := h
  have h1 : (1 : Int) ≤ ((2 ^ k : Nat) : Int) := Int.ofNat_le.mpr Nat.one_le_two_pow
  unfold byZ
  generalize ((2 ^ k : Nat) : Int) = dd at h1
  have h2 : -2147483648 ≤ v / dd := (Int.le_ediv_iff_mul_le (by omega)).mpr (by omega)
  have h3 : v / dd < 2147483648 := (Int.ediv_lt_iff_lt_mul (by omega)).mpr (by omega)
  rw [iI_to (by omega)]
theorem u1_zf {g : Nat → Int → Int} {k : Nat} {a v : Int} {j : Nat} : u2 (u1 g k (zf (g k) a (j : Int) v)) k (a + (j : Int)) v = u1 g k (zf (g k) a ((j + 1 : Nat) : Int) v) := by
  rw [u12, zf_next (by omega)]; rfl
theorem u1_zc {g : Nat → Int → Int} {k : Nat} {h : Int → Int} {a b : Int} {j : Nat} : u2 (u1 g k (zc (g k) a (j : Int) h b)) k (a + (j : Int)) (h (b + (j : Int))) = u1 g k (zc (g k) a ((j + 1 : Nat) : Int) h b) := by
  rw [u12, zc_next (by omega)]; rfl
