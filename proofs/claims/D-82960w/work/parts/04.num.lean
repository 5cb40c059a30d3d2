/-! ===== NUMBERS: the machine's Int against the JVM's Int32, Int64 ===== -/
def a_i32 (x : Int) : Prop := -2147483648 ≤ x ∧ x < 2147483648
def a_i64 (x : Int) : Prop := -9223372036854775808 ≤ x ∧ x < 9223372036854775808
theorem a_w32_in (x : Int) : a_i32 (w32 x) := by
  unfold a_i32 w32
  have h1 := Int.le_bmod (x := x) (m := 4294967296) (by decide)
  have h2 := Int.bmod_lt (x := x) (m := 4294967296) (by decide)
  omega
theorem a_w64_in (x : Int) : a_i64 (w64 x) := by
  unfold a_i64 w64
  have h1 := Int.le_bmod (x := x) (m := 18446744073709551616) (by decide)
  have h2 := Int.bmod_lt (x := x) (m := 18446744073709551616) (by decide)
  omega
theorem a_w8_in (x : Int) : -128 ≤ w8 x ∧ w8 x < 128 := by
  unfold w8
  have h1 := Int.le_bmod (x := x) (m := 256) (by decide)
  have h2 := Int.bmod_lt (x := x) (m := 256) (by decide)
  omega
theorem a_w16_in (x : Int) : -32768 ≤ w16 x ∧ w16 x < 32768 := by
  unfold w16
  have h1 := Int.le_bmod (x := x) (m := 65536) (by decide)
  have h2 := Int.bmod_lt (x := x) (m := 65536) (by decide)
  omega
theorem w32_id {x : Int} (h1 : -2147483648 ≤ x) (h2 : x < 2147483648) : w32 x = x := Int.bmod_eq_of_le (by omega) (by omega)
theorem w64_id {x : Int} (h1 : -9223372036854775808 ≤ x) (h2 : x < 9223372036854775808) : w64 x = x := Int.bmod_eq_of_le (by omega) (by omega)
theorem w8_id {x : Int} (h1 : -128 ≤ x) (h2 : x < 128) : w8 x = x := Int.bmod_eq_of_le (by omega) (by omega)
theorem w16_id {x : Int} (h1 : -32768 ≤ x) (h2 : x < 32768) : w16 x = x := Int.bmod_eq_of_le (by omega) (by omega)
theorem a_toI {x : Int} (h : a_i32 x) : (Int32.ofInt x).toInt = x := Int32.toInt_ofInt_of_le (by have := h.1; omega) (by have := h.2; omega)
theorem a_toL {x : Int} (h : a_i64 x) : (Int64.ofInt x).toInt = x := Int64.toInt_ofInt_of_le (by have := h.1; omega) (by have := h.2; omega)
theorem a_I_in (x : Int32) : a_i32 x.toInt := ⟨by have := x.le_toInt; omega, by have := x.toInt_lt; omega⟩
theorem a_L_in (x : Int64) : a_i64 x.toInt := ⟨by have := x.le_toInt; omega, by have := x.toInt_lt; omega⟩
theorem a_w32I (x : Int) : Int32.ofInt (w32 x) = Int32.ofInt x := Int32.toInt_inj.mp (by
  rw [a_toI (a_w32_in x), Int32.toInt_ofInt]; rfl)
theorem a_w64L (x : Int) : Int64.ofInt (w64 x) = Int64.ofInt x := Int64.toInt_inj.mp (by
  rw [a_toL (a_w64_in x), Int64.toInt_ofInt]; rfl)
theorem a_iadd (x y : Int) : Int32.ofInt (w32 (x + y)) = Int32.ofInt x + Int32.ofInt y := by rw [a_w32I, Int32.ofInt_add]
theorem a_isub (x y : Int) : Int32.ofInt (w32 (x - y)) = Int32.ofInt x - Int32.ofInt y := by rw [a_w32I, Int32.ofInt_sub]
theorem a_imul (x y : Int) : Int32.ofInt (w32 (x * y)) = Int32.ofInt x * Int32.ofInt y := by rw [a_w32I, Int32.ofInt_mul]
theorem a_ineg (x : Int) : Int32.ofInt (w32 (-x)) = -Int32.ofInt x := by rw [a_w32I, Int32.ofInt_neg]
theorem a_idiv {x y : Int} (hx : a_i32 x) (hy : a_i32 y) : Int32.ofInt (w32 (x.tdiv y)) = Int32.ofInt x / Int32.ofInt y := Int32.toInt_inj.mp (by
  rw [a_toI (a_w32_in _), Int32.toInt_div, a_toI hx, a_toI hy]; rfl)
theorem a_ladd (x y : Int) : Int64.ofInt (w64 (x + y)) = Int64.ofInt x + Int64.ofInt y := by rw [a_w64L, Int64.ofInt_add]
theorem a_lsub (x y : Int) : Int64.ofInt (w64 (x - y)) = Int64.ofInt x - Int64.ofInt y := by rw [a_w64L, Int64.ofInt_sub]
theorem a_lmul (x y : Int) : Int64.ofInt (w64 (x * y)) = Int64.ofInt x * Int64.ofInt y := by rw [a_w64L, Int64.ofInt_mul]
theorem a_lneg (x : Int) : Int64.ofInt (w64 (-x)) = -Int64.ofInt x := by rw [a_w64L, Int64.ofInt_neg]
theorem a_ldiv {x y : Int} (hx : a_i64 x) (hy : a_i64 y) : Int64.ofInt (w64 (x.tdiv y)) = Int64.ofInt x / Int64.ofInt y := Int64.toInt_inj.mp (by
  rw [a_toL (a_w64_in _), Int64.toInt_div, a_toL hx, a_toL hy]; rfl)
theorem a_tmod_le {x y : Int} (hy : y ≠ 0) : (0 ≤ x → 0 ≤ x.tmod y ∧ x.tmod y ≤ x) ∧ (x ≤ 0 → x ≤ x.tmod y ∧ x.tmod y ≤ 0) := by
  constructor
  · intro h
    have h1 := Int.tmod_nonneg y h
    refine ⟨h1, ?_⟩
    have h2 := Int.natAbs_tmod x y
    have h3 := Nat.mod_le x.natAbs y.natAbs
    omega
  · intro h
    have h1 := Int.tmod_nonneg y (show 0 ≤ -x by omega)
    rw [Int.neg_tmod] at h1
    have h2 := Int.natAbs_tmod x y
    have h3 := Nat.mod_le x.natAbs y.natAbs
    omega
theorem a_tmod32 {x y : Int} (hx : a_i32 x) (hy : y ≠ 0) : a_i32 (x.tmod y) := by
  obtain ⟨h1, h2⟩ := a_tmod_le (x := x) hy
  unfold a_i32 at *
  rcases Int.le_total 0 x with h | h
  · have := h1 h; omega
  · have := h2 h; omega
theorem a_tmod64 {x y : Int} (hx : a_i64 x) (hy : y ≠ 0) : a_i64 (x.tmod y) := by
  obtain ⟨h1, h2⟩ := a_tmod_le (x := x) hy
  unfold a_i64 at *
  rcases Int.le_total 0 x with h | h
  · have := h1 h; omega
  · have := h2 h; omega
theorem a_bmod_sub_bmod_mul (x q y : Int) (n : Nat) : (x - (q.bmod n * y).bmod n).bmod n = (x - q * y).bmod n := by
  rw [Int.sub_bmod_bmod, ← Int.sub_bmod_bmod (x := x) (y := Int.bmod q n * y), Int.bmod_mul_bmod, Int.sub_bmod_bmod]
theorem a_irem {x y : Int} (hx : a_i32 x) (hy : a_i32 y) (h0 : y ≠ 0) : Int32.ofInt (x.tmod y) = Int32.ofInt x - Int32.ofInt x / Int32.ofInt y * Int32.ofInt y := Int32.toInt_inj.mp (by
  rw [Int32.toInt_sub, Int32.toInt_mul, Int32.toInt_div, a_toI hx, a_toI hy, a_toI (a_tmod32 hx h0)]
  have h := a_bmod_sub_bmod_mul x (x.tdiv y) y (2 ^ 32)
  rw [h]
  have e : x - x.tdiv y * y = x.tmod y := by have := Int.tdiv_mul_add_tmod x y; omega
  rw [e]
  have := a_tmod32 hx h0
  exact (w32_id this.1 this.2).symm)
theorem a_lrem {x y : Int} (hx : a_i64 x) (hy : a_i64 y) (h0 : y ≠ 0) : Int64.ofInt (x.tmod y) = Int64.ofInt x - Int64.ofInt x / Int64.ofInt y * Int64.ofInt y := Int64.toInt_inj.mp (by
  rw [Int64.toInt_sub, Int64.toInt_mul, Int64.toInt_div, a_toL hx, a_toL hy, a_toL (a_tmod64 hx h0)]
  have h := a_bmod_sub_bmod_mul x (x.tdiv y) y (2 ^ 64)
  rw [h]
  have e : x - x.tdiv y * y = x.tmod y := by have := Int.tdiv_mul_add_tmod x y; omega
  rw [e]
  have := a_tmod64 hx h0
  exact (w64_id this.1 this.2).symm)
theorem a_ne0 {y : Int} (hy : a_i32 y) (h0 : y ≠ 0) : ¬ Int32.ofInt y = 0 := fun h => h0 (by
  have := congrArg Int32.toInt h
  rw [a_toI hy] at this
  exact this)
theorem a_lne0 {y : Int} (hy : a_i64 y) (h0 : y ≠ 0) : ¬ Int64.ofInt y = 0 := fun h => h0 (by
  have := congrArg Int64.toInt h
  rw [a_toL hy] at this
  exact this)
theorem a_lt {x y : Int} (hx : a_i32 x) (hy : a_i32 y) : Int32.ofInt x < Int32.ofInt y ↔ x < y := by rw [Int32.lt_iff_toInt_lt, a_toI hx, a_toI hy]
theorem a_le {x y : Int} (hx : a_i32 x) (hy : a_i32 y) : Int32.ofInt x ≤ Int32.ofInt y ↔ x ≤ y := by rw [Int32.le_iff_toInt_le, a_toI hx, a_toI hy]
theorem a_eq {x y : Int} (hx : a_i32 x) (hy : a_i32 y) : Int32.ofInt x = Int32.ofInt y ↔ x = y := by rw [← Int32.toInt_inj, a_toI hx, a_toI hy]
theorem a_llt {x y : Int} (hx : a_i64 x) (hy : a_i64 y) : Int64.ofInt x < Int64.ofInt y ↔ x < y := by rw [Int64.lt_iff_toInt_lt, a_toL hx, a_toL hy]
theorem a_leq {x y : Int} (hx : a_i64 x) (hy : a_i64 y) : Int64.ofInt x = Int64.ofInt y ↔ x = y := by rw [← Int64.toInt_inj, a_toL hx, a_toL hy]
theorem a_i2l {x : Int} (hx : a_i32 x) : (Int32.ofInt x).toInt64 = Int64.ofInt x := Int64.toInt_inj.mp (by
  rw [Int32.toInt_toInt64, a_toI hx, a_toL ⟨by have := hx.1; omega, by have := hx.2; omega⟩])
theorem a_l2i {x : Int} (hx : a_i64 x) : (Int64.ofInt x).toInt32 = Int32.ofInt (w32 x) := Int32.toInt_inj.mp (by
  rw [Int64.toInt_toInt32, a_toL hx, a_toI (a_w32_in x)]; rfl)
theorem a_w8_32 (x : Int) : a_i32 (w8 x) := by have := a_w8_in x; unfold a_i32; omega
theorem a_w16_32 (x : Int) : a_i32 (w16 x) := by have := a_w16_in x; unfold a_i32; omega
theorem a_i2b {x : Int} (hx : a_i32 x) : (Int32.ofInt x).toInt8.toInt32 = Int32.ofInt (w8 x) := Int32.toInt_inj.mp (by
  rw [Int8.toInt_toInt32, Int32.toInt_toInt8, a_toI hx, a_toI (a_w8_32 x)]; rfl)
theorem a_i2s {x : Int} (hx : a_i32 x) : (Int32.ofInt x).toInt16.toInt32 = Int32.ofInt (w16 x) := Int32.toInt_inj.mp (by
  rw [Int16.toInt_toInt32, Int32.toInt_toInt16, a_toI hx, a_toI (a_w16_32 x)]; rfl)
theorem a_c_32 (x : Int) : a_i32 (x % 65536) := by unfold a_i32; omega
theorem a_clamp {x : Int} (hx : a_i32 x) : (Int32.ofInt x).toNatClampNeg = x.toNat := Int32.toNatClampNeg_ofInt_of_le (by have := hx.1; omega) (by have := hx.2; omega)
theorem a_in {x : Int} {n : Nat} (hx : a_i32 x) (h0 : 0 ≤ x) (h1 : x < (n : Int)) : vp_in (Int32.ofInt x) n := by
  rw [vp_in_iff, a_toI hx]; exact ⟨h0, h1⟩
theorem a_lcmp {x y : Int} (hx : a_i64 x) (hy : a_i64 y) : lg_cmp (Int64.ofInt x) (Int64.ofInt y) = Int32.ofInt (m_lcmp x y) := by
  unfold lg_cmp m_lcmp
  simp only [gt_iff_lt, a_llt hy hx, a_leq hx hy]
  rcases Int.lt_trichotomy x y with h | h | h
  · rw [if_neg (by omega), if_neg (by omega), if_pos h]; rfl
  · subst h
    rw [if_neg (by omega), if_pos rfl, if_neg (by omega), if_pos rfl]; rfl
  · rw [if_pos h, if_neg (by omega), if_neg (by omega)]; rfl
theorem a_lcmp_in (x y : Int) : a_i32 (m_lcmp x y) := by
  unfold m_lcmp a_i32
  repeat' split
  all_goals decide
theorem a_i2c {x : Int} (hx : a_i32 x) : ((Int32.ofInt x).toUInt32 % 65536).toInt32 = Int32.ofInt (x % 65536) := by
  rw [pk_char]
  refine Int32.toInt_inj.mp ?_
  rw [a_toI (a_c_32 x), nI_toInt (by omega)]
  have h1 : (Int32.ofInt x).toBitVec.toInt = x := a_toI hx
  have h2 := BitVec.toInt_eq_toNat_cond (Int32.ofInt x).toBitVec
  have h3 := (Int32.ofInt x).toBitVec.isLt
  rw [h1] at h2
  split at h2 <;> omega
