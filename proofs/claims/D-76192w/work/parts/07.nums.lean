/-! NUMBERS: an int or long of the machine as a whole number: iI z, lI z (z wraps); what stands on the stack is nearly always of this form -/
def iI (z : Int) : Int32 := Int32.ofInt z
def lI (z : Int) : Int64 := Int64.ofInt z
def bI (c : Prop) [Decidable c] : Int := if c then 1 else 0
theorem iI_of (x : Int32) : x = iI x.toInt := (Int32.ofInt_toInt x).symm
theorem lI_of (x : Int64) : x = lI x.toInt := (Int64.ofInt_toInt x).symm
theorem iI_r (x : Int32) : -2147483648 ≤ x.toInt ∧ x.toInt < 2147483648 := by
  have h1 := x.le_toInt
  have h2 := x.toInt_lt
  omega
theorem lI_r (x : Int64) : -9223372036854775808 ≤ x.toInt ∧ x.toInt < 9223372036854775808 := by
  have h1 := x.le_toInt
  have h2 := x.toInt_lt
  omega
theorem iI_t {z : Int} (h : -2147483648 ≤ z ∧ z < 2147483648) : (iI z).toInt = z := Int32.toInt_ofInt_of_le (by omega) (by omega)
theorem lI_t {z : Int} (h : -9223372036854775808 ≤ z ∧ z < 9223372036854775808) : (lI z).toInt = z := Int64.toInt_ofInt_of_le (by omega) (by omega)
theorem iI_add (a b : Int) : iI a + iI b = iI (a + b) := (Int32.ofInt_add a b).symm
theorem iI_sub (a b : Int) : iI a - iI b = iI (a - b) := (Int32.ofInt_sub a b).symm
theorem iI_mul (a b : Int) : iI a * iI b = iI (a * b) := (Int32.ofInt_mul a b).symm
theorem iI_neg (a : Int) : -iI a = iI (-a) := (Int32.ofInt_neg a).symm
theorem lI_add (a b : Int) : lI a + lI b = lI (a + b) := (Int64.ofInt_add a b).symm
theorem lI_sub (a b : Int) : lI a - lI b = lI (a - b) := (Int64.ofInt_sub a b).symm
theorem lI_mul (a b : Int) : lI a * lI b = lI (a * b) := (Int64.ofInt_mul a b).symm
theorem lI_neg (a : Int) : -lI a = lI (-a) := (Int64.ofInt_neg a).symm
theorem iI_lt {a b : Int} (ha : -2147483648 ≤ a ∧ a < 2147483648) (hb : -2147483648 ≤ b ∧ b < 2147483648) : iI a < iI b ↔ a < b := by rw [Int32.lt_iff_toInt_lt, iI_t ha, iI_t hb]
theorem iI_le {a b : Int} (ha : -2147483648 ≤ a ∧ a < 2147483648) (hb : -2147483648 ≤ b ∧ b < 2147483648) : iI a ≤ iI b ↔ a ≤ b := by rw [Int32.le_iff_toInt_le, iI_t ha, iI_t hb]
theorem iI_eq {a b : Int} (ha : -2147483648 ≤ a ∧ a < 2147483648) (hb : -2147483648 ≤ b ∧ b < 2147483648) : iI a = iI b ↔ a = b := by rw [← Int32.toInt_inj, iI_t ha, iI_t hb]
theorem lI_lt {a b : Int} (ha : -9223372036854775808 ≤ a ∧ a < 9223372036854775808) (hb : -9223372036854775808 ≤ b ∧ b < 9223372036854775808) : lI a < lI b ↔ a < b := by rw [Int64.lt_iff_toInt_lt, lI_t ha, lI_t hb]
theorem lI_le {a b : Int} (ha : -9223372036854775808 ≤ a ∧ a < 9223372036854775808) (hb : -9223372036854775808 ≤ b ∧ b < 9223372036854775808) : lI a ≤ lI b ↔ a ≤ b := by rw [Int64.le_iff_toInt_le, lI_t ha, lI_t hb]
theorem lI_eq {a b : Int} (ha : -9223372036854775808 ≤ a ∧ a < 9223372036854775808) (hb : -9223372036854775808 ≤ b ∧ b < 9223372036854775808) : lI a = lI b ↔ a = b := by rw [← Int64.toInt_inj, lI_t ha, lI_t hb]
theorem iI_0 : iI 0 = 0 := rfl
theorem lI_0 : lI 0 = 0 := rfl
theorem iI_cl {z : Int} (h0 : 0 ≤ z) (h : z < 2147483648) : (iI z).toNatClampNeg = z.toNat := by
  show (iI z).toInt.toNat = z.toNat
  rw [iI_t ⟨by omega, h⟩]
theorem iI_in {z : Int} {n : Nat} (h0 : 0 ≤ z) (h : z < n) (hn : n ≤ 2147483647) : vp_in (iI z) n := by
  rw [vp_in_iff, iI_t ⟨by omega, by omega⟩]
  exact ⟨h0, h⟩
theorem iI_div {a b : Int} (ha : -2147483648 ≤ a ∧ a < 2147483648) (hb : -2147483648 ≤ b ∧ b < 2147483648) : iI a / iI b = iI (a.tdiv b) := by
  have e1 : Int32.minValue.toInt = -2147483648 := by decide
  have e2 : Int32.maxValue.toInt = 2147483647 := by decide
  exact (Int32.ofInt_tdiv (by omega) (by omega) (by omega) (by omega)).symm
theorem lI_div {a b : Int} (ha : -9223372036854775808 ≤ a ∧ a < 9223372036854775808) (hb : -9223372036854775808 ≤ b ∧ b < 9223372036854775808) : lI a / lI b = lI (a.tdiv b) := by
  have e1 : Int64.minValue.toInt = -9223372036854775808 := by decide
  have e2 : Int64.maxValue.toInt = 9223372036854775807 := by decide
  exact (Int64.ofInt_tdiv (by omega) (by omega) (by omega) (by omega)).symm
theorem iI_rem {a b : Int} (ha : -2147483648 ≤ a ∧ a < 2147483648) (hb : -2147483648 ≤ b ∧ b < 2147483648) : iI a - iI a / iI b * iI b = iI (a.tmod b) := by
  rw [iI_div ha hb, iI_mul, iI_sub, Int.tmod_def, Int.mul_comm]
theorem lI_rem {a b : Int} (ha : -9223372036854775808 ≤ a ∧ a < 9223372036854775808) (hb : -9223372036854775808 ≤ b ∧ b < 9223372036854775808) : lI a - lI a / lI b * lI b = lI (a.tmod b) := by
  rw [lI_div ha hb, lI_mul, lI_sub, Int.tmod_def, Int.mul_comm]
theorem iI_l {a : Int} (ha : -2147483648 ≤ a ∧ a < 2147483648) : (iI a).toInt64 = lI a := by
  have e1 : Int32.minValue.toInt = -2147483648 := by decide
  have e2 : Int32.maxValue.toInt = 2147483647 := by decide
  exact Int32.toInt64_ofInt (by omega) (by omega)
theorem lI_i (a : Int) : (lI a).toInt32 = iI a := Int64.toInt32_ofInt
/-- the low byte, and the low two bytes, of a number, with their sign -/
theorem iI_b (a : Int) : (iI a).toInt8.toInt32 = iI (a.bmod 256) := by
  rw [← Int32.toInt_inj]
  have h1 : (iI a).toInt8.toInt = a.bmod 256 := by
    rw [Int32.toInt_toInt8]
    show (Int32.ofInt a).toInt.bmod (2 ^ 8) = a.bmod 256
    rw [Int32.toInt_ofInt]
    exact Int.bmod_bmod_of_dvd (by decide)
  have h2 := Int.le_bmod (x := a) (m := 256) (by decide)
  have h3 := Int.bmod_lt (x := a) (m := 256) (by decide)
  rw [Int8.toInt_toInt32, h1, iI_t (by omega)]
theorem iI_s (a : Int) : (iI a).toInt16.toInt32 = iI (a.bmod 65536) := by
  rw [← Int32.toInt_inj]
  have h1 : (iI a).toInt16.toInt = a.bmod 65536 := by
    rw [Int32.toInt_toInt16]
    show (Int32.ofInt a).toInt.bmod (2 ^ 16) = a.bmod 65536
    rw [Int32.toInt_ofInt]
    exact Int.bmod_bmod_of_dvd (by decide)
  have h2 := Int.le_bmod (x := a) (m := 65536) (by decide)
  have h3 := Int.bmod_lt (x := a) (m := 65536) (by decide)
  rw [Int16.toInt_toInt32, h1, iI_t (by omega)]
theorem iI_c (a : Int) : ((iI a).toUInt32 % 65536).toInt32 = iI (a.emod 65536) := by
  rw [pk_char]
  have h2 : (iI a).toBitVec.toNat % 65536 = (a % 65536).toNat := by
    show (BitVec.ofInt 32 a).toNat % 65536 = _
    rw [BitVec.toNat_ofInt]
    omega
  rw [h2]
  show Int32.ofNat _ = Int32.ofInt _
  rw [← Int32.ofInt_eq_ofNat]
  congr 1
  show ((a % 65536).toNat : Int) = a % 65536
  omega
/-- which of two numbers is the greater: what lcmp leaves -/
def cI (a b : Int) : Int := if b < a then 1 else if a = b then 0 else -1
theorem cI_of {a b : Int} (ha : -9223372036854775808 ≤ a ∧ a < 9223372036854775808) (hb : -9223372036854775808 ≤ b ∧ b < 9223372036854775808) : lg_cmp (lI a) (lI b) = iI (cI a b) := by
  unfold lg_cmp cI
  simp only [gt_iff_lt, lI_lt hb ha, lI_eq ha hb]
  split
  · rfl
  · split <;> rfl
theorem cI_r (a b : Int) : -1 ≤ cI a b ∧ cI a b ≤ 1 := by unfold cI; split <;> (try split) <;> omega
theorem cI_le (a b : Int) : cI a b ≤ 0 ↔ a ≤ b := by unfold cI; split <;> (try split) <;> omega
theorem cI_lt (a b : Int) : cI a b < 0 ↔ a < b := by unfold cI; split <;> (try split) <;> omega
theorem cI_eq (a b : Int) : cI a b = 0 ↔ a = b := by unfold cI; split <;> (try split) <;> omega
theorem bI_r (c : Prop) [Decidable c] : 0 ≤ bI c ∧ bI c ≤ 1 := by unfold bI; split <;> omega
theorem bI_t {c : Prop} [Decidable c] (h : c) : bI c = 1 := if_pos h
theorem bI_f {c : Prop} [Decidable c] (h : ¬ c) : bI c = 0 := if_neg h
theorem bI_0 {c : Prop} [Decidable c] : bI c = 0 ↔ ¬ c := by unfold bI; split <;> simp [*]
theorem bI_c {c d : Prop} [Decidable c] [Decidable d] (h : c ↔ d) : bI c = bI d := by unfold bI; simp only [h]
/-- a place of a row of numbers, told anew -/
def uZ {α : Type} (f : Int → α) (k : Int) (v : α) : Int → α := fun x => if x = k then v else f x
theorem uZ_s {α : Type} (f : Int → α) (k : Int) (v : α) : uZ f k v k = v := if_pos rfl
theorem uZ_n {α : Type} (f : Int → α) {k j : Int} (v : α) (h : j ≠ k) : uZ f k v j = f j := if_neg h
theorem uZ_upd (f : Int → Int) {k : Int} (hk : 0 ≤ k) (v : Int) : upd (fun j : Nat => iI (f j)) k.toNat (iI v) = fun j : Nat => iI (uZ f k v j) := by
  funext j
  unfold upd uZ
  by_cases h : j = k.toNat
  · rw [if_pos h, if_pos (by omega)]
  · rw [if_neg h, if_neg (by omega)]
theorem uZ_updL (f : Int → Int) {k : Int} (hk : 0 ≤ k) (v : Int) : vp_updL (fun j : Nat => lI (f j)) k.toNat (lI v) = fun j : Nat => lI (uZ f k v j) := by
  funext j
  unfold vp_updL uZ
  by_cases h : j = k.toNat
  · rw [if_pos h, if_pos (by omega)]
  · rw [if_neg h, if_neg (by omega)]
theorem uZ_up {α : Type} (f : Int → α) {k : Int} (hk : 0 ≤ k) (v : α) : va_up (fun j : Nat => f j) k.toNat v = fun j : Nat => uZ f k v j := by
  funext j
  unfold va_up uZ
  by_cases h : j = k.toNat
  · rw [if_pos h, if_pos (by omega)]
  · rw [if_neg h, if_neg (by omega)]
