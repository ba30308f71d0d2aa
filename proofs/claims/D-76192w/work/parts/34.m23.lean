/-! THE REFERENCE: whole numbers -/
theorem zPart_1 {a b : Int} (hb : b ≠ 0) : zPart a b 1 = ((b.natAbs / Int.gcd a b : Nat) : Int) := by
  unfold zPart
  rw [if_neg (by decide)]
  by_cases h : b < 0
  · rw [if_pos h, Int.tdiv_neg]
    have e : b = -((b.natAbs : Nat) : Int) := by omega
    conv => lhs; rw [e]
    rw [Int.neg_tdiv, Int.neg_neg, Int.tdiv_eq_ediv_of_nonneg (by omega), Int.gcd_neg]
    rw [show Int.gcd a (b.natAbs : Nat) = Int.gcd a b by show Nat.gcd _ _ = Nat.gcd _ _; rw [Int.natAbs_natCast]]
    rfl
  · rw [if_neg h, Int.tdiv_eq_ediv_of_nonneg (by omega)]
    have e : b = ((b.natAbs : Nat) : Int) := by omega
    conv => lhs; rw [e]
    rw [show Int.gcd a (b.natAbs : Nat) = Int.gcd a b by show Nat.gcd _ _ = Nat.gcd _ _; rw [Int.natAbs_natCast]]
    rfl
theorem zPart_0 {a b : Int} : (zPart a b 0).natAbs = a.natAbs / Int.gcd a b := by
  unfold zPart
  rw [if_pos rfl, Int.natAbs_tdiv]
  congr 1
  split <;> omega
theorem zPart_d {a b : Int} (hb : b ≠ 0) : 0 < zPart a b 1 ∧ zPart a b 1 ∣ b ∧ zPart a b 1 * (Int.gcd a b : Int) = b.natAbs := by
  have hg : 0 < Int.gcd a b := Int.gcd_pos_of_ne_zero_right _ hb
  have hd : Int.gcd a b ∣ b.natAbs := Nat.gcd_dvd_right _ _
  have hm : b.natAbs / Int.gcd a b * Int.gcd a b = b.natAbs := Nat.div_mul_cancel hd
  rw [zPart_1 hb]
  refine ⟨?_, ?_, ?_⟩
  · have : 0 < b.natAbs / Int.gcd a b := Nat.div_pos (Nat.le_of_dvd (by omega) hd) hg
    omega
  · rw [Int.ofNat_dvd_left]
    exact ⟨Int.gcd a b, hm.symm⟩
  · rw [← Int.natCast_mul, hm]
/-- a numerator (0) or denominator (1) of the solution at a place -/
def zNd (m n kind : Int) (S : eS) (W p part : Int) : Int := zPart (zShs m n kind S W (p.tdiv n) (p.tmod n) (-1)) S.2.2.2.1 part
def zLcs (b : Int → Int) : Nat → Int
  | 0 => 1
  | p + 1 => (zLcs b p).tdiv (Int.gcd (zLcs b p) (b p)) * b p
theorem zLcs_s (b : Int → Int) {p : Int} (h : 0 ≤ p) : zLcs b (p + 1).toNat = (zLcs b p.toNat).tdiv (Int.gcd (zLcs b p.toNat) (b p)) * b p := by
  rw [show (p + 1).toNat = p.toNat + 1 by omega]
  have e : ((p.toNat : Nat) : Int) = p := by omega
  show (zLcs b p.toNat).tdiv (Int.gcd (zLcs b p.toNat) (b (p.toNat : Nat))) * b (p.toNat : Nat) = _
  rw [e]
theorem zLcm {x y : Int} (hx : 0 < x) (hy : 0 < y) : x.tdiv (Int.gcd x y) * y = ((Nat.lcm x.natAbs y.natAbs : Nat) : Int) := by
  rw [Int.tdiv_eq_ediv_of_nonneg (by omega)]
  obtain ⟨a, ha⟩ : ∃ a : Nat, x = a := ⟨x.natAbs, by omega⟩
  obtain ⟨b, hb⟩ : ∃ b : Nat, y = b := ⟨y.natAbs, by omega⟩
  subst ha
  subst hb
  show ((a : Int) / ((Nat.gcd a b : Nat) : Int)) * (b : Int) = ((Nat.lcm a b : Nat) : Int)
  rw [← Int.natCast_ediv, ← Int.natCast_mul]
  congr 1
  unfold Nat.lcm
  exact Nat.div_mul_right_comm (Nat.gcd_dvd_left a b) b
theorem zLcs_d {b : Int → Int} {d : Int} (h : ∀ p : Int, 0 < b p ∧ b p ∣ d) : ∀ k : Nat, 0 < zLcs b k ∧ zLcs b k ∣ d := by
  intro k
  induction k with
  | zero => exact ⟨by show (0 : Int) < 1; decide, Int.one_dvd _⟩
  | succ k ih =>
    have e : zLcs b (k + 1) = ((Nat.lcm (zLcs b k).natAbs (b k).natAbs : Nat) : Int) := zLcm ih.1 (h k).1
    rw [e]
    constructor
    · have : 0 < Nat.lcm (zLcs b k).natAbs (b k).natAbs := Nat.lcm_pos (by have := ih.1; omega) (by have := (h k).1; omega)
      omega
    · rw [Int.ofNat_dvd_left]
      exact Nat.lcm_dvd (Int.natAbs_dvd_natAbs.mpr ih.2) (Int.natAbs_dvd_natAbs.mpr (h k).2)
theorem zLe_d {x d : Int} (hd : d ≠ 0) (h : x ∣ d) : x ≤ d.natAbs := by
  have := Nat.le_of_dvd (by omega) (Int.natAbs_dvd_natAbs.mpr h)
  omega
/-- what stands in the row that is laid -/
theorem zVal_r {s d all : Int} (hd : d ≠ 0) (ha : 0 < all) (h : all ∣ d) : (zPart s d 0 * all.tdiv (zPart s d 1)).natAbs ≤ s.natAbs := by
  have h1 := zPart_d (a := s) hd
  have h2 := zLe_d hd h
  rw [Int.natAbs_mul, zPart_0, Int.natAbs_tdiv]
  have h3 : all.natAbs / (zPart s d 1).natAbs ≤ Int.gcd s d := by
    apply Nat.div_le_of_le_mul
    have h4 : (zPart s d 1).natAbs * Int.gcd s d = d.natAbs := by
      have := congrArg Int.natAbs h1.2.2
      rw [Int.natAbs_mul, Int.natAbs_natCast, Int.natAbs_natCast] at this
      exact this
    rw [h4]
    omega
  calc s.natAbs / Int.gcd s d * (all.natAbs / (zPart s d 1).natAbs) ≤ s.natAbs / Int.gcd s d * Int.gcd s d := Nat.mul_le_mul_left _ h3
    _ ≤ s.natAbs := Nat.div_mul_le_self _ _
def zVl (m n kind : Int) (S : eS) (W all p : Int) : Int := zNd m n kind S W p 0 * all.tdiv (zNd m n kind S W p 1)
def zBi (v : Int → Int) (all : Int) : Nat → Int
  | 0 => if zI32 all then 1 else 0
  | p + 1 => if zBi v all p = 1 ∧ zI32 (v p) then 1 else 0
theorem zBi_s (v : Int → Int) (all : Int) {p : Int} (h : 0 ≤ p) : zBi v all (p + 1).toNat = if zBi v all p.toNat = 1 ∧ zI32 (v p) then 1 else 0 := by
  rw [show (p + 1).toNat = p.toNat + 1 by omega]
  have e : ((p.toNat : Nat) : Int) = p := by omega
  show (if zBi v all p.toNat = 1 ∧ zI32 (v (p.toNat : Nat)) then (1 : Int) else 0) = _
  rw [e]
theorem zBi_r (v : Int → Int) (all : Int) : ∀ p : Nat, zBi v all p = 0 ∨ zBi v all p = 1 := by
  intro p
  cases p with
  | zero => unfold zBi; split <;> simp
  | succ p => unfold zBi; split <;> simp
theorem zBi_i {v : Int → Int} {all : Int} : ∀ p : Nat, zBi v all p = 1 → zI32 all ∧ ∀ k : Int, 0 ≤ k → k < p → zI32 (v k) := by
  intro p
  induction p with
  | zero => intro h; unfold zBi at h; split at h; exact ⟨by assumption, fun k k0 k1 => by omega⟩; omega
  | succ p ih =>
    intro h
    unfold zBi at h
    split at h
    · rename_i g
      refine ⟨(ih g.1).1, fun k k0 k1 => ?_⟩
      by_cases e : k = p
      · rw [e]; exact g.2
      · exact (ih g.1).2 k k0 (by omega)
    · omega
def mLy (f v : Int → Int) (a N k : Int) : Int → Int := fun x => if a ≤ x ∧ x < a + k then (if x - a < N then v (x - a) else 0) else f x
theorem mLy_0 (f v : Int → Int) (a N : Int) : mLy f v a N 0 = f := by
  funext x
  unfold mLy
  rw [if_neg (by omega)]
theorem mLy_s (f v : Int → Int) {a N k y : Int} (h : 0 ≤ k) (hy : y = if k < N then v k else 0) : uZ (mLy f v a N k) (a + k) y = mLy f v a N (k + 1) := by
  funext x
  unfold uZ mLy
  by_cases e : x = a + k
  · rw [if_pos e, if_pos (by omega), hy, show x - a = k by omega]
  · rw [if_neg e]
    by_cases e2 : a ≤ x ∧ x < a + k
    · rw [if_pos e2, if_pos (show a ≤ x ∧ x < a + (k + 1) by omega)]
    · rw [if_neg e2, if_neg (by omega)]
theorem iI_w32 {a : Int} : a = a.bmod 4294967296 ↔ zI32 a := by
  have := bm_r a
  constructor
  · intro h; rw [h]; exact this.2.2
  · intro h; exact (Int.bmod_eq_of_le (by omega) (by omega)).symm
