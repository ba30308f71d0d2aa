/-! LOTS: the class's are the reference's -/
def lR (t C : Int) (a b : zLs) (i j : Int) : Prop := a.1 = b.1 ∧ ∀ x y : Int, 0 ≤ x → 0 ≤ y → y < C → (x < i ∨ (x = i ∧ y < j)) → a.2 (C * x + y) = b.2 (9 * t + 3 * x + y)
theorem lR_s {t C i j : Int} {a b : zLs} (hC : 1 ≤ C ∧ C ≤ 3) (hj : 0 ≤ j ∧ j < C) (h : lR t C a b i j) : lR t C (zLc a.1, uZ a.2 (C * i + j) (zLv t (zLc a.1))) (zL1 t i j b) i (j + 1) := by
  refine ⟨by show zLc a.1 = zLc b.1; rw [h.1], fun x y x0 y0 y1 hx => ?_⟩
  show uZ a.2 (C * i + j) (zLv t (zLc a.1)) (C * x + y) = uZ b.2 (9 * t + 3 * i + j) (zLv t (zLc b.1)) (9 * t + 3 * x + y)
  rw [h.1]
  by_cases e : x = i ∧ y = j
  · rw [e.1, e.2, uZ_s, uZ_s]
  · have n1 : C * x + y ≠ C * i + j := by
      rcases (by omega : C = 1 ∨ C = 2 ∨ C = 3) with rfl | rfl | rfl <;> omega
    rw [uZ_n _ _ n1, uZ_n _ _ (by omega)]
    exact h.2 x y x0 y0 y1 (by omega)
theorem lR_r {t C i : Int} {s : zLs} {b : zLs} (hC : 1 ≤ C ∧ C ≤ 3) (hi : 0 ≤ i) (h : lR t C (cFl t s (C * i).toNat) b i 0) : ∀ n : Nat, (n : Int) ≤ C → lR t C (cFl t s (C * i + n).toNat) (zLr t i b n) i n := by
  have hCi : 0 ≤ C * i := Int.mul_nonneg (by omega) hi
  intro n
  induction n with
  | zero => intro _; rw [show C * i + ((0 : Nat) : Int) = C * i by omega]; exact h
  | succ n ih =>
    intro hn
    have h1 := lR_s hC (j := n) (by omega) (ih (by omega))
    rw [show C * i + ((n + 1 : Nat) : Int) = (C * i + n) + 1 by omega, cFl_s (by omega)]
    exact h1
theorem lR_i {t C : Int} {z : Int} {f e : Int → Int} (hC : 1 ≤ C ∧ C ≤ 3) : ∀ n : Nat, lR t C (cFl t (z, f) (C * n).toNat) (zLi t C (z, e) n) n 0 := by
  intro n
  induction n with
  | zero =>
    rw [show C * ((0 : Nat) : Int) = 0 by simp]
    exact ⟨rfl, fun x y x0 y0 y1 hx => by omega⟩
  | succ n ih =>
    have h1 := lR_r hC (i := n) (by omega) ih C.toNat (by omega)
    rw [show C * (n : Int) + (C.toNat : Nat) = C * ((n + 1 : Nat) : Int) by rw [show ((C.toNat : Nat) : Int) = C by omega, Int.natCast_add, Int.mul_add]; simp] at h1
    show lR t C _ (zLr t n (zLi t C (z, e) n) C.toNat) _ _
    exact ⟨h1.1, fun x y x0 y0 y1 hx => h1.2 x y x0 y0 y1 (by omega)⟩
theorem zLr_o {t i : Int} {s : zLs} {x : Int} (hi : 0 ≤ i ∧ i ≤ 2) (hx : x < 9 * t ∨ 9 * t + 9 ≤ x) : ∀ n : Nat, n ≤ 3 → (zLr t i s n).2 x = s.2 x := by
  intro n
  induction n with
  | zero => intro _; rfl
  | succ n ih =>
    intro hn
    show uZ (zLr t i s n).2 (9 * t + 3 * i + n) _ x = _
    rw [uZ_n _ _ (by omega)]
    exact ih (by omega)
theorem zLi_o {t C : Int} {s : zLs} {x : Int} (hC : 0 ≤ C ∧ C ≤ 3) (hx : x < 9 * t ∨ 9 * t + 9 ≤ x) : ∀ n : Nat, n ≤ 3 → (zLi t C s n).2 x = s.2 x := by
  intro n
  induction n with
  | zero => intro _; rfl
  | succ n ih =>
    intro hn
    show (zLr t n (zLi t C s n) C.toNat).2 x = _
    rw [zLr_o (by omega) hx C.toNat (by omega)]
    exact ih (by omega)
theorem lot_rel {m n z : Int} {B E : Nat → Int → Int} {R C : Int → Int} (hm : (1 ≤ m ∧ m ≤ 3) ∧ 1 ≤ n ∧ n ≤ 3) (hR : R 0 = m ∧ R 1 = n ∧ R 2 = m) (hC : C 0 = m ∧ C 1 = n ∧ C 2 = n) (E1 : Nat → Int → Int) (hE1 : E1 0 = (zLa R C (z, E 0) 3).2) (B1 : Nat → Int → Int)
    (h0 : B1 0 = (cFl 0 (z, B 0) (m * m).toNat).2) (h1 : B1 1 = (cFl 1 ((cFl 0 (z, B 0) (m * m).toNat).1, B 1) (n * n).toNat).2) (h2 : B1 2 = (cFl 2 ((cFl 1 ((cFl 0 (z, B 0) (m * m).toNat).1, B 1) (n * n).toNat).1, B 2) (m * n).toNat).2) :
    (cFl 2 ((cFl 1 ((cFl 0 (z, B 0) (m * m).toNat).1, B 1) (n * n).toNat).1, B 2) (m * n).toNat).1 = (zLa R C (z, E 0) 3).1 ∧ tRel m n B1 E1 := by
  have e : zLa R C (z, E 0) 3 = zLi 2 n (zLi 1 n (zLi 0 m (z, E 0) m.toNat) n.toNat) m.toNat := by
    show zLi 2 (C 2) (zLi 1 (C 1) (zLi 0 (C 0) (z, E 0) (R 0).toNat) (R 1).toNat) (R 2).toNat = _
    rw [hR.1, hR.2.1, hR.2.2, hC.1, hC.2.1, hC.2.2]
  have em : ((m.toNat : Nat) : Int) = m := by omega
  have en : ((n.toNat : Nat) : Int) = n := by omega
  have a0 := lR_i (t := 0) (C := m) (z := z) (f := B 0) (e := E 0) hm.1 m.toNat
  rw [em] at a0
  generalize hs0 : zLi 0 m (z, E 0) m.toNat = s0 at a0 e
  have a1 := lR_i (t := 1) (C := n) (z := s0.1) (f := B 1) (e := s0.2) hm.2 n.toNat
  rw [en] at a1
  generalize hs1 : zLi 1 n (s0.1, s0.2) n.toNat = s1 at a1
  have a2 := lR_i (t := 2) (C := n) (z := s1.1) (f := B 2) (e := s1.2) hm.2 m.toNat
  rw [em, Int.mul_comm n m] at a2
  have hs1' : zLi 1 n s0 n.toNat = s1 := hs1
  rw [hs1'] at e
  rw [← e] at a2
  have e3 : (s1.1, s1.2) = s1 := rfl
  rw [a0.1, a1.1]
  refine ⟨a2.1, fun i k i0 i1 k0 k1 => ?_, fun i k i0 i1 k0 k1 => ?_, fun i j i0 i1 j0 j1 => ?_⟩
  · rw [h0, a0.2 i k i0 k0 k1 (Or.inl i1)]
    unfold mE
    rw [hE1, e, zLi_o (by omega) (by omega) m.toNat (by omega), ← hs1', zLi_o (by omega) (by omega) n.toNat (by omega)]
  · rw [h1, a0.1, a1.2 i k i0 k0 k1 (Or.inl i1)]
    unfold mE
    rw [hE1, e, zLi_o (by omega) (by omega) m.toNat (by omega)]
  · rw [h2, a0.1, a1.1, a2.2 i j i0 j0 j1 (Or.inl i1)]
    unfold mE
    rw [hE1]
