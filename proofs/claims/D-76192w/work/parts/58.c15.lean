/-! THE CLASS's systems are the reference's -/
def tRel (m n : Int) (B E : Nat → Int → Int) : Prop := (∀ i k : Int, 0 ≤ i → i < m → 0 ≤ k → k < m → B 0 (m * i + k) = mE E 0 i k) ∧ (∀ i k : Int, 0 ≤ i → i < n → 0 ≤ k → k < n → B 1 (n * i + k) = mE E 1 i k) ∧ ∀ i j : Int, 0 ≤ i → i < m → 0 ≤ j → j < n → B 2 (n * i + j) = mE E 2 i j
/-- the shape of a system, and the row from which on it is told -/
def xShp (kx kd : Int) : Int := if 7 ≤ kx then 0 else kd
def xOk (kx kd fr : Int) : Prop := (0 ≤ kd ∧ kd ≤ 6) ∧ ((kx = kd ∧ fr = 0) ∨ (kx = 7 ∧ fr = 0) ∨ (kx = 8 ∧ 1 ≤ fr))
theorem xSg {kx kd fr m n i j u : Int} (hx : xOk kx kd fr) (hmn : (1 ≤ m ∧ m ≤ 3) ∧ 1 ≤ n ∧ n ≤ 3) (hl : zLike m n kd) (hi : 0 ≤ i ∧ i < m) (hj : 0 ≤ j ∧ j < n) (hu : 0 ≤ u ∧ u + fr * n < tCnt (xShp kx kd) m n) : w_sg (xCo kx fr n i j) u = zSh (xShp kx kd) i j ((tPlc (xShp kx kd) m n (u + fr * n)).tdiv n) ((tPlc (xShp kx kd) m n (u + fr * n)).tmod n) := by
  obtain ⟨hkd, h⟩ := hx
  rcases h with ⟨rfl, rfl⟩ | ⟨rfl, rfl⟩ | ⟨rfl, h8⟩
  · have e : xShp kx kx = kx := if_neg (by omega)
    rw [e] at hu ⊢
    rw [Int.zero_mul, Int.add_zero] at hu ⊢
    have hc := w_cntr hmn hkd hl
    unfold xCo
    rw [if_neg (by omega), if_neg (by omega)]
    exact w_code hkd hmn hl hu hi hj (by omega)
  · have e : xShp 7 kd = 0 := rfl
    rw [e, Int.zero_mul, Int.add_zero] at hu ⊢
    have hc := w_cntr (kind := 0) hmn (by omega) (Or.inl (by omega))
    have h0 := w_code (kd := 0) (by omega) hmn (Or.inl (by omega)) hu hi hj (by omega)
    exact h0
  · have e : xShp 8 kd = 0 := rfl
    rw [e] at hu ⊢
    have hf : 0 ≤ fr * n := Int.mul_nonneg (by omega) (by omega)
    rw [w_cnt0 hmn] at hu
    rw [w_pl hmn (by omega)]
    have d := dm_r hmn (p := u + fr * n) (by omega)
    obtain ⟨a, ha⟩ : ∃ a, a = (u + fr * n).tdiv n := ⟨_, rfl⟩
    obtain ⟨b, hb⟩ : ∃ b, b = (u + fr * n).tmod n := ⟨_, rfl⟩
    rw [← ha, ← hb] at d ⊢
    unfold xCo
    rw [if_pos rfl]
    have key : (n * (i - fr) + j = u) ↔ (i = a ∧ j = b) := by
      have d2 := d.2.2
      obtain ⟨_, h3, h4⟩ := hmn
      rcases (by omega : n = 1 ∨ n = 2 ∨ n = 3) with rfl | rfl | rfl <;> omega
    have z0 : zSh 0 i j a b = if i = a ∧ j = b then 1 else 0 := rfl
    have hge : fr ≤ a := by
      obtain ⟨_, h3, h4⟩ := hmn
      have d2 := d.2.2
      rcases (by omega : n = 1 ∨ n = 2 ∨ n = 3) with rfl | rfl | rfl <;> omega
    rw [z0]
    unfold w_sg
    by_cases c : i < fr
    · rw [if_pos c, if_neg (by omega), if_neg (by omega), if_neg (by omega)]
    · rw [if_neg c]
      have hn0 : 0 ≤ n * (i - fr) := Int.mul_nonneg (by omega) (by omega)
      by_cases c2 : i = a ∧ j = b
      · rw [if_pos c2, if_pos (by have := key.mpr c2; omega)]
      · rw [if_neg c2, if_neg (fun z => c2 (key.mp (by omega))), if_neg (by omega)]
theorem xRg {kd m n i j : Int} {B E : Nat → Int → Int} (hR : tRel m n B E) (hl : zLike m n kd) (hi : 0 ≤ i ∧ i < n) (hj : 0 ≤ j ∧ j < n) (hk : 0 ≤ kd ∧ kd ≤ 6) : zRg kd (B 0) (B 1) m n i j = mRight E kd i j := by
  unfold zRg mRight
  by_cases h0 : kd = 0
  · rw [if_pos h0, if_pos h0]; exact hR.2.1 i j hi.1 hi.2 hj.1 hj.2
  · rw [if_neg h0, if_neg h0]
    by_cases h1 : kd = 1
    · rw [if_pos h1, if_pos h1]
    · have hnm : n = m := by rcases hl with z | z <;> omega
      rw [if_neg h1, if_neg h1]
      subst hnm
      split
      · rw [hR.1 i j hi.1 hi.2 hj.1 hj.2]
      · exact hR.1 j i hj.1 hj.2 hi.1 hi.2
theorem xSys {kx kd fr sh m n : Int} {B E : Nat → Int → Int} (hx : xOk kx kd fr) (hmn : (1 ≤ m ∧ m ≤ 3) ∧ 1 ≤ n ∧ n ≤ 3) (hl : zLike m n kd) (hR : tRel m n B E) (hfr : 0 ≤ fr ∧ fr < m) : xUn kx fr m n = zW (xShp kx kd) m n fr ∧ ∀ p q : Int, 0 ≤ p → p < zH m n fr → 0 ≤ q → q ≤ xUn kx fr m n → cTs kx kd fr sh m n (xUn kx fr m n) fr (B 0) (B 1) (B 2) p q = mSys E m n kd (xShp kx kd) sh fr p q := by
  have hkd := hx.1
  have eU : xUn kx fr m n = zW (xShp kx kd) m n fr := by
    unfold zW
    rcases hx.2 with ⟨rfl, rfl⟩ | ⟨rfl, rfl⟩ | ⟨rfl, h8⟩
    · rw [if_pos rfl, Int.sub_zero, show xShp kx kx = kx from if_neg (by omega), w_cnt hkd hmn hl]
      unfold xUn
      rw [if_neg (by omega), if_neg (by omega)]
    · rw [if_pos rfl, Int.sub_zero, show xShp 7 kd = 0 from rfl, w_cnt0 hmn]
      rfl
    · rw [if_neg (by omega), show xShp 8 kd = 0 from rfl, w_cnt0 hmn, ← Int.sub_mul]
      rfl
  refine ⟨eU, fun p q p0 p1 q0 q1 => ?_⟩
  have ef : (if fr = 0 then 0 else fr * n) = fr * n := by split; (rename_i z; rw [z]; omega); rfl
  have hf : 0 ≤ fr * n := Int.mul_nonneg hfr.1 (by omega)
  have hp : 0 ≤ p + fr * n ∧ p + fr * n < m * n := by unfold zH at p1; omega
  have d := dm_r hmn hp
  have eD : fr + p.tdiv n = (p + fr * n).tdiv n ∧ p.tmod n = (p + fr * n).tmod n := by
    rw [Int.tdiv_eq_ediv_of_nonneg p0, Int.tdiv_eq_ediv_of_nonneg hp.1, Int.tmod_eq_emod_of_nonneg p0, Int.tmod_eq_emod_of_nonneg hp.1]
    obtain ⟨_, h3, h4⟩ := hmn
    rcases (by omega : n = 1 ∨ n = 2 ∨ n = 3) with rfl | rfl | rfl <;> omega
  unfold cTs mSys
  rw [eU] at q1 ⊢
  rw [eD.1, eD.2, ef]
  unfold zW at q1 ⊢
  rw [ef] at q1 ⊢
  by_cases hq : q = tCnt (xShp kx kd) m n - fr * n
  · rw [if_pos hq, if_neg (by omega)]
    exact hR.2.2 _ _ d.1.1 d.1.2 d.2.1.1 d.2.1.2
  · rw [if_neg hq, if_pos (by omega), w_tak hmn hp]
    have hq2 : 0 ≤ q ∧ q + fr * n < tCnt (xShp kx kd) m n := by omega
    unfold cEn
    rw [xSg hx hmn hl d.1 d.2.1 hq2]
    congr 1
    · congr 1
      refine w_zsc _ fun x x0 x1 => ?_
      rw [xSg hx hmn hl (by omega) d.2.1 hq2, hR.1 _ x d.1.1 d.1.2 x0 (by omega)]
    · refine w_zsc _ fun x x0 x1 => ?_
      rw [xSg hx hmn hl d.1 (by omega) hq2, xRg hR hl (by omega) d.2.1 hkd]
