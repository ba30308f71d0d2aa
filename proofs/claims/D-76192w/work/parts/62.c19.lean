/-! THE CLASS: the witness -/
theorem zPart_x (a b : Int) : zPart a b 0 * b = a * zPart a b 1 := by
  unfold zPart
  rw [if_pos rfl, if_neg (show ¬ (1 : Int) = 0 by decide)]
  generalize hy : (if b < 0 then -(Int.gcd a b : Int) else (Int.gcd a b : Int)) = y
  have ha : y ∣ a := by rw [← hy]; split; exact Int.neg_dvd.mpr (Int.gcd_dvd_left ..); exact Int.gcd_dvd_left ..
  have hb : y ∣ b := by rw [← hy]; split; exact Int.neg_dvd.mpr (Int.gcd_dvd_right ..); exact Int.gcd_dvd_right ..
  obtain ⟨p, hp⟩ := ha
  obtain ⟨q, hq⟩ := hb
  by_cases h0 : y = 0
  · rw [h0] at hp hq ⊢
    rw [Int.tdiv_zero, Int.tdiv_zero]
    omega
  · rw [show a.tdiv y = p by rw [hp]; exact Int.mul_tdiv_cancel_left _ h0, show b.tdiv y = q by rw [hq]; exact Int.mul_tdiv_cancel_left _ h0]
    rw [hp, hq]
    grind
theorem zPart_q {a b c d part : Int} (hb : b ≠ 0) (hd : d ≠ 0) (h : a * d = c * b) (hp : part = 0 ∨ part = 1) : zPart a b part = zPart c d part := by
  have g1 : 0 < Int.gcd a b := Int.gcd_pos_of_ne_zero_right _ hb
  have g2 : 0 < Int.gcd c d := Int.gcd_pos_of_ne_zero_right _ hd
  have hn : a.natAbs * d.natAbs = c.natAbs * b.natAbs := by rw [← Int.natAbs_mul, ← Int.natAbs_mul, h]
  have e1 : Int.gcd a b = Nat.gcd a.natAbs b.natAbs := rfl
  have e2 : Int.gcd c d = Nat.gcd c.natAbs d.natAbs := rfl
  obtain ⟨a', ha⟩ : Int.gcd a b ∣ a.natAbs := by rw [e1]; exact Nat.gcd_dvd_left _ _
  obtain ⟨b', hb'⟩ : Int.gcd a b ∣ b.natAbs := by rw [e1]; exact Nat.gcd_dvd_right _ _
  obtain ⟨c', hc⟩ : Int.gcd c d ∣ c.natAbs := by rw [e2]; exact Nat.gcd_dvd_left _ _
  obtain ⟨d', hd'⟩ : Int.gcd c d ∣ d.natAbs := by rw [e2]; exact Nat.gcd_dvd_right _ _
  have qa : a.natAbs / Int.gcd a b = a' := by rw [ha, Nat.mul_div_cancel_left _ g1]
  have qb : b.natAbs / Int.gcd a b = b' := by rw [hb', Nat.mul_div_cancel_left _ g1]
  have qc : c.natAbs / Int.gcd c d = c' := by rw [hc, Nat.mul_div_cancel_left _ g2]
  have qd : d.natAbs / Int.gcd c d = d' := by rw [hd', Nat.mul_div_cancel_left _ g2]
  have co1 : Nat.Coprime a' b' := by
    have := Nat.coprime_div_gcd_div_gcd (m := a.natAbs) (n := b.natAbs) (by rw [← e1]; exact g1)
    rw [← e1, qa, qb] at this
    exact this
  have co2 : Nat.Coprime c' d' := by
    have := Nat.coprime_div_gcd_div_gcd (m := c.natAbs) (n := d.natAbs) (by rw [← e2]; exact g2)
    rw [← e2, qc, qd] at this
    exact this
  have hx : a' * d' = c' * b' := by
    rw [ha, hb', hc, hd'] at hn
    have : Int.gcd a b * Int.gcd c d * (a' * d') = Int.gcd a b * Int.gcd c d * (c' * b') := by
      calc _ = Int.gcd a b * a' * (Int.gcd c d * d') := by grind
        _ = Int.gcd c d * c' * (Int.gcd a b * b') := hn
        _ = _ := by grind
    exact Nat.eq_of_mul_eq_mul_left (Nat.mul_pos g1 g2) this
  have hbd : b' = d' := Nat.dvd_antisymm (co1.symm.dvd_of_dvd_mul_left (by rw [hx]; exact Nat.dvd_mul_left _ _)) (co2.symm.dvd_of_dvd_mul_left (by rw [← hx]; exact Nat.dvd_mul_left _ _))
  have hdp : 0 < d' := by
    have : 0 < d.natAbs := Int.natAbs_pos.mpr hd
    rw [hd'] at this
    exact Nat.pos_of_mul_pos_left this
  have h1 : zPart a b 1 = zPart c d 1 := by rw [zPart_1 hb, zPart_1 hd, qb, qd, hbd]
  rcases hp with rfl | rfl
  · have k1 := zPart_x a b
    have k2 := zPart_x c d
    rw [h1] at k1
    have k3 : (b * d) * zPart a b 0 = (b * d) * zPart c d 0 := by
      calc _ = (zPart a b 0 * b) * d := by grind
        _ = (a * d) * zPart c d 1 := by rw [k1]; grind
        _ = (c * zPart c d 1) * b := by rw [h]; grind
        _ = _ := by rw [← k2]; grind
    exact Int.eq_of_mul_eq_mul_left (Int.mul_ne_zero hb hd) k3
  · exact h1
theorem mRul_sys {m n kd sh : Int} {E : Nat → Int → Int} {u p : Int} (hp : 0 ≤ p ∧ p < m * n) (hu : u < tCnt kd m n) : mSys E m n kd kd sh 0 p u = mRul E m n kd sh u p := by
  unfold mSys mRul
  rw [if_pos rfl, Int.sub_zero, Int.zero_mul, Int.add_zero, if_pos hu, if_pos hp.2, Int.add_zero]
theorem mSys_C {m n kd sh : Int} {E : Nat → Int → Int} {p : Int} : mSys E m n kd kd sh 0 p (tCnt kd m n) = mCe E n p := by
  unfold mSys mCe
  rw [if_pos rfl, Int.sub_zero, if_neg (Int.lt_irrefl _), Int.zero_mul, Int.add_zero]
theorem cWit_on {m n kd sh : Int} {B E : Nat → Int → Int} {g : Int → Int} (hm : (1 ≤ m ∧ m ≤ 3) ∧ 1 ≤ n ∧ n ≤ 3) (hD1 : xUn kd 0 m n = tCnt kd m n) (hD2 : 0 ≤ tCnt kd m n ∧ tCnt kd m n ≤ 6) (hT : ∀ p q : Int, 0 ≤ p → p < m * n → 0 ≤ q → q ≤ xUn kd 0 m n → cTs kd kd 0 sh m n (xUn kd 0 m n) 0 (B 0) (B 1) (B 2) p q = mSys E m n kd kd sh 0 p q)
    (hg : ∀ r k : Int, 0 ≤ r → r ≤ 9 → 0 ≤ k → k ≤ 9 → g (10 * r + k) = if r = xUn kd 0 m n ∧ k = m * n then 1 else cGr kd kd 0 sh m n (xUn kd 0 m n) 0 (B 0) (B 1) (B 2) (n * m) k r) : eOn (tCnt kd m n + 1) (m * n) 10 g (w_T1 (tCnt kd m n) (m * n) (mRul E m n kd sh) (mCe E n)) := by
  have hr := mn_r hm
  intro p q p0 p1 q0 q1
  rw [hg p q p0 (by omega) q0 (by omega)]
  rw [hD1] at hT ⊢
  unfold w_T1
  by_cases hq : q = m * n
  · rw [if_pos hq]
    by_cases hp : p = tCnt kd m n
    · rw [if_pos ⟨hp, hq⟩, if_pos hp]
    · rw [if_neg (fun z => hp z.1), if_neg hp]
      unfold cGr
      rw [if_neg (show ¬ q < n * m by rw [Int.mul_comm]; omega)]
  · rw [if_neg hq, if_neg (fun z => hq z.2)]
    have hT := hT q p q0 (by omega) p0 (by omega)
    unfold cGr
    rw [if_pos (show q < n * m by rw [Int.mul_comm]; omega)]
    unfold cTs at hT
    rw [hT]
    by_cases hp : p = tCnt kd m n
    · rw [if_pos hp, hp, mSys_C]
    · rw [if_neg hp, mRul_sys ⟨q0, by omega⟩ (by omega)]
theorem cWit_safe {m n kd sh : Int} {E : Nat → Int → Int} (hm : (1 ≤ m ∧ m ≤ 3) ∧ 1 ≤ n ∧ n ≤ 3) (hk : 0 ≤ kd ∧ kd ≤ 6) (hs : -2 ≤ sh ∧ sh ≤ 2) (hf : zFit m n kd) (hE : tEn (E 0)) : eSafe (tCnt kd m n + 1) (m * n) (w_T1 (tCnt kd m n) (m * n) (mRul E m n kd sh) (mCe E n)) := by
  intro c c0 c1
  obtain ⟨B, ρ, R, K, d⟩ := w_DTe hE hm hk hs hf
  have hw := w_cntr hm hk hf.1
  have g := w_gT1 hm hw.1 d
  obtain ⟨σ, cs, V⟩ := w_Vn (tCnt kd m n + 1) (by omega) (w_T1 (tCnt kd m n) (m * n) (mRul E m n kd sh) (mCe E n)) c.toNat
  rw [show ((c.toNat : Nat) : Int) = c by omega] at V
  have h6 := hf.2
  have F := w_fit g (w_S2 (by omega)) V ⟨c0, c1⟩
  exact ⟨fun p q p0 p1 q0 q1 => F.1 p q p0 p1 q0 (by omega), F.2.1, fun a b p q p0 p1 pn q0 q1 => F.2.2 a b p q p0 p1 pn q0 (by omega)⟩
theorem mLf_e (E : Nat → Int → Int) (m n kd sh p : Int) : mLf E m n (zRu m n E kd sh) p = w_lf (m * n).toNat (mCe E n) (eRed (tCnt kd m n) (mRul E m n kd sh) (m * n).toNat) p := rfl
/-- there is a witness just where there is no solution -/
theorem cWit_un {m n kd sh : Int} {E : Nat → Int → Int} (hm : (1 ≤ m ∧ m ≤ 3) ∧ 1 ≤ n ∧ n ≤ 3) (hk : 0 ≤ kd ∧ kd ≤ 6) (hf : zFit m n kd) : eSol (m * n) (tCnt kd m n) (zSy m n E kd kd sh 0) ↔ mWf E m n (zRu m n E kd sh) = m * n := by
  have hr := mn_r hm
  have hw := w_cntr hm hk hf.1
  have eN : (((m * n).toNat : Nat) : Int) = m * n := by omega
  have h := w_dual (W := tCnt kd m n) (N := (m * n).toNat) (T0 := mRul E m n kd sh) (C := mCe E n) hw.1 (A := mSys E m n kd kd sh 0) (fun p u p0 p1 u0 u1 => mRul_sys ⟨p0, by omega⟩ u1) (fun p p0 p1 => mSys_C)
  rw [eN] at h
  rw [eqS]
  refine Iff.trans h ?_
  constructor
  · intro z
    unfold mWf
    have h0 := zFind_r (fun p _ => mLf E m n (zRu m n E kd sh) p) (m * n) 0 (m * n - 0).toNat 0
    apply Classical.byContradiction
    intro q
    have h1 := h0.2 (by omega)
    exact zFind_n (T := fun p _ => mLf E m n (zRu m n E kd sh) p) _ _ (by omega) (by omega) (z _ h0.1 (by omega))
  · intro z p p0 p1
    exact zFind_z (T := fun p _ => mLf E m n (zRu m n E kd sh) p) _ _ z p p0 p1
theorem zFind_lt {T : Int → Int → Int} {H c : Int} : ∀ (f : Nat) (r i : Int), r ≤ i → i < zFind T H c f r → T i c = 0 := by
  intro f
  induction f with
  | zero => intro r i h0 h1; have h1 : i < r := h1; omega
  | succ f ih =>
    intro r i h0 h1
    unfold zFind at h1
    split at h1
    · rename_i q
      by_cases e : i = r
      · rw [e]; exact q.2
      · exact ih (r + 1) i (by omega) h1
    · omega
/-- the witness -/
theorem cWit_eq {m n kd sh p part : Int} {E : Nat → Int → Int} {f g : Int → Int} (hm : (1 ≤ m ∧ m ≤ 3) ∧ 1 ≤ n ∧ n ≤ 3) (hk : 0 ≤ kd ∧ kd ≤ 6) (hfit : zFit m n kd) (hp : 0 ≤ p ∧ p < m * n) (hpt : part = 0 ∨ part = 1)
    (hf : eOn (tCnt kd m n + 1) (m * n) 10 f (eRed (tCnt kd m n + 1) (w_T1 (tCnt kd m n) (m * n) (mRul E m n kd sh) (mCe E n)) (m * n).toNat).1) (hg : ∀ k : Int, 0 ≤ k → k < m * n → g k = (eRed (tCnt kd m n + 1) (w_T1 (tCnt kd m n) (m * n) (mRul E m n kd sh) (mCe E n)) (m * n).toNat).2.2.2.2 k)
    (hw : mWf E m n (zRu m n E kd sh) ≠ m * n) : cBn g f (eRed (tCnt kd m n + 1) (w_T1 (tCnt kd m n) (m * n) (mRul E m n kd sh) (mCe E n)) (m * n).toNat).2.2.2.1 (1 + p) (m * n) 0 part = zPart (if p = mWf E m n (zRu m n E kd sh) then (zRu m n E kd sh).2.2.2.1 else if (zRu m n E kd sh).2.2.2.2 p < 0 then 0 else -(zRu m n E kd sh).1 ((zRu m n E kd sh).2.2.2.2 p) (mWf E m n (zRu m n E kd sh))) (mLf E m n (zRu m n E kd sh) (mWf E m n (zRu m n E kd sh))) part := by
  have hr := mn_r hm
  have hW := w_cntr hm hk hfit.1
  have eN : (((m * n).toNat : Nat) : Int) = m * n := by omega
  obtain ⟨F, hF⟩ : ∃ F, F = mWf E m n (zRu m n E kd sh) := ⟨_, rfl⟩
  rw [← hF] at hw ⊢
  have hF1 : F = zFind (fun p _ => mLf E m n (zRu m n E kd sh) p) (m * n) 0 (m * n - 0).toNat 0 := hF
  have h0 := zFind_r (fun p _ => mLf E m n (zRu m n E kd sh) p) (m * n) 0 (m * n - 0).toNat 0
  rw [← hF1] at h0
  have h1 := h0.2 (by omega)
  have hne : mLf E m n (zRu m n E kd sh) F ≠ 0 := by
    rw [hF1]
    exact zFind_n (T := fun p _ => mLf E m n (zRu m n E kd sh) p) _ _ (by omega) (by rw [← hF1]; omega)
  have hlt : ∀ q, 0 ≤ q → q < F → mLf E m n (zRu m n E kd sh) q = 0 := fun q q0 q1 => zFind_lt (T := fun p _ => mLf E m n (zRu m n E kd sh) p) _ _ q q0 (by rw [← hF1]; exact q1)
  have key := w_wit (W := tCnt kd m n) (N := (m * n).toNat) (T0 := mRul E m n kd sh) (C := mCe E n) hW.1 (f := F) h0.1 (by omega) hne hlt (x := p) hp.1 (by omega)
  obtain ⟨σ1, cs1, V1⟩ := w_Vn (tCnt kd m n + 1) (by omega) (w_T1 (tCnt kd m n) (m * n) (mRul E m n kd sh) (mCe E n)) (m * n).toNat
  rw [eN] at key V1
  have hd1 := V1.nz
  rw [show (if p = F then (zRu m n E kd sh).2.2.2.1 else if (zRu m n E kd sh).2.2.2.2 p < 0 then 0 else -(zRu m n E kd sh).1 ((zRu m n E kd sh).2.2.2.2 p) F) = w_zv (eRed (tCnt kd m n) (mRul E m n kd sh) (m * n).toNat) F p from rfl]
  rw [mLf_e] at hne ⊢
  generalize w_zv (eRed (tCnt kd m n) (mRul E m n kd sh) (m * n).toNat) F p = z at key ⊢
  generalize w_lf (m * n).toNat (mCe E n) (eRed (tCnt kd m n) (mRul E m n kd sh) (m * n).toNat) F = lf at key hne ⊢
  have hled : ∀ k, (eRed (tCnt kd m n + 1) (w_T1 (tCnt kd m n) (m * n) (mRul E m n kd sh) (mCe E n)) (m * n).toNat).2.2.2.2 k < tCnt kd m n + 1 := fun k => by
    have := eRed_r (tCnt kd m n + 1) (w_T1 (tCnt kd m n) (m * n) (mRul E m n kd sh) (mCe E n)) (by omega) (m * n).toNat
    have h2 := this.2.2 k
    omega
  generalize eRed (tCnt kd m n + 1) (w_T1 (tCnt kd m n) (m * n) (mRul E m n kd sh) (mCe E n)) (m * n).toNat = S at key hd1 hf hg hled ⊢
  unfold cBn
  rw [if_neg (show ¬ (1 + p = 0) by omega), show (((1 + p).natAbs : Nat) : Int) - 1 = p by omega, hg p hp.1 hp.2]
  by_cases hl : S.2.2.2.2 p < 0
  · rw [if_pos (Or.inl hl)]
    rw [if_pos hl, Int.mul_zero] at key
    have hz : z = 0 := by
      rcases Int.mul_eq_zero.mp key.symm with q | q
      · exact absurd q hd1
      · exact q
    rw [hz, zPart_00 hne hpt]
  · rw [if_neg hl] at key
    rw [hf _ _ (by omega) (hled p) (by omega) (Int.le_refl _)]
    by_cases h3 : S.1 (S.2.2.2.2 p) (m * n) = 0
    · rw [if_pos (Or.inr h3)]
      rw [h3, Int.mul_zero] at key
      have hz : z = 0 := by
        rcases Int.mul_eq_zero.mp key.symm with q | q
        · exact absurd q hd1
        · exact q
      rw [hz, zPart_00 hne hpt]
    · rw [if_neg (show ¬ (S.2.2.2.2 p < 0 ∨ S.1 (S.2.2.2.2 p) (m * n) = 0) by omega), if_pos (show (1 + p < 0 ↔ (0 : Int) = 1) by omega)]
      exact zPart_q hd1 hne (by rw [Int.mul_comm, key, Int.mul_comm]) hpt
