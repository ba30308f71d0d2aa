/-! THE CLASS: the witness -/
theorem zPart_x (a b : Int) : zPart a b 0 * b = a * zPart a b 1 := by
  unfold zPart
  rw [if_pos rfl, if_neg (show ¬ (1 : Int) = 0 by decide)]
  generalize hy : (if b < 0 then -(Int.gcd a b : Int) else (Int.gcd a b : Int)) = y
  have ha : y ∣ a := by rw [← hy]; split; exact Int.neg_dvd.mpr (Int.gcd_dvd_left ..); exact Int.gcd_dvd_left ..
  have hb : y ∣ b := by rw [← hy]; split; exact Int.neg_dvd.mpr (Int.gcd_dvd_right ..); exact Int.gcd_dvd_right ..
  obtain ⟨p, hp⟩ := ha
  obtain ⟨q, hq⟩ := hb
  by_cases h0 : y = 0
  · rw [h0] at hp hq ⊢
    rw [Int.tdiv_zero, Int.tdiv_zero]
    omega
  · rw [show a.tdiv y = p by rw [hp]; exact Int.mul_tdiv_cancel_left _ h0, show b.tdiv y = q by rw [hq]; exact Int.mul_tdiv_cancel_left _ h0]
    rw [hp, hq]
    grind
theorem zPart_q {a b c d part : Int} (hb : b ≠ 0) (hd : d ≠ 0) (h : a * d = c * b) (hp : part = 0 ∨ part = 1) : zPart a b part = zPart c d part := by
  have g1 : 0 < Int.gcd a b := Int.gcd_pos_of_ne_zero_right _ hb
  have g2 : 0 < Int.gcd c d := Int.gcd_pos_of_ne_zero_right _ hd
  have hn : a.natAbs * d.natAbs = c.natAbs * b.natAbs := by rw [← Int.natAbs_mul, ← Int.natAbs_mul, h]
  have e1 : Int.gcd a b = Nat.gcd a.natAbs b.natAbs := rfl
  have e2 : Int.gcd c d = Nat.gcd c.natAbs d.natAbs := rfl
  obtain ⟨a', ha⟩ : Int.gcd a b ∣ a.natAbs := by rw [e1]; exact Nat.gcd_dvd_left _ _
  obtain ⟨b', hb'⟩ : Int.gcd a b ∣ b.natAbs := by rw [e1]; exact Nat.gcd_dvd_right _ _
  obtain ⟨c', hc⟩ : Int.gcd c d ∣ c.natAbs := by rw [e2]; exact Nat.gcd_dvd_left _ _
  obtain ⟨d', hd'⟩ : Int.gcd c d ∣ d.natAbs := by rw [e2]; exact Nat.gcd_dvd_right _ _
  have qa : a.natAbs / Int.gcd a b = a' := by rw [ha, Nat.mul_div_cancel_left _ g1]
  have qb : b.natAbs / Int.gcd a b = b' := by rw [hb', Nat.mul_div_cancel_left _ g1]
  have qc : c.natAbs / Int.gcd c d = c' := by rw [hc, Nat.mul_div_cancel_left _ g2]
  have qd : d.natAbs / Int.gcd c d = d' := by rw [hd', Nat.mul_div_cancel_left _ g2]
  have co1 : Nat.Coprime a' b' := by
    have := Nat.coprime_div_gcd_div_gcd (m := a.natAbs) (n := b.natAbs) (by rw [← e1]; exact g1)
    rw [← e1, qa, qb] at this
    exact this
  have co2 : Nat.Coprime c' d' := by
    have := Nat.coprime_div_gcd_div_gcd (m := c.natAbs) (n := d.natAbs) (by rw [← e2]; exact g2)
    rw [← e2, qc, qd] at this
    exact this
  have hx : a' * d' = c' * b' := by
    rw [ha, hb', hc, hd'] at hn
    have : Int.gcd a b * Int.gcd c d * (a' * d') = Int.gcd a b * Int.gcd c d * (c' * b') := by
      calc _ = Int.gcd a b * a' * (Int.gcd c d * d') := by grind
        _ = Int.gcd c d * c' * (Int.gcd a b * b') := hn
        _ = _ := by grind
    exact Nat.eq_of_mul_eq_mul_left (Nat.mul_pos g1 g2) this
  have hbd : b' = d' := Nat.dvd_antisymm (co1.symm.dvd_of_dvd_mul_left (by rw [hx]; exact Nat.dvd_mul_left _ _)) (co2.symm.dvd_of_dvd_mul_left (by rw [← hx]; exact Nat.dvd_mul_left _ _))
  have hdp : 0 < d' := by
    have : 0 < d.natAbs := Int.natAbs_pos.mpr hd
    rw [hd'] at this
    exact Nat.pos_of_mul_pos_left this
  have h1 : zPart a b 1 = zPart c d 1 := by rw [zPart_1 hb, zPart_1 hd, qb, qd, hbd]
  rcases hp with rfl | rfl
  · have k1 := zPart_x a b
    have k2 := zPart_x c d
    rw [h1] at k1
    have k3 : (b * d) * zPart a b 0 = (b * d) * zPart c d 0 := by
      calc _ = (zPart a b 0 * b) * d := by grind
        _ = (a * d) * zPart c d 1 := by rw [k1]; grind
        _ = (c * zPart c d 1) * b := by rw [h]; grind
        _ = _ := by rw [← k2]; grind
    exact Int.eq_of_mul_eq_mul_left (Int.mul_ne_zero hb hd) k3
  · exact h1
theorem mRul_sys {m n kd sh : Int} {E : Nat → Int → Int} {u p : Int} (hp : 0 ≤ p ∧ p < m * n) (hu : u < tCnt kd m n) : mSys E m n kd kd sh 0 p u = mRul E m n kd sh u p := by
  unfold mSys mRul
  rw [if_pos rfl, Int.sub_zero, Int.zero_mul, Int.add_zero, if_pos hu, if_pos hp.2, Int.add_zero]
theorem mSys_C {m n kd sh : Int} {E : Nat → Int → Int} {p : Int} : mSys E m n kd kd sh 0 p (tCnt kd m n) = mCe E n p := by
  unfold mSys mCe
  rw [if_pos rfl, Int.sub_zero, if_neg (Int.lt_irrefl _), Int.zero_mul, Int.add_zero]
theorem cWit_on {m n kd sh : Int} {B E : Nat → Int → Int} {g : Int → Int} (hm : (1 ≤ m ∧ m ≤ 3) ∧ 1 ≤ n ∧ n ≤ 3) (hD1 : xUn kd 0 m n = tCnt kd m n) (hD2 : 0 ≤ tCnt kd m n ∧ tCnt kd m n ≤ 6) (hT : ∀ p q : Int, 0 ≤ p → p < m * n → 0 ≤ q → q ≤ xUn kd 0 m n → cTs kd kd 0 sh m n (xUn kd 0 m n) 0 (B 0) (B 1) (B 2) p q = mSys E m n kd kd sh 0 p q)
    (hg : ∀ r k : Int, 0 ≤ r → r ≤ 9 → 0 ≤ k → k ≤ 9 → g (10 * r + k) = if r = xUn kd 0 m n ∧ k = m * n then 1 else cGr kd kd 0 sh m n (xUn kd 0 m n) 0 (B 0) (B 1) (B 2) (n * m) k r) : eOn (tCnt kd m n + 1) (m * n) 10 g (w_T1 (tCnt kd m n) (m * n) (mRul E m n kd sh) (mCe E n)) := by
  have hr := mn_r hm
  intro p q p0 p1 q0 q1
  rw [hg p q p0 (by omega) q0 (by omega)]
  rw [hD1] at hT ⊢
  unfold w_T1
  by_cases hq : q = m * n
  · rw [if_pos hq]
    by_cases hp : p = tCnt kd m n
    · rw [if_pos ⟨hp, hq⟩, if_pos hp]
    · rw [if_neg (fun z => hp z.1), if_neg hp]
      unfold cGr
      rw [if_neg (show ¬ q < n * m by rw [Int.mul_comm]; omega)]
  · rw [if_neg hq, if_neg (fun z => hq z.2)]
    have hT := hT q p q0 (by omega) p0 (by omega)
    unfold cGr
    rw [if_pos (show q < n * m by rw [Int.mul_comm]; omega)]
    unfold cTs at hT
    rw [hT]
    by_cases hp : p = tCnt kd m n
    · rw [if_pos hp, hp, mSys_C]
    · rw [if_neg hp, mRul_sys ⟨q0, by omega⟩ (by omega)]
theorem cWit_safe {m n kd sh : Int} {E : Nat → Int → Int} (hm : (1 ≤ m ∧ m ≤ 3) ∧ 1 ≤ n ∧ n ≤ 3) (hk : 0 ≤ kd ∧ kd ≤ 6) (hs : -2 ≤ sh ∧ sh ≤ 2) (hf : zFit m n kd) (hE : tEn (E 0)) : eSafe (tCnt kd m n + 1) (m * n) (w_T1 (tCnt kd m n) (m * n) (mRul E m n kd sh) (mCe E n)) := by
  intro c c0 c1
  obtain ⟨B, ρ, R, K, d⟩ := w_DTe hE hm hk hs hf
  have hw := w_cntr hm hk hf.1
  have g := w_gT1 hm hw.1 d
  obtain ⟨σ, cs, V⟩ := w_Vn (tCnt kd m n + 1) (by omega) (w_T1 (tCnt kd m n) (m * n) (mRul E m n kd sh) (mCe E n)) c.toNat
  rw [show ((c.toNat : Nat) : Int) = c by omega] at V
  have h6 := hf.2
  have F := w_fit g (w_S2 (by omega)) V ⟨c0, c1⟩
  exact ⟨fun p q p0 p1 q0 q1 => F.1 p q p0 p1 q0 (by omega), F.2.1, fun a b p q p0 p1 pn q0 q1 => F.2.2 a b p q p0 p1 pn q0 (by omega)⟩
theorem mLf_e (E : Nat → Int → Int) (m n kd sh p : Int) : mLf E m n (zRu m n E kd sh) p = w_lf (m * n).toNat (mCe E n) (eRed (tCnt kd m n) (mRul E m n kd sh) (m * n).toNat) p := rfl
/-- there is a witness just where there is no solution -/
theorem cWit_un {m n kd sh : Int} {E : Nat → Int → Int} (hm : (1 ≤ m ∧ m ≤ 3) ∧ 1 ≤ n ∧ n ≤ 3) (hk : 0 ≤ kd ∧ kd ≤ 6) (hf : zFit m n kd) : eSol (m * n) (tCnt kd m n) (zSy m n E kd kd sh 0) ↔ mWf E m n (zRu m n E kd sh) = m * n := by
  have hr := mn_r hm
  have hw := w_cntr hm hk hf.1
  have eN : (((m * n).toNat : Nat) : Int) = m * n := by omega
  have h := w_dual (W := tCnt kd m n) (N := (m * n).toNat) (T0 := mRul E m n kd sh) (C := mCe E n) hw.1 (A := mSys E m n kd kd sh 0) (fun p u p0 p1 u0 u1 => mRul_sys ⟨p0, by omega⟩ u1) (fun p p0 p1 => mSys_C)
  rw [eN] at h
  rw [eqS]
  refine Iff.trans h ?_
  constructor
  · intro z
    unfold mWf
    have h0 := zFind_r (fun p _ => mLf E m n (zRu m n E kd sh) p) (m * n) 0 (m * n - 0).toNat 0
    apply Classical.byContradiction
    intro q
    have h1 := h0.2 (by omega)
    exact zFind_n (T := fun p _ => mLf E m n (zRu m n E kd sh) p) _ _ (by omega) (by omega) (z _ h0.1 (by omega))
  · intro z p p0 p1
    exact zFind_z (T := fun p _ => mLf E m n (zRu m n E kd sh) p) _ _ z p p0 p1
theorem zFind_lt {T : Int → Int → Int} {H c : Int} : ∀ (f : Nat) (r i : Int), r ≤ i → i < zFind T H c f r → T i c = 0 := by
  intro f
  induction f with
  | zero => intro r i h0 h1; have h1 : i < r := h1; omega
  | succ f ih =>
    intro r i h0 h1
    unfold zFind at h1
    split at h1
    · rename_i q
      by_cases e : i = r
      · rw [e]; exact q.2
      · exact ih (r + 1) i (by omega) h1
    · omega
/-- the witness -/
theorem cWit_eq {m n kd sh p part : Int} {E : Nat → Int → Int} {f g : Int → Int} (hm : (1 ≤ m ∧ m ≤ 3) ∧ 1 ≤ n ∧ n ≤ 3) (hk : 0 ≤ kd ∧ kd ≤ 6) (hfit : zFit m n kd) (hp : 0 ≤ p ∧ p < m * n) (hpt : part = 0 ∨ part = 1)
    (hf : eOn (tCnt kd m n + 1) (m * n) 10 f (eRed (tCnt kd m n + 1) (w_T1 (tCnt kd m n) (m * n) (mRul E m n kd sh) (mCe E n)) (m * n).toNat).1) (hg : ∀ k : Int, 0 ≤ k → k < m * n → g k = (eRed (tCnt kd m n + 1) (w_T1 (tCnt kd m n) (m * n) (mRul E m n kd sh) (mCe E n)) (m * n).toNat).2.2.2.2 k)
    (hw : mWf E m n (zRu m n E kd sh) ≠ m * n) : cBn g f (eRed (tCnt kd m n + 1) (w_T1 (tCnt kd m n) (m * n) (mRul E m n kd sh) (mCe E n)) (m * n).toNat).2.2.2.1 (1 + p) (m * n) 0 part = zPart (if p = mWf E m n (zRu m n E kd sh) then (zRu m n E kd sh).2.2.2.1 else if (zRu m n E kd sh).2.2.2.2 p < 0 then 0 else -(zRu m n E kd sh).1 ((zRu m n E kd sh).2.2.2.2 p) (mWf E m n (zRu m n E kd sh))) (mLf E m n (zRu m n E kd sh) (mWf E m n (zRu m n E kd sh))) part := by
  have hr := mn_r hm
  have hW := w_cntr hm hk hfit.1
  have eN : (((m * n).toNat : Nat) : Int) = m * n := by omega
  obtain ⟨F, hF⟩ : ∃ F, F = mWf E m n (zRu m n E kd sh) := ⟨_, rfl⟩
  rw [← hF] at hw ⊢
  have hF1 : F = zFind (fun p _ => mLf E m n (zRu m n E kd sh) p) (m * n) 0 (m * n - 0).toNat 0 := hF
  have h0 := zFind_r (fun p _ => mLf E m n (zRu m n E kd sh) p) (m * n) 0 (m * n - 0).toNat 0
  rw [← hF1] at h0
  have h1 := h0.2 (by omega)
  have hne : mLf E m n (zRu m n E kd sh) F ≠ 0 := by
    rw [hF1]
    exact zFind_n (T := fun p _ => mLf E m n (zRu m n E kd sh) p) _ _ (by omega) (by rw [← hF1]; omega)
  have hlt : ∀ q, 0 ≤ q → q < F → mLf E m n (zRu m n E kd sh) q = 0 := fun q q0 q1 => zFind_lt (T := fun p _ => mLf E m n (zRu m n E kd sh) p) _ _ q q0 (by rw [← hF1]; exact q1)
  have key := w_wit (W := tCnt kd m n) (N := (m * n).toNat) (T0 := mRul E m n kd sh) (C := mCe E n) hW.1 (f := F) h0.1 (by omega) hne hlt (x := p) hp.1 (by omega)
  obtain ⟨σ1, cs1, V1⟩ := w_Vn (tCnt kd m n + 1) (by omega) (w_T1 (tCnt kd m n) (m * n) (mRul E m n kd sh) (mCe E n)) (m * n).toNat
  rw [eN] at key V1
  have hd1 := V1.nz
  rw [show (if p = F then (zRu m n E kd sh).2.2.2.1 else if (zRu m n E kd sh).2.2.2.2 p < 0 then 0 else -(zRu m n E kd sh).1 ((zRu m n E kd sh).2.2.2.2 p) F) = w_zv (eRed (tCnt kd m n) (mRul E m n kd sh) (m * n).toNat) F p from rfl]
  rw [mLf_e] at hne ⊢
  generalize w_zv (eRed (tCnt kd m n) (mRul E m n kd sh) (m * n).toNat) F p = z at key ⊢
  generalize w_lf (m * n).toNat (mCe E n) (eRed (tCnt kd m n) (mRul E m n kd sh) (m * n).toNat) F = lf at key hne ⊢
  have hled : ∀ k, (eRed (tCnt kd m n + 1) (w_T1 (tCnt kd m n) (m * n) (mRul E m n kd sh) (mCe E n)) (m * n).toNat).2.2.2.2 k < tCnt kd m n + 1 := fun k => by
    have := eRed_r (tCnt kd m n + 1) (w_T1 (tCnt kd m n) (m * n) (mRul E m n kd sh) (mCe E n)) (by omega) (m * n).toNat
    have h2 := this.2.2 k
    omega
  generalize eRed (tCnt kd m n + 1) (w_T1 (tCnt kd m n) (m * n) (mRul E m n kd sh) (mCe E n)) (m * n).toNat = S at key hd1 hf hg hled ⊢
  unfold cBn
  rw [if_neg (show ¬ (1 + p = 0) by omega), show (((1 + p).natAbs : Nat) : Int) - 1 = p by omega, hg p hp.1 hp.2]
  by_cases hl : S.2.2.2.2 p < 0
  · rw [if_pos (Or.inl hl)]
    rw [if_pos hl, Int.mul_zero] at key
    have hz : z = 0 := by
      rcases Int.mul_eq_zero.mp key.symm with q | q
      · exact absurd q hd1
      · exact q
    rw [hz, zPart_00 hne hpt]
  · rw [if_neg hl] at key
    rw [hf _ _ (by omega) (hled p) (by omega) (Int.le_refl _)]
    by_cases h3 : S.1 (S.2.2.2.2 p) (m * n) = 0
    · rw [if_pos (Or.inr h3)]
      rw [h3, Int.mul_zero] at key
      have hz : z = 0 := by
        rcases Int.mul_eq_zero.mp key.symm with q | q
        · exact absurd q hd1
        · exact q
      rw [hz, zPart_00 hne hpt]
    · rw [if_neg (show ¬ (S.2.2.2.2 p < 0 ∨ S.1 (S.2.2.2.2 p) (m * n) = 0) by omega), if_pos (show (1 + p < 0 ↔ (0 : Int) = 1) by omega)]
      exact zPart_q hd1 hne (by rw [Int.mul_comm, key, Int.mul_comm]) hpt
set_option maxHeartbeats 4000000 in
set_option maxRecDepth 100000 in
theorem m_X0_witness (l : Launch) (D : ga_G) (ad : Nat → Nat) (J : Nat → Int) (B : Nat → Int → Int) (Q : Nat → Int → Option Nat) (Z : ga_H) (e i j part : Int) (p : Nat) (kd y sh : Int) (E : Nat → Int → Int) (hm : (1 ≤ J 30 ∧ J 30 ≤ 3) ∧ 1 ≤ J 31 ∧ J 31 ≤ 3) (h8 : 0 ≤ J 8 ∧ J 8 ≤ 6) (hq : 0 ≤ e → e < J 8 → Q 0 e = some p ∧ Z p = some (oE (9 + kd.toNat) [.int (iI y), .int (iI sh)]) ∧ (0 ≤ kd ∧ kd ≤ 6) ∧ -2 ≤ sh ∧ sh ≤ 2) (he0 : ∀ k : Int, -50 ≤ B 0 k ∧ B 0 k ≤ 50) (he1 : ∀ k : Int, -50 ≤ B 1 k ∧ B 1 k ≤ 50) (he2 : ∀ k : Int, -50 ≤ B 2 k ∧ B 2 k ≤ 50) (hRl : tRel (J 30) (J 31) B E) (hTE : tEn (E 0)) (hri : (-2147483648 ≤ e ∧ e < 2147483648) ∧ (-2147483648 ≤ i ∧ i < 2147483648) ∧ (-2147483648 ≤ j ∧ j < 2147483648) ∧ (-2147483648 ≤ part ∧ part < 2147483648)) : cM l D yX0_witness (ws_ yX0_witness cX0_witness 6 (some .long)) (gR 10) [.ref (ad 0), .int (iI e), .int (iI i), .int (iI j), .int (iI part)] ad J B Q Z (mL (fun r J1 B1 => r = (if cPrt (J 8) (J 30) (J 31) e i j part then (if zFit (J 30) (J 31) kd then (if (mWf E (J 30) (J 31) (zRu (J 30) (J 31) E kd sh)) = J 30 * J 31 then -4000000000000000003 else zPart (if J 31 * i + j = (mWf E (J 30) (J 31) (zRu (J 30) (J 31) E kd sh)) then (zRu (J 30) (J 31) E kd sh).2.2.2.1 else if (zRu (J 30) (J 31) E kd sh).2.2.2.2 (J 31 * i + j) < 0 then 0 else -(zRu (J 30) (J 31) E kd sh).1 ((zRu (J 30) (J 31) E kd sh).2.2.2.2 (J 31 * i + j)) (mWf E (J 30) (J 31) (zRu (J 30) (J 31) E kd sh))) (mLf E (J 30) (J 31) (zRu (J 30) (J 31) E kd sh) (mWf E (J 30) (J 31) (zRu (J 30) (J 31) E kd sh))) part) else -4000000000000000004) else -4000000000000000001) ∧ cSam J B J1 B1)) := by
  refine cc_met (own := RX0) 1 (by decide) rfl (Nat.le_of_ble_eq_true rfl) (L0 := [some (.ref (ad 0)), some (.int (iI e)), some (.int (iI i)), some (.int (iI j)), some (.int (iI part)), none]) rfl (fun X h hc hE => ?_)
  refine ga_aload_n (pc := 0) dX0_witness_0 rfl ?_
  refine ga_iload_n (pc := 1) dX0_witness_1 rfl ?_
  have jn36 : ∀ h : ga_H, cOn h ad J B Q Z → (cPrt (J 8) (J 30) (J 31) e i j part) → G X (gR 10) RX0 6 cX0_witness h 0 0 36 [some (.ref (ad 0)), some (.int (iI e)), some (.int (iI i)), some (.int (iI j)), some (.int (iI part)), none] [] := by
    intro h hc hv
    obtain ⟨hqe, hp, hkd, hsh⟩ := hq (by omega) (by omega)
    have hpo := pOn.of hkd hp
    refine ga_aload_n (pc := 36) dX0_witness_36 rfl ?_
    refine cc_g_equations (pc := 37) hc dX0_witness_37 ?_
    refine ga_iload_n (pc := 40) dX0_witness_40 rfl ?_
    refine ga_aald (pc := 41) (N := 6) (f := Q 0) (hc.1 25 (by decide)) (by omega) (by decide) dX0_witness_41 ?_
    refine ga_eq (pc := 42) (st1 := [.ref p]) rfl rfl (congrArg (fun x => va_rf x :: []) (hqe)) ?_
    refine ga_astore (pc := 42) (L1 := [some (.ref (ad 0)), some (.int (iI e)), some (.int (iI i)), some (.int (iI j)), some (.int (iI part)), some (.ref p)]) dX0_witness_42 rfl (by decide) rfl ?_
    refine ga_aload_n (pc := 44) dX0_witness_44 rfl ?_
    refine ga_aload (pc := 45) dX0_witness_45 rfl ?_
    refine k_X0_fits (pc := 47) (p := p) (kd := kd) (y := y) (sh := sh) hc (by first | exact hm | omega) (by first | exact hp | omega) (by first | exact hkd | omega) (rfl) ⟨Nat.le_of_ble_eq_true rfl, Nat.le_of_ble_eq_true rfl⟩ ⟨Nat.le_of_ble_eq_true rfl, Nat.le_of_ble_eq_true rfl⟩ (Nat.le_of_ble_eq_true rfl) dX0_witness_47 (fun h hc => ?_)
    refine ga_ifb_ne (pc := 50) (tgt := 59) dX0_witness_50 rfl (fun c50 => ?_) (fun c50 => ?_)
    · skip
      have hD := eqD hm hkd (by omega) (by omega) hRl hTE hsh
      refine ga_aload_n (pc := 59) dX0_witness_59 rfl ?_
      refine ga_aload (pc := 60) dX0_witness_60 rfl ?_
      refine k_X0_isSolvable (pc := 62) (p := p) (q := 0) (kx := kd) (kd := kd) (y := y) (sh := sh) (fr := 0) (T := (mSys E (J 30) (J 31) kd kd sh 0)) hc (hm) (hpo) (by omega) (he0) (he1) (he2) (hsh) (by omega) (by have := hD.2.1; omega) (hD.2.2.1) (hD.2.2.2.1) ⟨Nat.le_of_ble_eq_true rfl, Nat.le_of_ble_eq_true rfl⟩ ⟨Nat.le_of_ble_eq_true rfl, Nat.le_of_ble_eq_true rfl⟩ (Nat.le_of_ble_eq_true rfl) dX0_witness_62  (fun r62 J62 B62 hp62 h hc => ?_)
      obtain ⟨⟨eJ6, f6, g6, eB6, hf6, hg6⟩, hs6⟩ := hp62
      have hr62 : 0 ≤ r62 ∧ r62 ≤ 1 := by omega
      have hun := cWit_un (sh := sh) (E := E) hm hkd hD.2.2.2.2.1
      rw [hD.2.2.2.2.2, hD.1] at hs6
      subst eJ6
      subst eB6
      have hmn := mn_r hm
      have hD2 := eqD2 hm hD
      replace hc : cOn h ad (uN (uN (uN (uN (uN J 20 (J 30 * J 31)) 21 (xUn kd 0 (J 30) (J 31))) 22 ((eRed (J 30 * J 31) (mSys E (J 30) (J 31) kd kd sh 0) (xUn kd 0 (J 30) (J 31)).toNat).2.1)) 23 (zSg (eRed (J 30 * J 31) (mSys E (J 30) (J 31) kd kd sh 0) (xUn kd 0 (J 30) (J 31)).toNat).2.2.1)) 24 ((eRed (J 30 * J 31) (mSys E (J 30) (J 31) kd kd sh 0) (xUn kd 0 (J 30) (J 31)).toNat).2.2.2.1)) (uN (uN B 10 f6) 11 g6) Q Z := hc
      refine ga_if_eq (pc := 65) (tgt := 74) dX0_witness_65 rfl (by omega) (fun c65 => ?_) (fun c65 => ?_)
      · skip
        refine ga_aload_n (pc := 74) dX0_witness_74 rfl ?_
        refine ga_aload (pc := 75) dX0_witness_75 rfl ?_
        refine k_X0_laysWitness (pc := 77) (p := p) (q := 0) (kx := kd) (kd := kd) (y := y) (sh := sh) (fr := 0) hc (show (1 ≤ (J 30) ∧ (J 30) ≤ 3) ∧ 1 ≤ (J 31) ∧ (J 31) ≤ 3 from hm) (show pOn Z p kd kd y sh 0 0 from hpo) (show 0 ≤ 0 ∧ 0 ≤ 3 from by omega) (show ∀ k : Int, -50 ≤ (B 0) k ∧ (B 0) k ≤ 50 from he0) (show ∀ k : Int, -50 ≤ (B 1) k ∧ (B 1) k ≤ 50 from he1) (show ∀ k : Int, -50 ≤ (B 2) k ∧ (B 2) k ≤ 50 from he2) (show -2 ≤ sh ∧ sh ≤ 2 from hsh) (show kd < 2 ∨ (J 30) = (J 31) from by omega) (show 0 ≤ (xUn kd 0 ((J 30)) ((J 31))) ∧ (xUn kd 0 ((J 30)) ((J 31))) ≤ 9 from by have := hD.2.1; omega) ⟨Nat.le_of_ble_eq_true rfl, Nat.le_of_ble_eq_true rfl⟩ ⟨Nat.le_of_ble_eq_true rfl, Nat.le_of_ble_eq_true rfl⟩ (Nat.le_of_ble_eq_true rfl) dX0_witness_77 (fun J77 B77 hp77 h hc => ?_)
        obtain ⟨eJ7, g7, eB7, hg7⟩ := hp77
        subst eJ7
        subst eB7
        have hon7 : eOn (xUn kd 0 (J 30) (J 31) + 1) (J 30 * J 31) 10 g7 (w_T1 (tCnt kd (J 30) (J 31)) (J 30 * J 31) (mRul E (J 30) (J 31) kd sh) (mCe E (J 31))) := by rw [hD.1]; exact cWit_on hm hD.1 ⟨hD2.2.2.2.1, hD2.2.2.2.2⟩ hD.2.2.1 hg7
        have hsf7 : eSafe (xUn kd 0 (J 30) (J 31) + 1) (J 30 * J 31) (w_T1 (tCnt kd (J 30) (J 31)) (J 30 * J 31) (mRul E (J 30) (J 31) kd sh) (mCe E (J 31))) := by rw [hD.1]; exact cWit_safe hm hkd hsh hD.2.2.2.2.1 hTE
        replace hc : cOn h ad (uN (uN (uN (uN (uN (uN (uN J 20 (J 30 * J 31)) 21 (xUn kd 0 (J 30) (J 31))) 22 ((eRed (J 30 * J 31) (mSys E (J 30) (J 31) kd kd sh 0) (xUn kd 0 (J 30) (J 31)).toNat).2.1)) 23 (zSg (eRed (J 30 * J 31) (mSys E (J 30) (J 31) kd kd sh 0) (xUn kd 0 (J 30) (J 31)).toNat).2.2.1)) 24 ((eRed (J 30 * J 31) (mSys E (J 30) (J 31) kd kd sh 0) (xUn kd 0 (J 30) (J 31)).toNat).2.2.2.1)) 20 (xUn kd 0 (J 30) (J 31) + 1)) 21 (J 30 * J 31)) (uN (uN (uN B 10 f6) 11 g6) 10 g7) Q Z := hc
        refine ga_aload_n (pc := 80) dX0_witness_80 rfl ?_
        refine k_X0_reduce (pc := 81) (T := (w_T1 (tCnt kd (J 30) (J 31)) (J 30 * J 31) (mRul E (J 30) (J 31) kd sh) (mCe E (J 31)))) hc (show (0 ≤ (xUn kd 0 (J 30) (J 31) + 1) ∧ (xUn kd 0 (J 30) (J 31) + 1) ≤ 10) ∧ 0 ≤ (J 30 * J 31) ∧ (J 30 * J 31) ≤ 9 from by omega) (show eOn ((xUn kd 0 (J 30) (J 31) + 1)) ((J 30 * J 31)) 10 (g7) (w_T1 (tCnt kd (J 30) (J 31)) (J 30 * J 31) (mRul E (J 30) (J 31) kd sh) (mCe E (J 31))) from hon7) (show eSafe ((xUn kd 0 (J 30) (J 31) + 1)) ((J 30 * J 31)) (w_T1 (tCnt kd (J 30) (J 31)) (J 30 * J 31) (mRul E (J 30) (J 31) kd sh) (mCe E (J 31))) from hsf7) ⟨Nat.le_of_ble_eq_true rfl, Nat.le_of_ble_eq_true rfl⟩ ⟨Nat.le_of_ble_eq_true rfl, Nat.le_of_ble_eq_true rfl⟩ (Nat.le_of_ble_eq_true rfl) dX0_witness_81 (fun J81 B81 hp81 h hc => ?_)
        obtain ⟨eJ8, f8, g8, eB8, hf8, hg8⟩ := hp81
        replace hf8 : eOn (xUn kd 0 (J 30) (J 31) + 1) (J 30 * J 31) 10 f8 (eRed (xUn kd 0 (J 30) (J 31) + 1) (w_T1 (tCnt kd (J 30) (J 31)) (J 30 * J 31) (mRul E (J 30) (J 31) kd sh) (mCe E (J 31))) (J 30 * J 31).toNat).1 := hf8
        replace hg8 : ∀ k : Int, 0 ≤ k → k < J 30 * J 31 → g8 k = (eRed (xUn kd 0 (J 30) (J 31) + 1) (w_T1 (tCnt kd (J 30) (J 31)) (J 30 * J 31) (mRul E (J 30) (J 31) kd sh) (mCe E (J 31))) (J 30 * J 31).toNat).2.2.2.2 k := hg8
        subst eJ8
        subst eB8
        have hs8 := hsf7 (J 30 * J 31) (by omega) (Int.le_refl _)
        have hr8 := eRed_r (xUn kd 0 (J 30) (J 31) + 1) (w_T1 (tCnt kd (J 30) (J 31)) (J 30 * J 31) (mRul E (J 30) (J 31) kd sh) (mCe E (J 31))) (by omega) (J 30 * J 31).toNat
        have hcp := cPl hm (a := i) (j := j) (by omega) (by omega)
        have hcm : J 31 * i + j < J 30 * J 31 := by rw [Int.mul_comm (J 30)]; have : J 31 * (i + 1) ≤ J 31 * J 30 := Int.mul_le_mul_of_nonneg_left (by omega) (by omega); rw [Int.mul_add] at this; omega
        replace hc : cOn h ad (uN (uN (uN (uN (uN (uN (uN (uN (uN (uN J 20 (J 30 * J 31)) 21 (xUn kd 0 (J 30) (J 31))) 22 ((eRed (J 30 * J 31) (mSys E (J 30) (J 31) kd kd sh 0) (xUn kd 0 (J 30) (J 31)).toNat).2.1)) 23 (zSg (eRed (J 30 * J 31) (mSys E (J 30) (J 31) kd kd sh 0) (xUn kd 0 (J 30) (J 31)).toNat).2.2.1)) 24 ((eRed (J 30 * J 31) (mSys E (J 30) (J 31) kd kd sh 0) (xUn kd 0 (J 30) (J 31)).toNat).2.2.2.1)) 20 (xUn kd 0 (J 30) (J 31) + 1)) 21 (J 30 * J 31)) 22 ((eRed (xUn kd 0 (J 30) (J 31) + 1) (w_T1 (tCnt kd (J 30) (J 31)) (J 30 * J 31) (mRul E (J 30) (J 31) kd sh) (mCe E (J 31))) (J 30 * J 31).toNat).2.1)) 23 (zSg (eRed (xUn kd 0 (J 30) (J 31) + 1) (w_T1 (tCnt kd (J 30) (J 31)) (J 30 * J 31) (mRul E (J 30) (J 31) kd sh) (mCe E (J 31))) (J 30 * J 31).toNat).2.2.1)) 24 ((eRed (xUn kd 0 (J 30) (J 31) + 1) (w_T1 (tCnt kd (J 30) (J 31)) (J 30 * J 31) (mRul E (J 30) (J 31) kd sh) (mCe E (J 31))) (J 30 * J 31).toNat).2.2.2.1)) (uN (uN (uN (uN (uN B 10 f6) 11 g6) 10 g7) 10 f8) 11 g8) Q Z := hc
        refine ga_aload_n (pc := 84) dX0_witness_84 rfl ?_
        refine ga_iconst (pc := 85) dX0_witness_85 ?_
        refine ga_aload_n (pc := 86) dX0_witness_86 rfl ?_
        refine cc_g_now (pc := 87) hc dX0_witness_87 ?_
        refine ga_getN (pc := 90) (C := RX4) (T := TX4) (N := 5) (v := .int (iI (J 31))) in_X4 rfl (hc.1 4 (by decide)) 1 (by decide) (ga_nt q309 rfl) rfl rfl dX0_witness_90 ?_
        refine ga_iload_n (pc := 93) dX0_witness_93 rfl ?_
        refine ga_imul (pc := 94) dX0_witness_94 ?_
        refine ga_iadd (pc := 95) dX0_witness_95 ?_
        refine ga_iload_n (pc := 96) dX0_witness_96 rfl ?_
        refine ga_iadd (pc := 97) dX0_witness_97 ?_
        refine ga_topi (pc := 98) (b := 1 + (J 31 * i + j)) (by omega) ?_
        refine ga_aload_n (pc := 98) dX0_witness_98 rfl ?_
        refine cc_g_gridUnknowns (pc := 99) (z := J 30 * J 31) hc rfl dX0_witness_99 ?_
        refine ga_iconst (pc := 102) dX0_witness_102 ?_
        refine ga_iload (pc := 103) dX0_witness_103 rfl ?_
        refine k_X0_bound (pc := 105) (code := (1 + (J 31 * i + j))) (col := (J 30 * J 31)) (less := 0) (part := part) (z := cBn (g8) (f8) (((eRed (xUn kd 0 (J 30) (J 31) + 1) (w_T1 (tCnt kd (J 30) (J 31)) (J 30 * J 31) (mRul E (J 30) (J 31) kd sh) (mCe E (J 31))) (J 30 * J 31).toNat).2.2.2.1)) (1 + (J 31 * i + j)) (J 30 * J 31) 0 part) hc (show (-10 ≤ (1 + (J 31 * i + j)) ∧ (1 + (J 31 * i + j)) ≤ 10) ∧ (0 ≤ (J 30 * J 31) ∧ (J 30 * J 31) ≤ 9) ∧ (0 = 0 ∨ 0 = 1) ∧ (part = 0 ∨ part = 1) from by omega) (show (1 + (J 31 * i + j)) ≠ 0 → -1 ≤ g8 (((1 + (J 31 * i + j)).natAbs : Int) - 1) ∧ g8 (((1 + (J 31 * i + j)).natAbs : Int) - 1) ≤ 9 from fun z => by have e1 : (((1 + (J 31 * i + j)).natAbs : Nat) : Int) - 1 = J 31 * i + j := (by omega); rw [e1, hg8 _ (by omega) (by omega)]; have := hr8.2.2 (J 31 * i + j); omega) (show (1 + (J 31 * i + j)) ≠ 0 → 0 ≤ g8 (((1 + (J 31 * i + j)).natAbs : Int) - 1) → z40 (f8 (10 * g8 (((1 + (J 31 * i + j)).natAbs : Int) - 1) + (J 30 * J 31))) from fun z z2 => by have e1 : (((1 + (J 31 * i + j)).natAbs : Nat) : Int) - 1 = J 31 * i + j := (by omega); rw [e1, hg8 _ (by omega) (by omega)] at z2 ⊢; have h7 := hr8.2.2 (J 31 * i + j); rw [hf8 _ _ z2 (by omega) (by omega) (Int.le_refl _)]; exact hs8.1 _ _ z2 (by omega) (by omega) (Int.le_refl _)) (show z40 (((eRed (xUn kd 0 (J 30) (J 31) + 1) (w_T1 (tCnt kd (J 30) (J 31)) (J 30 * J 31) (mRul E (J 30) (J 31) kd sh) (mCe E (J 31))) (J 30 * J 31).toNat).2.2.2.1)) ∧ ((eRed (xUn kd 0 (J 30) (J 31) + 1) (w_T1 (tCnt kd (J 30) (J 31)) (J 30 * J 31) (mRul E (J 30) (J 31) kd sh) (mCe E (J 31))) (J 30 * J 31).toNat).2.2.2.1) ≠ 0 from ⟨hs8.2.1.2, hs8.2.1.1⟩) (rfl) ⟨Nat.le_of_ble_eq_true rfl, Nat.le_of_ble_eq_true rfl⟩ ⟨Nat.le_of_ble_eq_true rfl, Nat.le_of_ble_eq_true rfl⟩ (Nat.le_of_ble_eq_true rfl) dX0_witness_105 (fun h hc => ?_)
        exact cc_lret hc hE dX0_witness_108 (⟨_, rfl, by dsimp only; refine ⟨by rw [if_pos hv, if_pos hD.2.2.2.2.1, if_neg (fun z => by rcases hs6 with q | q; omega; exact q.2 (hun.mpr z))]; rw [hD.1] at hf8 hg8 ⊢; exact cWit_eq hm hkd hD.2.2.2.2.1 ⟨by omega, hcm⟩ (by omega) hf8 hg8 (fun z => by rcases hs6 with q | q; omega; exact q.2 (hun.mpr z)), ?_⟩; exact (((((((((((((((cSam.refl J B).uJ (by decide)).uJ (by decide)).uJ (by decide)).uJ (by decide)).uJ (by decide)).uJ (by decide)).uJ (by decide)).uJ (by decide)).uJ (by decide)).uJ (by decide)).uB (by decide)).uB (by decide)).uB (by decide)).uB (by decide)).uB (by decide)⟩)
      · skip
        refine ga_bipush (pc := 68) dX0_witness_68 rfl ?_
        refine k_X0_far (pc := 70) (a := (-3)) (by omega) (rfl) ⟨Nat.le_of_ble_eq_true rfl, Nat.le_of_ble_eq_true rfl⟩ ⟨Nat.le_of_ble_eq_true rfl, Nat.le_of_ble_eq_true rfl⟩ (Nat.le_of_ble_eq_true rfl) dX0_witness_70 ?_
        exact cc_lret hc hE dX0_witness_73 (⟨_, rfl, by dsimp only; refine ⟨by rw [if_pos hv, if_pos hD.2.2.2.2.1, if_pos (hun.mp (by rcases hs6 with z | z; exact z.2; omega))]; omega, ?_⟩; exact ((((((cSam.refl J B).uJ (by decide)).uJ (by decide)).uJ (by decide)).uJ (by decide)).uJ (by decide)).uB (by decide) |>.uB (by decide)⟩)
    · skip
      refine ga_bipush (pc := 53) dX0_witness_53 rfl ?_
      refine k_X0_far (pc := 55) (a := (-4)) (by omega) (rfl) ⟨Nat.le_of_ble_eq_true rfl, Nat.le_of_ble_eq_true rfl⟩ ⟨Nat.le_of_ble_eq_true rfl, Nat.le_of_ble_eq_true rfl⟩ (Nat.le_of_ble_eq_true rfl) dX0_witness_55 ?_
      exact cc_lret hc hE dX0_witness_58 (⟨_, rfl, by dsimp only; exact ⟨by rw [if_pos hv, if_neg (fun z => by have := (zFit_i hm hkd).mp z; omega)]; omega, cSam.refl _ _⟩⟩)
  refine k_X0_isEquation (pc := 2) (e := e) hc (by first | exact hq | omega) (by first | exact h1 | omega) (rfl) ⟨Nat.le_of_ble_eq_true rfl, Nat.le_of_ble_eq_true rfl⟩ ⟨Nat.le_of_ble_eq_true rfl, Nat.le_of_ble_eq_true rfl⟩ (Nat.le_of_ble_eq_true rfl) dX0_witness_2 (fun h hc => ?_)
  refine ga_ifb_eq (pc := 5) (tgt := 31) dX0_witness_5 rfl (fun c5 => ?_) (fun c5 => ?_)
  · skip
    refine ga_iconst (pc := 31) dX0_witness_31 ?_
    refine k_X0_far (pc := 32) (a := (-1)) (by omega) (rfl) ⟨Nat.le_of_ble_eq_true rfl, Nat.le_of_ble_eq_true rfl⟩ ⟨Nat.le_of_ble_eq_true rfl, Nat.le_of_ble_eq_true rfl⟩ (Nat.le_of_ble_eq_true rfl) dX0_witness_32 ?_
    exact cc_lret hc hE dX0_witness_35 (⟨_, rfl, by dsimp only; exact ⟨by rw [if_neg (by unfold cPrt; omega)]; omega, cSam.refl _ _⟩⟩)
  · skip
    refine ga_aload_n (pc := 8) dX0_witness_8 rfl ?_
    refine cc_g_now (pc := 9) hc dX0_witness_9 ?_
    refine ga_getN (pc := 12) (C := RX4) (T := TX4) (N := 5) (v := .ref (ad 9)) in_X4 rfl (hc.1 4 (by decide)) 4 (by decide) (ga_nt q318 rfl) rfl rfl dX0_witness_12 ?_
    refine ga_iload_n (pc := 15) dX0_witness_15 rfl ?_
    refine ga_iload_n (pc := 16) dX0_witness_16 rfl ?_
    refine k_X5_has_X0 (pc := 17) (b := (ad 9)) (e := (ad 18)) (ro := (J 30)) (co := (J 31)) (i := i) (j := j) (f := (B 2)) (hc.1 9 (by decide)) (hc.1 18 (by decide)) (by first | exact hrc | omega) (by first | exact h1 | omega) (rfl) ⟨Nat.le_of_ble_eq_true rfl, Nat.le_of_ble_eq_true rfl⟩ ⟨Nat.le_of_ble_eq_true rfl, Nat.le_of_ble_eq_true rfl⟩ (Nat.le_of_ble_eq_true rfl) dX0_witness_17 ?_
    refine ga_ifb_eq (pc := 20) (tgt := 31) dX0_witness_20 rfl (fun c20 => ?_) (fun c20 => ?_)
    · skip
      refine ga_iconst (pc := 31) dX0_witness_31 ?_
      refine k_X0_far (pc := 32) (a := (-1)) (by omega) (rfl) ⟨Nat.le_of_ble_eq_true rfl, Nat.le_of_ble_eq_true rfl⟩ ⟨Nat.le_of_ble_eq_true rfl, Nat.le_of_ble_eq_true rfl⟩ (Nat.le_of_ble_eq_true rfl) dX0_witness_32 ?_
      exact cc_lret hc hE dX0_witness_35 (⟨_, rfl, by dsimp only; exact ⟨by rw [if_neg (by unfold cPrt; omega)]; omega, cSam.refl _ _⟩⟩)
    · skip
      refine ga_iload (pc := 23) dX0_witness_23 rfl ?_
      refine k_X0_isPart (pc := 25) (a := part) (by omega) (rfl) ⟨Nat.le_of_ble_eq_true rfl, Nat.le_of_ble_eq_true rfl⟩ ⟨Nat.le_of_ble_eq_true rfl, Nat.le_of_ble_eq_true rfl⟩ (Nat.le_of_ble_eq_true rfl) dX0_witness_25 ?_
      refine ga_ifb_ne (pc := 28) (tgt := 36) dX0_witness_28 rfl (fun c28 => ?_) (fun c28 => ?_)
      · skip
        obtain ⟨hqe, hp, hkd, hsh⟩ := hq (by omega) (by omega)
        have hpo := pOn.of hkd hp
        exact jn36 h hc (by omega)
      · skip
        refine ga_iconst (pc := 31) dX0_witness_31 ?_
        refine k_X0_far (pc := 32) (a := (-1)) (by omega) (rfl) ⟨Nat.le_of_ble_eq_true rfl, Nat.le_of_ble_eq_true rfl⟩ ⟨Nat.le_of_ble_eq_true rfl, Nat.le_of_ble_eq_true rfl⟩ (Nat.le_of_ble_eq_true rfl) dX0_witness_32 ?_
        exact cc_lret hc hE dX0_witness_35 (⟨_, rfl, by dsimp only; exact ⟨by rw [if_neg (by unfold cPrt; omega)]; omega, cSam.refl _ _⟩⟩)
