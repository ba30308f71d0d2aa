/-! THE REFERENCE: equations, unknowns, what an unknown is taken times -/
theorem mn_r {m n : Int} (h : (1 ≤ m ∧ m ≤ 3) ∧ 1 ≤ n ∧ n ≤ 3) : 1 ≤ m * n ∧ m * n ≤ 9 := by
  obtain ⟨⟨h1, h2⟩, h3, h4⟩ := h
  rcases (by omega : m = 1 ∨ m = 2 ∨ m = 3) with rfl | rfl | rfl <;> omega
theorem dm_r {m n p : Int} (h : (1 ≤ m ∧ m ≤ 3) ∧ 1 ≤ n ∧ n ≤ 3) (hp : 0 ≤ p ∧ p < m * n) : (0 ≤ p.tdiv n ∧ p.tdiv n < m) ∧ (0 ≤ p.tmod n ∧ p.tmod n < n) ∧ p = n * p.tdiv n + p.tmod n := by
  obtain ⟨⟨h1, h2⟩, h3, h4⟩ := h
  rw [Int.tdiv_eq_ediv_of_nonneg hp.1, Int.tmod_eq_emod_of_nonneg hp.1]
  rcases (by omega : m = 1 ∨ m = 2 ∨ m = 3) with rfl | rfl | rfl <;> rcases (by omega : n = 1 ∨ n = 2 ∨ n = 3) with rfl | rfl | rfl <;> omega
abbrev mEq (I : Nat → Int) (A : Nat → Int → Int) : Prop := (0 ≤ I 5 ∧ I 5 ≤ 6) ∧ ∀ k : Int, 0 ≤ k → k < I 5 → (0 ≤ A 11 k ∧ A 11 k ≤ 6) ∧ -2 ≤ A 12 k ∧ A 12 k ≤ 2
def mFd (f : Int → Int) (p e k : Int) : Int → Int := fun x => if p ≤ x ∧ x < p + k then (lushr e (8 * (x - p))).bmod 256 else f x
theorem mFd_0 (f : Int → Int) (p e : Int) : mFd f p e 0 = f := by
  funext x
  unfold mFd
  rw [if_neg (by omega)]
theorem mFd_s (f : Int → Int) {p e k : Int} (hk : 0 ≤ k) : uZ (mFd f p e k) (p + k) (((lushr e (8 * k)).bmod 256).bmod 256) = mFd f p e (k + 1) := by
  funext x
  unfold uZ mFd
  by_cases h : x = p + k
  · rw [if_pos h, if_pos (by omega), Int.bmod_bmod, h, show p + k - p = k by omega]
  · rw [if_neg h]
    by_cases h2 : p ≤ x ∧ x < p + k
    · rw [if_pos h2, if_pos (by omega)]
    · rw [if_neg h2, if_neg (by omega)]
abbrev zLike (m n kind : Int) : Prop := kind ≤ 1 ∨ n = m
abbrev zIsU (kind i j : Int) : Prop := (kind = 4 ∧ i = j) ∨ (kind = 5 ∧ i ≤ j) ∨ (kind ≠ 4 ∧ kind ≠ 5 ∧ (kind ≠ 6 ∨ i < j))
/-- the unknowns' places among the first k: how many, and the row that holds them -/
def tPl (kind n : Int) (f : Int → Int) : Nat → Int × (Int → Int)
  | 0 => (0, f)
  | k + 1 => if zIsU kind ((k : Int).tdiv n) ((k : Int).tmod n) then ((tPl kind n f k).1 + 1, uZ (tPl kind n f k).2 (tPl kind n f k).1 k) else tPl kind n f k
theorem tPl_t {kind n p : Int} {f : Int → Int} (hp : 0 ≤ p) (h : zIsU kind (p.tdiv n) (p.tmod n)) : tPl kind n f (p + 1).toNat = ((tPl kind n f p.toNat).1 + 1, uZ (tPl kind n f p.toNat).2 (tPl kind n f p.toNat).1 p) := by
  rw [show (p + 1).toNat = p.toNat + 1 by omega]
  have e : ((p.toNat : Nat) : Int) = p := by omega
  show (if zIsU kind ((p.toNat : Int).tdiv n) ((p.toNat : Int).tmod n) then _ else _) = _
  rw [e, if_pos h]
theorem tPl_f {kind n p : Int} {f : Int → Int} (hp : 0 ≤ p) (h : ¬ zIsU kind (p.tdiv n) (p.tmod n)) : tPl kind n f (p + 1).toNat = tPl kind n f p.toNat := by
  rw [show (p + 1).toNat = p.toNat + 1 by omega]
  have e : ((p.toNat : Nat) : Int) = p := by omega
  show (if zIsU kind ((p.toNat : Int).tdiv n) ((p.toNat : Int).tmod n) then _ else _) = _
  rw [e, if_neg h]
theorem tPl_r (kind n : Int) (f : Int → Int) : ∀ k : Nat, 0 ≤ (tPl kind n f k).1 ∧ (tPl kind n f k).1 ≤ k := by
  intro k
  induction k with
  | zero => exact ⟨Int.le_refl _, Int.le_refl _⟩
  | succ k ih =>
    unfold tPl
    split
    · dsimp only; omega
    · omega
/-- what stands there are places -/
theorem tPl_p (kind n : Int) (f : Int → Int) : ∀ (k : Nat) (u : Int), 0 ≤ u → u < (tPl kind n f k).1 → 0 ≤ (tPl kind n f k).2 u ∧ (tPl kind n f k).2 u < k := by
  intro k
  induction k with
  | zero => intro u h0 h1; have : u < 0 := h1; omega
  | succ k ih =>
    intro u h0 h1
    unfold tPl at h1 ⊢
    by_cases hz : zIsU kind ((k : Int).tdiv n) ((k : Int).tmod n)
    · rw [if_pos hz] at h1 ⊢
      dsimp only at h1 ⊢
      unfold uZ
      by_cases hu : u = (tPl kind n f k).1
      · rw [if_pos hu]; omega
      · rw [if_neg hu]
        have := ih u h0 (by omega)
        omega
    · rw [if_neg hz] at h1 ⊢
      have := ih u h0 h1
      omega
def zSh (kind i j k l : Int) : Int := if kind = 4 then (if (i = k ∧ j = l) ∧ i = j then 1 else 0) else if kind = 5 then (if (i = k ∧ j = l) ∨ (i = l ∧ j = k) then 1 else 0) else if kind = 6 then (if i = j then 0 else if i = k ∧ j = l then 1 else if i = l ∧ j = k then -1 else 0) else if i = k ∧ j = l then 1 else 0
theorem zSh_r (kind i j k l : Int) : -1 ≤ zSh kind i j k l ∧ zSh kind i j k l ≤ 1 := by unfold zSh; (repeat' split) <;> omega
def mRight (A : Nat → Int → Int) (kind i j : Int) : Int := if kind = 0 then mE A 1 i j else if kind = 1 then 0 else if kind = 2 ∨ kind = 4 then -mE A 0 i j else mE A 0 j i
def mT0 (A : Nat → Int → Int) (kind shift i j k l : Int) : Int := (if j = l then mE A 0 i k else 0) + (if i = k ∧ j = l then shift else 0) + (if i = k then mRight A kind l j else 0)
theorem mE_r {A : Nat → Int → Int} (h : tEn (A 0)) (t i j : Int) : -50 ≤ mE A t i j ∧ mE A t i j ≤ 50 := (h _).1
theorem mT0_r {A : Nat → Int → Int} (h : tEn (A 0)) {kind shift i j k l : Int} (hs : -2 ≤ shift ∧ shift ≤ 2) : -200 ≤ mT0 A kind shift i j k l ∧ mT0 A kind shift i j k l ≤ 200 := by
  have h1 := mE_r h 0 i k
  have h2 : -50 ≤ mRight A kind l j ∧ mRight A kind l j ≤ 50 := by
    have h3 := mE_r h 1 l j
    have h4 := mE_r h 0 l j
    have h5 := mE_r h 0 j l
    unfold mRight
    (repeat' split) <;> omega
  unfold mT0
  (repeat' split) <;> omega
/-- what stands at p, u of the system -/
def mTak (A : Nat → Int → Int) (n kind shape shift p pl : Int) (k : Nat) : Int := zsum (fun q => zSh shape (q.tdiv n) (q.tmod n) (pl.tdiv n) (pl.tmod n) * mT0 A kind shift (p.tdiv n) (p.tmod n) (q.tdiv n) (q.tmod n)) k
theorem zs_p {s t B : Int} (h : -1 ≤ s ∧ s ≤ 1) (ht : -B ≤ t ∧ t ≤ B) : -B ≤ s * t ∧ s * t ≤ B := by
  rcases (by omega : s = -1 ∨ s = 0 ∨ s = 1) with rfl | rfl | rfl <;> omega
theorem zsum_r {f : Int → Int} {B : Int} (h : ∀ x : Int, -B ≤ f x ∧ f x ≤ B) : ∀ k : Nat, -(k * B) ≤ zsum f k ∧ zsum f k ≤ k * B := by
  intro k
  induction k with
  | zero => exact ⟨by simp [zsum], by simp [zsum]⟩
  | succ k ih =>
    have := h k
    show -(((k + 1 : Nat) : Int) * B) ≤ zsum f k + f k ∧ zsum f k + f k ≤ ((k + 1 : Nat) : Int) * B
    rw [show ((k + 1 : Nat) : Int) * B = k * B + B by rw [Int.natCast_add, Int.add_mul]; omega]
    omega
theorem mTak_r {A : Nat → Int → Int} (h : tEn (A 0)) {n kind shape shift p pl : Int} (hs : -2 ≤ shift ∧ shift ≤ 2) {k : Nat} (hk : k ≤ 9) : -1800 ≤ mTak A n kind shape shift p pl k ∧ mTak A n kind shape shift p pl k ≤ 1800 := by
  have := zsum_r (f := fun q => zSh shape (q.tdiv n) (q.tmod n) (pl.tdiv n) (pl.tmod n) * mT0 A kind shift (p.tdiv n) (p.tmod n) (q.tdiv n) (q.tmod n)) (B := 200) (fun x => zs_p (zSh_r _ _ _ _ _) (mT0_r h hs)) k
  unfold mTak
  omega
set_option maxHeartbeats 4000000 in
set_option maxRecDepth 100000 in
theorem m_X8_feed (l : Launch) (D : ga_G) (mo : Nat) (ad : Nat → Nat) (I : Nat → Int) (A : Nat → Int → Int) (e k : Int) (ht : 0 ≤ I 17 ∧ I 17 ≤ 200) (h1 : (-9223372036854775808 ≤ e ∧ e < 9223372036854775808) ∧ (-2147483648 ≤ k ∧ k < 2147483648)) : mM l D yX8_feed (ws_ yX8_feed cX8_feed 5 (some .int)) (gR 1) [.long (lI e), .int (iI k)] mo ad I A (mI (fun r I1 A1 => if 1 ≤ k ∧ k ≤ 8 then (if I 17 + k > 200 then r = -2 ∧ I1 = I ∧ A1 = A else r = I 17 + k ∧ I1 = uN I 17 (I 17 + k) ∧ A1 = uN A 16 (mFd (A 16) (I 17) e k)) else r = -1 ∧ I1 = I ∧ A1 = A)) := by
  refine mm_met 1 rfl (Nat.le_of_ble_eq_true rfl) (L0 := [some (.ref mo), some (.long (lI e)), none, some (.int (iI k)), none]) rfl (fun X ok hE => ?_)
  refine ga_iload_n (pc := 0) dX8_feed_0 rfl ?_
  refine ga_i2l (pc := 1) dX8_feed_1 (by omega) ?_
  refine ga_lconst (pc := 2) 1 dX8_feed_2 rfl ?_
  refine ga_ldc2 (pc := 3) (8) dX8_feed_3 q1803 rfl ?_
  refine k_X8_in (pc := 6) (a := k) (b := 1) (c := (8)) (by omega) (rfl) ⟨Nat.le_of_ble_eq_true rfl, Nat.le_of_ble_eq_true rfl⟩ ⟨Nat.le_of_ble_eq_true rfl, Nat.le_of_ble_eq_true rfl⟩ (Nat.le_of_ble_eq_true rfl) dX8_feed_6 ?_
  refine ga_ifb_ne (pc := 9) (tgt := 14) dX8_feed_9 rfl (fun c9 => ?_) (fun c9 => ?_)
  · skip
    refine ga_aload_n (pc := 14) dX8_feed_14 rfl ?_
    refine mm_g17 (pc := 15) (z := I 17) rfl dX8_feed_15 ?_
    refine ga_iload_n (pc := 18) dX8_feed_18 rfl ?_
    refine ga_iadd (pc := 19) dX8_feed_19 ?_
    refine ga_sipush (pc := 20) dX8_feed_20 rfl ?_
    refine ga_icmp_le (pc := 23) (tgt := 29) dX8_feed_23 rfl (by omega) (by omega) (fun c23 => ?_) (fun c23 => ?_)
    · skip
      refine ga_iconst (pc := 29) dX8_feed_29 ?_
      refine ga_istore (pc := 30) (L1 := [some (.ref mo), some (.long (lI e)), none, some (.int (iI k)), some (.int (iI 0))]) dX8_feed_30 rfl (by decide) rfl ?_
      refine ga_heq (pc := 32) (h1 := mH mo ad (uN I 17 (I 17 + 0)) (uN A 16 (mFd (A 16) (I 17) e 0))) (congr (congrArg (mH mo ad) (by funext j; by_cases e0 : j = 17; (subst e0; exact (show (I 17) = (I 17 + 0) from by omega)); simp only [uN, if_neg e0])) (by funext j; by_cases e0 : j = 16; (subst e0; exact (show (A 16) = (mFd (A 16) (I 17) e 0) from (mFd_0 _ _ _).symm)); simp only [uN, if_neg e0])) ?_
      have lp32 : ∀ (N32 : Nat) (x : Int), (0 ≤ x ∧ x ≤ k) → (k - x).toNat < N32 → G X (gR 1) RX8 5 cX8_feed (mH mo ad (uN I 17 (I 17 + x)) (uN A 16 (mFd (A 16) (I 17) e x))) 0 0 32 [some (.ref mo), some (.long (lI e)), none, some (.int (iI k)), some (.int (iI x))] [] := by
        intro N32
        induction N32 with
        | zero => intro x hk hN32; exact absurd hN32 (Nat.not_lt_zero _)
        | succ N32 ih32 =>
          intro x hk hN32
          refine ga_iload (pc := 32) dX8_feed_32 rfl ?_
          refine ga_iload_n (pc := 34) dX8_feed_34 rfl ?_
          refine ga_icmp_ge (pc := 35) (tgt := 72) dX8_feed_35 rfl (by omega) (by omega) (fun c35 => ?_) (fun c35 => ?_)
          · skip
            refine ga_aload_n (pc := 72) dX8_feed_72 rfl ?_
            refine mm_g17 (pc := 73) (z := I 17 + x) rfl dX8_feed_73 ?_
            exact mm_iret hE dX8_feed_76 (⟨_, rfl, by dsimp only; (obtain rfl : x = k := by omega); rw [if_pos (by omega), if_neg (by omega)]; exact ⟨rfl, rfl, rfl⟩⟩)
          · skip
            refine ga_aload_n (pc := 38) dX8_feed_38 rfl ?_
            refine mm_g16 (pc := 39) dX8_feed_39 ?_
            refine ga_aload_n (pc := 42) dX8_feed_42 rfl ?_
            refine mm_g17 (pc := 43) (z := I 17 + x) rfl dX8_feed_43 ?_
            refine ga_lload_n (pc := 46) dX8_feed_46 rfl ?_
            refine ga_bipush (pc := 47) dX8_feed_47 rfl ?_
            refine ga_iload (pc := 49) dX8_feed_49 rfl ?_
            refine ga_imul (pc := 51) dX8_feed_51 ?_
            refine ga_lushr (pc := 52) dX8_feed_52 ?_
            refine ga_l2i (pc := 53) dX8_feed_53 ?_
            refine ga_i2b (pc := 54) dX8_feed_54 ?_
            refine mm_ast16 (pc := 55) (f := mFd (A 16) (I 17) e x) (A1 := (uN A 16 (uZ (mFd (A 16) (I 17) e x) (I 17 + x) (((lushr e (8 * x)).bmod 256).bmod 256)))) ok (by omega) rfl (by funext j; by_cases e0 : j = 16; (subst e0; rfl); simp only [uN, if_neg e0]) dX8_feed_55 ?_
            refine ga_aload_n (pc := 56) dX8_feed_56 rfl ?_
            refine ga_dup (pc := 57) dX8_feed_57 rfl ?_
            refine mm_g17 (pc := 58) (z := I 17 + x) rfl dX8_feed_58 ?_
            refine ga_iconst (pc := 61) dX8_feed_61 ?_
            refine ga_iadd (pc := 62) dX8_feed_62 ?_
            refine mm_p17 (pc := 63) (I1 := (uN I 17 ((I 17 + x) + 1))) (by funext j; by_cases e0 : j = 17; (subst e0; rfl); simp only [uN, if_neg e0]) dX8_feed_63 ?_
            refine ga_iinc (pc := 66) (L1 := [some (.ref mo), some (.long (lI e)), none, some (.int (iI k)), some (.int (iI (x + 1)))]) dX8_feed_66 rfl rfl (by decide) rfl ?_
            refine ga_goto (pc := 69) (tgt := 32) dX8_feed_69 rfl ?_
            refine ga_heq (pc := 32) (h1 := mH mo ad (uN I 17 (I 17 + (x + 1))) (uN A 16 (mFd (A 16) (I 17) e (x + 1)))) (congr (congrArg (mH mo ad) (by funext j; by_cases e0 : j = 17; (subst e0; exact (show ((I 17 + x) + 1) = (I 17 + (x + 1)) from by omega)); simp only [uN, if_neg e0])) (by funext j; by_cases e0 : j = 16; (subst e0; exact (show (uZ (mFd (A 16) (I 17) e x) (I 17 + x) (((lushr e (8 * x)).bmod 256).bmod 256)) = (mFd (A 16) (I 17) e (x + 1)) from mFd_s _ hk.1)); simp only [uN, if_neg e0])) ?_
            exact ih32 (x + 1) (by omega) (by omega)
      exact lp32 _ 0 (by omega) (Nat.lt_succ_self _)
    · skip
      refine ga_bipush (pc := 26) dX8_feed_26 rfl ?_
      exact mm_iret hE dX8_feed_28 (⟨_, rfl, by dsimp only; rw [if_pos (by omega), if_pos (by omega)]; exact ⟨rfl, rfl, rfl⟩⟩)
  · skip
    refine ga_iconst (pc := 12) dX8_feed_12 ?_
    exact mm_iret hE dX8_feed_13 (⟨_, rfl, by dsimp only; rw [if_neg (by omega)]; exact ⟨rfl, rfl, rfl⟩⟩)
set_option maxHeartbeats 4000000 in
set_option maxRecDepth 100000 in
theorem m_X8_isEquation (l : Launch) (D : ga_G) (mo : Nat) (ad : Nat → Nat) (I : Nat → Int) (A : Nat → Int → Int) (e : Int) (hq : 0 ≤ I 5 ∧ I 5 ≤ 6) (h1 : (-2147483648 ≤ e ∧ e < 2147483648)) : mM l D yX8_isEquation (ws_ yX8_isEquation cX8_isEquation 2 (some .boolean)) (gR 1) [.int (iI e)] mo ad I A (mI (fun r I1 A1 => r = (bI (0 ≤ e ∧ e < I 5)) ∧ I1 = I ∧ A1 = A)) := by
  refine mm_met 0 rfl (Nat.le_of_ble_eq_true rfl) (L0 := [some (.ref mo), some (.int (iI e))]) rfl (fun X ok hE => ?_)
  refine ga_iload_n (pc := 0) dX8_isEquation_0 rfl ?_
  refine ga_i2l (pc := 1) dX8_isEquation_1 (by omega) ?_
  refine ga_lconst (pc := 2) 0 dX8_isEquation_2 rfl ?_
  refine ga_aload_n (pc := 3) dX8_isEquation_3 rfl ?_
  refine mm_g5 (pc := 4) (z := I 5) rfl dX8_isEquation_4 ?_
  refine ga_iconst (pc := 7) dX8_isEquation_7 ?_
  refine ga_isub (pc := 8) dX8_isEquation_8 ?_
  refine ga_i2l (pc := 9) dX8_isEquation_9 (by omega) ?_
  refine k_X8_in (pc := 10) (a := e) (b := 0) (c := ((I 5) - 1)) (by omega) (rfl) ⟨Nat.le_of_ble_eq_true rfl, Nat.le_of_ble_eq_true rfl⟩ ⟨Nat.le_of_ble_eq_true rfl, Nat.le_of_ble_eq_true rfl⟩ (Nat.le_of_ble_eq_true rfl) dX8_isEquation_10 ?_
  exact mm_zret hE dX8_isEquation_13 (by unfold bI; split <;> simp) (⟨_, rfl, bI_c (by omega), rfl, rfl⟩)
theorem k_X8_isEquation {X : ga_X} {nL : Nat} {cc : ByteArray} {mo : Nat} {ad : Nat → Nat} {I : Nat → Int} {A : Nat → Int → Int} {d pc : Nat} {L : List (Option Value)} {st : List Value} {e : Int} {z : Int} (ok : mOk mo ad) (hq : 0 ≤ I 5 ∧ I 5 ≤ 6) (h1 : (-2147483648 ≤ e ∧ e < 2147483648)) (hz : (bI (0 ≤ e ∧ e < I 5)) = z) (hR : 1 + 1 ≤ d ∧ 19 + 2 + 64 * 1 ≤ 64 * d) (hs : (st.map fun v => v.category).sum ≤ 8) (dd : decode cc pc = .ok (.invokevirtual 203, 3)) (kk : G X (gR d) RX8 nL cc (mH mo ad I A) 0 0 (pc + 3) L (.int (iI z) :: st)) : G X (gR d) RX8 nL cc (mH mo ad I A) 0 0 pc L (.int (iI e) :: .ref mo :: st) :=
  mm_run ok (m_X8_isEquation _ _ mo ad I A e hq h1) (lw_V q1851 q1853 qs61 q113 q1854) rfl (show ga_nn' yX8_isEquation 1 from (by unfold ga_nn'; decide +kernel)) hR hs dd rfl (fun v I1 A1 hp => by
    obtain ⟨r, rfl, hp⟩ := hp
    obtain ⟨e1, rfl, rfl⟩ := hp
    subst hz
    rw [e1]
    exact kk)
set_option maxHeartbeats 4000000 in
set_option maxRecDepth 100000 in
theorem m_X8_equation (l : Launch) (D : ga_G) (mo : Nat) (ad : Nat → Nat) (I : Nat → Int) (A : Nat → Int → Int) (k s : Int) (hq : 0 ≤ I 5 ∧ I 5 ≤ 6) (h1 : (-2147483648 ≤ k ∧ k < 2147483648) ∧ (-2147483648 ≤ s ∧ s < 2147483648)) : mM l D yX8_equation (ws_ yX8_equation cX8_equation 3 (some .int)) (gR 2) [.int (iI k), .int (iI s)] mo ad I A (mI (fun r I1 A1 => if (0 ≤ k ∧ k ≤ 6) ∧ -2 ≤ s ∧ s ≤ 2 then (if I 5 = 6 then r = -2 ∧ I1 = I ∧ A1 = A else r = I 5 ∧ I1 = uN I 5 (I 5 + 1) ∧ A1 = uN (uN A 11 (uZ (A 11) (I 5) k)) 12 (uZ (A 12) (I 5) s)) else r = -1 ∧ I1 = I ∧ A1 = A)) := by
  refine mm_met 0 rfl (Nat.le_of_ble_eq_true rfl) (L0 := [some (.ref mo), some (.int (iI k)), some (.int (iI s))]) rfl (fun X ok hE => ?_)
  refine ga_iload_n (pc := 0) dX8_equation_0 rfl ?_
  refine k_X8_isKind (pc := 1) (b := k) (by omega) (rfl) ⟨Nat.le_of_ble_eq_true rfl, Nat.le_of_ble_eq_true rfl⟩ ⟨Nat.le_of_ble_eq_true rfl, Nat.le_of_ble_eq_true rfl⟩ (Nat.le_of_ble_eq_true rfl) dX8_equation_1 ?_
  refine ga_ifb_eq (pc := 4) (tgt := 21) dX8_equation_4 rfl (fun c4 => ?_) (fun c4 => ?_)
  · skip
    refine ga_iconst (pc := 21) dX8_equation_21 ?_
    exact mm_iret hE dX8_equation_22 (⟨_, rfl, by dsimp only; rw [if_neg (by omega)]; exact ⟨rfl, rfl, rfl⟩⟩)
  · skip
    refine ga_iload_n (pc := 7) dX8_equation_7 rfl ?_
    refine ga_i2l (pc := 8) dX8_equation_8 (by omega) ?_
    refine ga_ldc2 (pc := 9) (-2) dX8_equation_9 q1846 rfl ?_
    refine ga_ldc2 (pc := 12) (2) dX8_equation_12 q1743 rfl ?_
    refine k_X8_in (pc := 15) (a := s) (b := (-2)) (c := (2)) (by omega) (rfl) ⟨Nat.le_of_ble_eq_true rfl, Nat.le_of_ble_eq_true rfl⟩ ⟨Nat.le_of_ble_eq_true rfl, Nat.le_of_ble_eq_true rfl⟩ (Nat.le_of_ble_eq_true rfl) dX8_equation_15 ?_
    refine ga_ifb_ne (pc := 18) (tgt := 23) dX8_equation_18 rfl (fun c18 => ?_) (fun c18 => ?_)
    · skip
      refine ga_aload_n (pc := 23) dX8_equation_23 rfl ?_
      refine mm_g5 (pc := 24) (z := I 5) rfl dX8_equation_24 ?_
      refine ga_bipush (pc := 27) dX8_equation_27 rfl ?_
      refine ga_icmp_ne (pc := 29) (tgt := 35) dX8_equation_29 rfl (by omega) (by omega) (fun c29 => ?_) (fun c29 => ?_)
      · skip
        refine ga_aload_n (pc := 35) dX8_equation_35 rfl ?_
        refine mm_g11 (pc := 36) dX8_equation_36 ?_
        refine ga_aload_n (pc := 39) dX8_equation_39 rfl ?_
        refine mm_g5 (pc := 40) (z := I 5) rfl dX8_equation_40 ?_
        refine ga_iload_n (pc := 43) dX8_equation_43 rfl ?_
        refine mm_ast11 (pc := 44) (f := A 11) (A1 := (uN A 11 (uZ (A 11) (I 5) k))) ok (by omega) rfl (rfl) dX8_equation_44 ?_
        refine ga_aload_n (pc := 45) dX8_equation_45 rfl ?_
        refine mm_g12 (pc := 46) dX8_equation_46 ?_
        refine ga_aload_n (pc := 49) dX8_equation_49 rfl ?_
        refine mm_g5 (pc := 50) (z := I 5) rfl dX8_equation_50 ?_
        refine ga_iload_n (pc := 53) dX8_equation_53 rfl ?_
        refine mm_ast12 (pc := 54) (f := A 12) (A1 := (uN (uN A 11 (uZ (A 11) (I 5) k)) 12 (uZ (A 12) (I 5) s))) ok (by omega) rfl (rfl) dX8_equation_54 ?_
        refine ga_aload_n (pc := 55) dX8_equation_55 rfl ?_
        refine ga_dup (pc := 56) dX8_equation_56 rfl ?_
        refine mm_g5 (pc := 57) (z := I 5) rfl dX8_equation_57 ?_
        refine ga_iconst (pc := 60) dX8_equation_60 ?_
        refine ga_iadd (pc := 61) dX8_equation_61 ?_
        refine mm_p5 (pc := 62) (I1 := (uN I 5 ((I 5) + 1))) (rfl) dX8_equation_62 ?_
        refine ga_aload_n (pc := 65) dX8_equation_65 rfl ?_
        refine mm_g5 (pc := 66) (z := (I 5) + 1) rfl dX8_equation_66 ?_
        refine ga_iconst (pc := 69) dX8_equation_69 ?_
        refine ga_isub (pc := 70) dX8_equation_70 ?_
        exact mm_iret hE dX8_equation_71 (⟨_, rfl, by dsimp only; rw [if_pos (by omega), if_neg (by omega)]; exact ⟨by omega, rfl, rfl⟩⟩)
      · skip
        refine ga_bipush (pc := 32) dX8_equation_32 rfl ?_
        exact mm_iret hE dX8_equation_34 (⟨_, rfl, by dsimp only; rw [if_pos (by omega), if_pos (by omega)]; exact ⟨rfl, rfl, rfl⟩⟩)
    · skip
      refine ga_iconst (pc := 21) dX8_equation_21 ?_
      exact mm_iret hE dX8_equation_22 (⟨_, rfl, by dsimp only; rw [if_neg (by omega)]; exact ⟨rfl, rfl, rfl⟩⟩)
set_option maxHeartbeats 4000000 in
set_option maxRecDepth 100000 in
theorem m_X8_change (l : Launch) (D : ga_G) (mo : Nat) (ad : Nat → Nat) (I : Nat → Int) (A : Nat → Int → Int) (e k s : Int) (hq : 0 ≤ I 5 ∧ I 5 ≤ 6) (h1 : (-2147483648 ≤ e ∧ e < 2147483648) ∧ (-2147483648 ≤ k ∧ k < 2147483648) ∧ (-2147483648 ≤ s ∧ s < 2147483648)) : mM l D yX8_change (ws_ yX8_change cX8_change 5 (some .int)) (gR 2) [.int (iI e), .int (iI k), .int (iI s)] mo ad I A (mI (fun r I1 A1 => if (0 ≤ e ∧ e < I 5) ∧ (0 ≤ k ∧ k ≤ 6) ∧ -2 ≤ s ∧ s ≤ 2 then r = A 11 e ∧ I1 = I ∧ A1 = uN (uN A 11 (uZ (A 11) e k)) 12 (uZ (A 12) e s) else r = -1 ∧ I1 = I ∧ A1 = A)) := by
  refine mm_met 1 rfl (Nat.le_of_ble_eq_true rfl) (L0 := [some (.ref mo), some (.int (iI e)), some (.int (iI k)), some (.int (iI s)), none]) rfl (fun X ok hE => ?_)
  refine ga_aload_n (pc := 0) dX8_change_0 rfl ?_
  refine ga_iload_n (pc := 1) dX8_change_1 rfl ?_
  refine k_X8_isEquation (pc := 2) (e := e) ok (by first | exact hq | omega) (by first | exact h1 | omega) (rfl) ⟨Nat.le_of_ble_eq_true rfl, Nat.le_of_ble_eq_true rfl⟩ (Nat.le_of_ble_eq_true rfl) dX8_change_2 ?_
  refine ga_ifb_eq (pc := 5) (tgt := 29) dX8_change_5 rfl (fun c5 => ?_) (fun c5 => ?_)
  · skip
    refine ga_iconst (pc := 29) dX8_change_29 ?_
    exact mm_iret hE dX8_change_30 (⟨_, rfl, by dsimp only; rw [if_neg (by omega)]; exact ⟨rfl, rfl, rfl⟩⟩)
  · skip
    refine ga_iload_n (pc := 8) dX8_change_8 rfl ?_
    refine k_X8_isKind (pc := 9) (b := k) (by omega) (rfl) ⟨Nat.le_of_ble_eq_true rfl, Nat.le_of_ble_eq_true rfl⟩ ⟨Nat.le_of_ble_eq_true rfl, Nat.le_of_ble_eq_true rfl⟩ (Nat.le_of_ble_eq_true rfl) dX8_change_9 ?_
    refine ga_ifb_eq (pc := 12) (tgt := 29) dX8_change_12 rfl (fun c12 => ?_) (fun c12 => ?_)
    · skip
      refine ga_iconst (pc := 29) dX8_change_29 ?_
      exact mm_iret hE dX8_change_30 (⟨_, rfl, by dsimp only; rw [if_neg (by omega)]; exact ⟨rfl, rfl, rfl⟩⟩)
    · skip
      refine ga_iload_n (pc := 15) dX8_change_15 rfl ?_
      refine ga_i2l (pc := 16) dX8_change_16 (by omega) ?_
      refine ga_ldc2 (pc := 17) (-2) dX8_change_17 q1846 rfl ?_
      refine ga_ldc2 (pc := 20) (2) dX8_change_20 q1743 rfl ?_
      refine k_X8_in (pc := 23) (a := s) (b := (-2)) (c := (2)) (by omega) (rfl) ⟨Nat.le_of_ble_eq_true rfl, Nat.le_of_ble_eq_true rfl⟩ ⟨Nat.le_of_ble_eq_true rfl, Nat.le_of_ble_eq_true rfl⟩ (Nat.le_of_ble_eq_true rfl) dX8_change_23 ?_
      refine ga_ifb_ne (pc := 26) (tgt := 31) dX8_change_26 rfl (fun c26 => ?_) (fun c26 => ?_)
      · skip
        refine ga_aload_n (pc := 31) dX8_change_31 rfl ?_
        refine mm_g11 (pc := 32) dX8_change_32 ?_
        refine ga_iload_n (pc := 35) dX8_change_35 rfl ?_
        refine mm_ald11 (pc := 36) (x := A 11 e) ok (by omega) (rfl) dX8_change_36 ?_
        refine ga_istore (pc := 37) (L1 := [some (.ref mo), some (.int (iI e)), some (.int (iI k)), some (.int (iI s)), some (.int (iI (A 11 e)))]) dX8_change_37 rfl (by decide) rfl ?_
        refine ga_aload_n (pc := 39) dX8_change_39 rfl ?_
        refine mm_g11 (pc := 40) dX8_change_40 ?_
        refine ga_iload_n (pc := 43) dX8_change_43 rfl ?_
        refine ga_iload_n (pc := 44) dX8_change_44 rfl ?_
        refine mm_ast11 (pc := 45) (f := A 11) (A1 := (uN A 11 (uZ (A 11) e k))) ok (by omega) rfl (rfl) dX8_change_45 ?_
        refine ga_aload_n (pc := 46) dX8_change_46 rfl ?_
        refine mm_g12 (pc := 47) dX8_change_47 ?_
        refine ga_iload_n (pc := 50) dX8_change_50 rfl ?_
        refine ga_iload_n (pc := 51) dX8_change_51 rfl ?_
        refine mm_ast12 (pc := 52) (f := A 12) (A1 := (uN (uN A 11 (uZ (A 11) e k)) 12 (uZ (A 12) e s))) ok (by omega) rfl (rfl) dX8_change_52 ?_
        refine ga_iload (pc := 53) dX8_change_53 rfl ?_
        exact mm_iret hE dX8_change_55 (⟨_, rfl, by dsimp only; rw [if_pos (by omega)]; exact ⟨rfl, rfl, rfl⟩⟩)
      · skip
        refine ga_iconst (pc := 29) dX8_change_29 ?_
        exact mm_iret hE dX8_change_30 (⟨_, rfl, by dsimp only; rw [if_neg (by omega)]; exact ⟨rfl, rfl, rfl⟩⟩)
set_option maxHeartbeats 4000000 in
set_option maxRecDepth 100000 in
theorem m_X8_isLike (l : Launch) (D : ga_G) (mo : Nat) (ad : Nat → Nat) (I : Nat → Int) (A : Nat → Int → Int) (k : Int) (hm : (1 ≤ I 3 ∧ I 3 ≤ 3) ∧ 1 ≤ I 4 ∧ I 4 ≤ 3) (h1 : (-2147483648 ≤ k ∧ k < 2147483648)) : mM l D yX8_isLike (ws_ yX8_isLike cX8_isLike 2 (some .boolean)) (gR 0) [.int (iI k)] mo ad I A (mI (fun r I1 A1 => r = (bI (zLike (I 3) (I 4) k)) ∧ I1 = I ∧ A1 = A)) := by
  refine mm_met 0 rfl (Nat.le_of_ble_eq_true rfl) (L0 := [some (.ref mo), some (.int (iI k))]) rfl (fun X ok hE => ?_)
  refine ga_iload_n (pc := 0) dX8_isLike_0 rfl ?_
  refine ga_iconst (pc := 1) dX8_isLike_1 ?_
  refine ga_icmp_le (pc := 2) (tgt := 16) dX8_isLike_2 rfl (by omega) (by omega) (fun c2 => ?_) (fun c2 => ?_)
  · skip
    refine ga_iconst (pc := 16) dX8_isLike_16 ?_
    refine ga_goto (pc := 17) (tgt := 21) dX8_isLike_17 rfl ?_
    exact mm_zret hE dX8_isLike_21 (by first | exact Or.inl rfl | exact Or.inr rfl) (⟨_, rfl, (bI_t (by omega)).symm, rfl, rfl⟩)
  · skip
    refine ga_aload_n (pc := 5) dX8_isLike_5 rfl ?_
    refine mm_g4 (pc := 6) (z := I 4) rfl dX8_isLike_6 ?_
    refine ga_aload_n (pc := 9) dX8_isLike_9 rfl ?_
    refine mm_g3 (pc := 10) (z := I 3) rfl dX8_isLike_10 ?_
    refine ga_icmp_ne (pc := 13) (tgt := 20) dX8_isLike_13 rfl (by omega) (by omega) (fun c13 => ?_) (fun c13 => ?_)
    · skip
      refine ga_iconst (pc := 20) dX8_isLike_20 ?_
      exact mm_zret hE dX8_isLike_21 (by first | exact Or.inl rfl | exact Or.inr rfl) (⟨_, rfl, (bI_f (by omega)).symm, rfl, rfl⟩)
    · skip
      refine ga_iconst (pc := 16) dX8_isLike_16 ?_
      refine ga_goto (pc := 17) (tgt := 21) dX8_isLike_17 rfl ?_
      exact mm_zret hE dX8_isLike_21 (by first | exact Or.inl rfl | exact Or.inr rfl) (⟨_, rfl, (bI_t (by omega)).symm, rfl, rfl⟩)
theorem k_X8_isLike {X : ga_X} {nL : Nat} {cc : ByteArray} {mo : Nat} {ad : Nat → Nat} {I : Nat → Int} {A : Nat → Int → Int} {d pc : Nat} {L : List (Option Value)} {st : List Value} {k : Int} {z : Int} (ok : mOk mo ad) (hm : (1 ≤ I 3 ∧ I 3 ≤ 3) ∧ 1 ≤ I 4 ∧ I 4 ≤ 3) (h1 : (-2147483648 ≤ k ∧ k < 2147483648)) (hz : (bI (zLike (I 3) (I 4) k)) = z) (hR : 0 + 1 ≤ d ∧ 19 + 2 + 64 * 0 ≤ 64 * d) (hs : (st.map fun v => v.category).sum ≤ 8) (dd : decode cc pc = .ok (.invokevirtual 209, 3)) (kk : G X (gR d) RX8 nL cc (mH mo ad I A) 0 0 (pc + 3) L (.int (iI z) :: st)) : G X (gR d) RX8 nL cc (mH mo ad I A) 0 0 pc L (.int (iI k) :: .ref mo :: st) :=
  mm_run ok (m_X8_isLike _ _ mo ad I A k hm h1) (lw_V q1863 q1865 qs63 q113 q1866) rfl (show ga_nn' yX8_isLike 1 from (by unfold ga_nn'; decide +kernel)) hR hs dd rfl (fun v I1 A1 hp => by
    obtain ⟨r, rfl, hp⟩ := hp
    obtain ⟨e1, rfl, rfl⟩ := hp
    subst hz
    rw [e1]
    exact kk)
set_option maxHeartbeats 4000000 in
set_option maxRecDepth 100000 in
theorem m_X8_rightOf (l : Launch) (D : ga_G) (mo : Nat) (ad : Nat → Nat) (I : Nat → Int) (A : Nat → Int → Int) (kind i j : Int) (h1 : (0 ≤ kind ∧ kind ≤ 6) ∧ (0 ≤ i ∧ i ≤ 2) ∧ 0 ≤ j ∧ j ≤ 2) : mM l D yX8_rightOf (ws_ yX8_rightOf cX8_rightOf 4 (some .int)) (gR 1) [.int (iI kind), .int (iI i), .int (iI j)] mo ad I A (mI (fun r I1 A1 => r = (mRight A kind i j) ∧ I1 = I ∧ A1 = A)) := by
  refine mm_met 0 rfl (Nat.le_of_ble_eq_true rfl) (L0 := [some (.ref mo), some (.int (iI kind)), some (.int (iI i)), some (.int (iI j))]) rfl (fun X ok hE => ?_)
  refine ga_iload_n (pc := 0) dX8_rightOf_0 rfl ?_
  refine ga_if_ne (pc := 1) (tgt := 14) dX8_rightOf_1 rfl (by omega) (fun c1 => ?_) (fun c1 => ?_)
  · skip
    refine ga_iload_n (pc := 14) dX8_rightOf_14 rfl ?_
    refine ga_iconst (pc := 15) dX8_rightOf_15 ?_
    refine ga_icmp_ne (pc := 16) (tgt := 23) dX8_rightOf_16 rfl (by omega) (by omega) (fun c16 => ?_) (fun c16 => ?_)
    · skip
      refine ga_iload_n (pc := 23) dX8_rightOf_23 rfl ?_
      refine ga_iconst (pc := 24) dX8_rightOf_24 ?_
      refine ga_icmp_eq (pc := 25) (tgt := 33) dX8_rightOf_25 rfl (by omega) (by omega) (fun c25 => ?_) (fun c25 => ?_)
      · skip
        refine ga_aload_n (pc := 33) dX8_rightOf_33 rfl ?_
        refine ga_iconst (pc := 34) dX8_rightOf_34 ?_
        refine ga_iload_n (pc := 35) dX8_rightOf_35 rfl ?_
        refine ga_iload_n (pc := 36) dX8_rightOf_36 rfl ?_
        refine k_X8_its (pc := 37) (t := 0) (i := i) (j := j) (z := mE A 0 i j) ok (by first | exact h1 | omega) (rfl) ⟨Nat.le_of_ble_eq_true rfl, Nat.le_of_ble_eq_true rfl⟩ (Nat.le_of_ble_eq_true rfl) dX8_rightOf_37 ?_
        refine ga_ineg (pc := 40) dX8_rightOf_40 ?_
        refine ga_goto (pc := 41) (tgt := 51) dX8_rightOf_41 rfl ?_
        exact mm_iret hE dX8_rightOf_51 (⟨_, rfl, by unfold mRight; first | (rw [if_pos (by omega)]) | (rw [if_neg (by omega), if_pos (by omega)]) | (rw [if_neg (by omega), if_neg (by omega), if_pos (by omega)]) | (rw [if_neg (by omega), if_neg (by omega), if_neg (by omega)]), rfl, rfl⟩)
      · skip
        refine ga_iload_n (pc := 28) dX8_rightOf_28 rfl ?_
        refine ga_iconst (pc := 29) dX8_rightOf_29 ?_
        refine ga_icmp_ne (pc := 30) (tgt := 44) dX8_rightOf_30 rfl (by omega) (by omega) (fun c30 => ?_) (fun c30 => ?_)
        · skip
          refine ga_aload_n (pc := 44) dX8_rightOf_44 rfl ?_
          refine ga_iconst (pc := 45) dX8_rightOf_45 ?_
          refine ga_iload_n (pc := 46) dX8_rightOf_46 rfl ?_
          refine ga_iload_n (pc := 47) dX8_rightOf_47 rfl ?_
          refine k_X8_its (pc := 48) (t := 0) (i := j) (j := i) (z := mE A 0 j i) ok (by first | exact h1 | omega) (rfl) ⟨Nat.le_of_ble_eq_true rfl, Nat.le_of_ble_eq_true rfl⟩ (Nat.le_of_ble_eq_true rfl) dX8_rightOf_48 ?_
          exact mm_iret hE dX8_rightOf_51 (⟨_, rfl, by unfold mRight; first | (rw [if_pos (by omega)]) | (rw [if_neg (by omega), if_pos (by omega)]) | (rw [if_neg (by omega), if_neg (by omega), if_pos (by omega)]) | (rw [if_neg (by omega), if_neg (by omega), if_neg (by omega)]), rfl, rfl⟩)
        · skip
          refine ga_aload_n (pc := 33) dX8_rightOf_33 rfl ?_
          refine ga_iconst (pc := 34) dX8_rightOf_34 ?_
          refine ga_iload_n (pc := 35) dX8_rightOf_35 rfl ?_
          refine ga_iload_n (pc := 36) dX8_rightOf_36 rfl ?_
          refine k_X8_its (pc := 37) (t := 0) (i := i) (j := j) (z := mE A 0 i j) ok (by first | exact h1 | omega) (rfl) ⟨Nat.le_of_ble_eq_true rfl, Nat.le_of_ble_eq_true rfl⟩ (Nat.le_of_ble_eq_true rfl) dX8_rightOf_37 ?_
          refine ga_ineg (pc := 40) dX8_rightOf_40 ?_
          refine ga_goto (pc := 41) (tgt := 51) dX8_rightOf_41 rfl ?_
          exact mm_iret hE dX8_rightOf_51 (⟨_, rfl, by unfold mRight; first | (rw [if_pos (by omega)]) | (rw [if_neg (by omega), if_pos (by omega)]) | (rw [if_neg (by omega), if_neg (by omega), if_pos (by omega)]) | (rw [if_neg (by omega), if_neg (by omega), if_neg (by omega)]), rfl, rfl⟩)
    · skip
      refine ga_iconst (pc := 19) dX8_rightOf_19 ?_
      refine ga_goto (pc := 20) (tgt := 51) dX8_rightOf_20 rfl ?_
      exact mm_iret hE dX8_rightOf_51 (⟨_, rfl, by unfold mRight; first | (rw [if_pos (by omega)]) | (rw [if_neg (by omega), if_pos (by omega)]) | (rw [if_neg (by omega), if_neg (by omega), if_pos (by omega)]) | (rw [if_neg (by omega), if_neg (by omega), if_neg (by omega)]), rfl, rfl⟩)
  · skip
    refine ga_aload_n (pc := 4) dX8_rightOf_4 rfl ?_
    refine ga_iconst (pc := 5) dX8_rightOf_5 ?_
    refine ga_iload_n (pc := 6) dX8_rightOf_6 rfl ?_
    refine ga_iload_n (pc := 7) dX8_rightOf_7 rfl ?_
    refine k_X8_its (pc := 8) (t := 1) (i := i) (j := j) (z := mE A 1 i j) ok (by first | exact h1 | omega) (rfl) ⟨Nat.le_of_ble_eq_true rfl, Nat.le_of_ble_eq_true rfl⟩ (Nat.le_of_ble_eq_true rfl) dX8_rightOf_8 ?_
    refine ga_goto (pc := 11) (tgt := 51) dX8_rightOf_11 rfl ?_
    exact mm_iret hE dX8_rightOf_51 (⟨_, rfl, by unfold mRight; first | (rw [if_pos (by omega)]) | (rw [if_neg (by omega), if_pos (by omega)]) | (rw [if_neg (by omega), if_neg (by omega), if_pos (by omega)]) | (rw [if_neg (by omega), if_neg (by omega), if_neg (by omega)]), rfl, rfl⟩)
theorem k_X8_rightOf {X : ga_X} {nL : Nat} {cc : ByteArray} {mo : Nat} {ad : Nat → Nat} {I : Nat → Int} {A : Nat → Int → Int} {d pc : Nat} {L : List (Option Value)} {st : List Value} {kind i j : Int} {z : Int} (ok : mOk mo ad) (h1 : (0 ≤ kind ∧ kind ≤ 6) ∧ (0 ≤ i ∧ i ≤ 2) ∧ 0 ≤ j ∧ j ≤ 2) (hz : (mRight A kind i j) = z) (hR : 1 + 1 ≤ d ∧ 19 + 4 + 64 * 1 ≤ 64 * d) (hs : (st.map fun v => v.category).sum ≤ 8) (dd : decode cc pc = .ok (.invokevirtual 215, 3)) (kk : G X (gR d) RX8 nL cc (mH mo ad I A) 0 0 (pc + 3) L (.int (iI z) :: st)) : G X (gR d) RX8 nL cc (mH mo ad I A) 0 0 pc L (.int (iI j) :: .int (iI i) :: .int (iI kind) :: .ref mo :: st) :=
  mm_run ok (m_X8_rightOf _ _ mo ad I A kind i j h1) (lw_V q1893 q1895 qs69 q113 q1896) rfl (show ga_nn' yX8_rightOf 3 from (by unfold ga_nn'; decide +kernel)) hR hs dd rfl (fun v I1 A1 hp => by
    obtain ⟨r, rfl, hp⟩ := hp
    obtain ⟨e1, rfl, rfl⟩ := hp
    subst hz
    rw [e1]
    exact kk)
set_option maxHeartbeats 4000000 in
set_option maxRecDepth 100000 in
theorem m_X8_shaped (l : Launch) (D : ga_G) (kind i j p q : Int) (h1 : (-2147483648 ≤ kind ∧ kind < 2147483648) ∧ (-2147483648 ≤ i ∧ i < 2147483648) ∧ (-2147483648 ≤ j ∧ j < 2147483648) ∧ (-2147483648 ≤ p ∧ p < 2147483648) ∧ (-2147483648 ≤ q ∧ q < 2147483648)) : pS l D yX8_shaped (ws_ yX8_shaped cX8_shaped 6 (some .int)) (gR 0) [.int (iI kind), .int (iI i), .int (iI j), .int (iI p), .int (iI q)] (some (.int (iI (zSh kind i j p q)))) := by
  intro h
  refine ga_met (own := RX8) 1 (by decide) rfl (Nat.le_of_ble_eq_true rfl) (L0 := [some (.int (iI kind)), some (.int (iI i)), some (.int (iI j)), some (.int (iI p)), some (.int (iI q)), none]) rfl (fun X _ _ hE => ?_)
  refine ga_iload_n (pc := 0) dX8_shaped_0 rfl ?_
  refine ga_iload_n (pc := 1) dX8_shaped_1 rfl ?_
  refine ga_icmp_ne (pc := 2) (tgt := 15) dX8_shaped_2 rfl (by omega) (by omega) (fun c2 => ?_) (fun c2 => ?_)
  · skip
    refine ga_iconst (pc := 15) dX8_shaped_15 ?_
    refine ga_istore (pc := 16) (L1 := [some (.int (iI kind)), some (.int (iI i)), some (.int (iI j)), some (.int (iI p)), some (.int (iI q)), some (.int (iI 0))]) dX8_shaped_16 rfl (by decide) rfl ?_
    refine ga_iload_n (pc := 18) dX8_shaped_18 rfl ?_
    by_cases c19_0 : kind = 4
    · refine ga_tabIn (pc := 19) (tgt := 44) 0 dX8_shaped_19 (by omega) (by omega) (by decide) rfl rfl ?_
      refine ga_iload (pc := 44) dX8_shaped_44 rfl ?_
      refine ga_if_eq (pc := 46) (tgt := 58) dX8_shaped_46 rfl (by omega) (fun c46 => ?_) (fun c46 => ?_)
      · skip
        refine ga_iconst (pc := 58) dX8_shaped_58 ?_
        exact ga_iret hE dX8_shaped_59 (Nat.le_of_ble_eq_true rfl) (Nat.le_of_ble_eq_true rfl) (⟨congrArg (fun z => some (Value.int (iI z))) (by unfold zSh; (repeat' split) <;> omega), rfl⟩)
      · skip
        refine ga_iload_n (pc := 49) dX8_shaped_49 rfl ?_
        refine ga_iload_n (pc := 50) dX8_shaped_50 rfl ?_
        refine ga_icmp_ne (pc := 51) (tgt := 58) dX8_shaped_51 rfl (by omega) (by omega) (fun c51 => ?_) (fun c51 => ?_)
        · skip
          refine ga_iconst (pc := 58) dX8_shaped_58 ?_
          exact ga_iret hE dX8_shaped_59 (Nat.le_of_ble_eq_true rfl) (Nat.le_of_ble_eq_true rfl) (⟨congrArg (fun z => some (Value.int (iI z))) (by unfold zSh; (repeat' split) <;> omega), rfl⟩)
        · skip
          refine ga_iconst (pc := 54) dX8_shaped_54 ?_
          refine ga_goto (pc := 55) (tgt := 59) dX8_shaped_55 rfl ?_
          exact ga_iret hE dX8_shaped_59 (Nat.le_of_ble_eq_true rfl) (Nat.le_of_ble_eq_true rfl) (⟨congrArg (fun z => some (Value.int (iI z))) (by unfold zSh; (repeat' split) <;> omega), rfl⟩)
    by_cases c19_1 : kind = 5
    · refine ga_tabIn (pc := 19) (tgt := 60) 1 dX8_shaped_19 (by omega) (by omega) (by decide) rfl rfl ?_
      refine ga_iload (pc := 60) dX8_shaped_60 rfl ?_
      refine ga_if_ne (pc := 62) (tgt := 76) dX8_shaped_62 rfl (by omega) (fun c62 => ?_) (fun c62 => ?_)
      · skip
        refine ga_iconst (pc := 76) dX8_shaped_76 ?_
        refine ga_goto (pc := 77) (tgt := 81) dX8_shaped_77 rfl ?_
        exact ga_iret hE dX8_shaped_81 (Nat.le_of_ble_eq_true rfl) (Nat.le_of_ble_eq_true rfl) (⟨congrArg (fun z => some (Value.int (iI z))) (by unfold zSh; (repeat' split) <;> omega), rfl⟩)
      · skip
        refine ga_iload_n (pc := 65) dX8_shaped_65 rfl ?_
        refine ga_iload (pc := 66) dX8_shaped_66 rfl ?_
        refine ga_icmp_ne (pc := 68) (tgt := 80) dX8_shaped_68 rfl (by omega) (by omega) (fun c68 => ?_) (fun c68 => ?_)
        · skip
          refine ga_iconst (pc := 80) dX8_shaped_80 ?_
          exact ga_iret hE dX8_shaped_81 (Nat.le_of_ble_eq_true rfl) (Nat.le_of_ble_eq_true rfl) (⟨congrArg (fun z => some (Value.int (iI z))) (by unfold zSh; (repeat' split) <;> omega), rfl⟩)
        · skip
          refine ga_iload_n (pc := 71) dX8_shaped_71 rfl ?_
          refine ga_iload_n (pc := 72) dX8_shaped_72 rfl ?_
          refine ga_icmp_ne (pc := 73) (tgt := 80) dX8_shaped_73 rfl (by omega) (by omega) (fun c73 => ?_) (fun c73 => ?_)
          · skip
            refine ga_iconst (pc := 80) dX8_shaped_80 ?_
            exact ga_iret hE dX8_shaped_81 (Nat.le_of_ble_eq_true rfl) (Nat.le_of_ble_eq_true rfl) (⟨congrArg (fun z => some (Value.int (iI z))) (by unfold zSh; (repeat' split) <;> omega), rfl⟩)
          · skip
            refine ga_iconst (pc := 76) dX8_shaped_76 ?_
            refine ga_goto (pc := 77) (tgt := 81) dX8_shaped_77 rfl ?_
            exact ga_iret hE dX8_shaped_81 (Nat.le_of_ble_eq_true rfl) (Nat.le_of_ble_eq_true rfl) (⟨congrArg (fun z => some (Value.int (iI z))) (by unfold zSh; (repeat' split) <;> omega), rfl⟩)
    by_cases c19_2 : kind = 6
    · refine ga_tabIn (pc := 19) (tgt := 82) 2 dX8_shaped_19 (by omega) (by omega) (by decide) rfl rfl ?_
      refine ga_iload_n (pc := 82) dX8_shaped_82 rfl ?_
      refine ga_iload_n (pc := 83) dX8_shaped_83 rfl ?_
      refine ga_icmp_ne (pc := 84) (tgt := 91) dX8_shaped_84 rfl (by omega) (by omega) (fun c84 => ?_) (fun c84 => ?_)
      · skip
        refine ga_iload (pc := 91) dX8_shaped_91 rfl ?_
        refine ga_if_eq (pc := 93) (tgt := 100) dX8_shaped_93 rfl (by omega) (fun c93 => ?_) (fun c93 => ?_)
        · skip
          refine ga_iload_n (pc := 100) dX8_shaped_100 rfl ?_
          refine ga_iload (pc := 101) dX8_shaped_101 rfl ?_
          refine ga_icmp_ne (pc := 103) (tgt := 115) dX8_shaped_103 rfl (by omega) (by omega) (fun c103 => ?_) (fun c103 => ?_)
          · skip
            refine ga_iconst (pc := 115) dX8_shaped_115 ?_
            exact ga_iret hE dX8_shaped_116 (Nat.le_of_ble_eq_true rfl) (Nat.le_of_ble_eq_true rfl) (⟨congrArg (fun z => some (Value.int (iI z))) (by unfold zSh; (repeat' split) <;> omega), rfl⟩)
          · skip
            refine ga_iload_n (pc := 106) dX8_shaped_106 rfl ?_
            refine ga_iload_n (pc := 107) dX8_shaped_107 rfl ?_
            refine ga_icmp_ne (pc := 108) (tgt := 115) dX8_shaped_108 rfl (by omega) (by omega) (fun c108 => ?_) (fun c108 => ?_)
            · skip
              refine ga_iconst (pc := 115) dX8_shaped_115 ?_
              exact ga_iret hE dX8_shaped_116 (Nat.le_of_ble_eq_true rfl) (Nat.le_of_ble_eq_true rfl) (⟨congrArg (fun z => some (Value.int (iI z))) (by unfold zSh; (repeat' split) <;> omega), rfl⟩)
            · skip
              refine ga_iconst (pc := 111) dX8_shaped_111 ?_
              refine ga_goto (pc := 112) (tgt := 116) dX8_shaped_112 rfl ?_
              exact ga_iret hE dX8_shaped_116 (Nat.le_of_ble_eq_true rfl) (Nat.le_of_ble_eq_true rfl) (⟨congrArg (fun z => some (Value.int (iI z))) (by unfold zSh; (repeat' split) <;> omega), rfl⟩)
        · skip
          refine ga_iconst (pc := 96) dX8_shaped_96 ?_
          refine ga_goto (pc := 97) (tgt := 116) dX8_shaped_97 rfl ?_
          exact ga_iret hE dX8_shaped_116 (Nat.le_of_ble_eq_true rfl) (Nat.le_of_ble_eq_true rfl) (⟨congrArg (fun z => some (Value.int (iI z))) (by unfold zSh; (repeat' split) <;> omega), rfl⟩)
      · skip
        refine ga_iconst (pc := 87) dX8_shaped_87 ?_
        refine ga_goto (pc := 88) (tgt := 116) dX8_shaped_88 rfl ?_
        exact ga_iret hE dX8_shaped_116 (Nat.le_of_ble_eq_true rfl) (Nat.le_of_ble_eq_true rfl) (⟨congrArg (fun z => some (Value.int (iI z))) (by unfold zSh; (repeat' split) <;> omega), rfl⟩)
    refine ga_tabOut (pc := 19) (tgt := 117) dX8_shaped_19 (by omega) (by omega) rfl ?_
    refine ga_iload (pc := 117) dX8_shaped_117 rfl ?_
    refine ga_if_eq (pc := 119) (tgt := 126) dX8_shaped_119 rfl (by omega) (fun c119 => ?_) (fun c119 => ?_)
    · skip
      refine ga_iconst (pc := 126) dX8_shaped_126 ?_
      exact ga_iret hE dX8_shaped_127 (Nat.le_of_ble_eq_true rfl) (Nat.le_of_ble_eq_true rfl) (⟨congrArg (fun z => some (Value.int (iI z))) (by unfold zSh; (repeat' split) <;> omega), rfl⟩)
    · skip
      refine ga_iconst (pc := 122) dX8_shaped_122 ?_
      refine ga_goto (pc := 123) (tgt := 127) dX8_shaped_123 rfl ?_
      exact ga_iret hE dX8_shaped_127 (Nat.le_of_ble_eq_true rfl) (Nat.le_of_ble_eq_true rfl) (⟨congrArg (fun z => some (Value.int (iI z))) (by unfold zSh; (repeat' split) <;> omega), rfl⟩)
  · skip
    refine ga_iload_n (pc := 5) dX8_shaped_5 rfl ?_
    refine ga_iload (pc := 6) dX8_shaped_6 rfl ?_
    refine ga_icmp_ne (pc := 8) (tgt := 15) dX8_shaped_8 rfl (by omega) (by omega) (fun c8 => ?_) (fun c8 => ?_)
    · skip
      refine ga_iconst (pc := 15) dX8_shaped_15 ?_
      refine ga_istore (pc := 16) (L1 := [some (.int (iI kind)), some (.int (iI i)), some (.int (iI j)), some (.int (iI p)), some (.int (iI q)), some (.int (iI 0))]) dX8_shaped_16 rfl (by decide) rfl ?_
      refine ga_iload_n (pc := 18) dX8_shaped_18 rfl ?_
      by_cases c19_0 : kind = 4
      · refine ga_tabIn (pc := 19) (tgt := 44) 0 dX8_shaped_19 (by omega) (by omega) (by decide) rfl rfl ?_
        refine ga_iload (pc := 44) dX8_shaped_44 rfl ?_
        refine ga_if_eq (pc := 46) (tgt := 58) dX8_shaped_46 rfl (by omega) (fun c46 => ?_) (fun c46 => ?_)
        · skip
          refine ga_iconst (pc := 58) dX8_shaped_58 ?_
          exact ga_iret hE dX8_shaped_59 (Nat.le_of_ble_eq_true rfl) (Nat.le_of_ble_eq_true rfl) (⟨congrArg (fun z => some (Value.int (iI z))) (by unfold zSh; (repeat' split) <;> omega), rfl⟩)
        · skip
          refine ga_iload_n (pc := 49) dX8_shaped_49 rfl ?_
          refine ga_iload_n (pc := 50) dX8_shaped_50 rfl ?_
          refine ga_icmp_ne (pc := 51) (tgt := 58) dX8_shaped_51 rfl (by omega) (by omega) (fun c51 => ?_) (fun c51 => ?_)
          · skip
            refine ga_iconst (pc := 58) dX8_shaped_58 ?_
            exact ga_iret hE dX8_shaped_59 (Nat.le_of_ble_eq_true rfl) (Nat.le_of_ble_eq_true rfl) (⟨congrArg (fun z => some (Value.int (iI z))) (by unfold zSh; (repeat' split) <;> omega), rfl⟩)
          · skip
            refine ga_iconst (pc := 54) dX8_shaped_54 ?_
            refine ga_goto (pc := 55) (tgt := 59) dX8_shaped_55 rfl ?_
            exact ga_iret hE dX8_shaped_59 (Nat.le_of_ble_eq_true rfl) (Nat.le_of_ble_eq_true rfl) (⟨congrArg (fun z => some (Value.int (iI z))) (by unfold zSh; (repeat' split) <;> omega), rfl⟩)
      by_cases c19_1 : kind = 5
      · refine ga_tabIn (pc := 19) (tgt := 60) 1 dX8_shaped_19 (by omega) (by omega) (by decide) rfl rfl ?_
        refine ga_iload (pc := 60) dX8_shaped_60 rfl ?_
        refine ga_if_ne (pc := 62) (tgt := 76) dX8_shaped_62 rfl (by omega) (fun c62 => ?_) (fun c62 => ?_)
        · skip
          refine ga_iconst (pc := 76) dX8_shaped_76 ?_
          refine ga_goto (pc := 77) (tgt := 81) dX8_shaped_77 rfl ?_
          exact ga_iret hE dX8_shaped_81 (Nat.le_of_ble_eq_true rfl) (Nat.le_of_ble_eq_true rfl) (⟨congrArg (fun z => some (Value.int (iI z))) (by unfold zSh; (repeat' split) <;> omega), rfl⟩)
        · skip
          refine ga_iload_n (pc := 65) dX8_shaped_65 rfl ?_
          refine ga_iload (pc := 66) dX8_shaped_66 rfl ?_
          refine ga_icmp_ne (pc := 68) (tgt := 80) dX8_shaped_68 rfl (by omega) (by omega) (fun c68 => ?_) (fun c68 => ?_)
          · skip
            refine ga_iconst (pc := 80) dX8_shaped_80 ?_
            exact ga_iret hE dX8_shaped_81 (Nat.le_of_ble_eq_true rfl) (Nat.le_of_ble_eq_true rfl) (⟨congrArg (fun z => some (Value.int (iI z))) (by unfold zSh; (repeat' split) <;> omega), rfl⟩)
          · skip
            refine ga_iload_n (pc := 71) dX8_shaped_71 rfl ?_
            refine ga_iload_n (pc := 72) dX8_shaped_72 rfl ?_
            refine ga_icmp_ne (pc := 73) (tgt := 80) dX8_shaped_73 rfl (by omega) (by omega) (fun c73 => ?_) (fun c73 => ?_)
            · skip
              refine ga_iconst (pc := 80) dX8_shaped_80 ?_
              exact ga_iret hE dX8_shaped_81 (Nat.le_of_ble_eq_true rfl) (Nat.le_of_ble_eq_true rfl) (⟨congrArg (fun z => some (Value.int (iI z))) (by unfold zSh; (repeat' split) <;> omega), rfl⟩)
            · skip
              refine ga_iconst (pc := 76) dX8_shaped_76 ?_
              refine ga_goto (pc := 77) (tgt := 81) dX8_shaped_77 rfl ?_
              exact ga_iret hE dX8_shaped_81 (Nat.le_of_ble_eq_true rfl) (Nat.le_of_ble_eq_true rfl) (⟨congrArg (fun z => some (Value.int (iI z))) (by unfold zSh; (repeat' split) <;> omega), rfl⟩)
      by_cases c19_2 : kind = 6
      · refine ga_tabIn (pc := 19) (tgt := 82) 2 dX8_shaped_19 (by omega) (by omega) (by decide) rfl rfl ?_
        refine ga_iload_n (pc := 82) dX8_shaped_82 rfl ?_
        refine ga_iload_n (pc := 83) dX8_shaped_83 rfl ?_
        refine ga_icmp_ne (pc := 84) (tgt := 91) dX8_shaped_84 rfl (by omega) (by omega) (fun c84 => ?_) (fun c84 => ?_)
        · skip
          refine ga_iload (pc := 91) dX8_shaped_91 rfl ?_
          refine ga_if_eq (pc := 93) (tgt := 100) dX8_shaped_93 rfl (by omega) (fun c93 => ?_) (fun c93 => ?_)
          · skip
            refine ga_iload_n (pc := 100) dX8_shaped_100 rfl ?_
            refine ga_iload (pc := 101) dX8_shaped_101 rfl ?_
            refine ga_icmp_ne (pc := 103) (tgt := 115) dX8_shaped_103 rfl (by omega) (by omega) (fun c103 => ?_) (fun c103 => ?_)
            · skip
              refine ga_iconst (pc := 115) dX8_shaped_115 ?_
              exact ga_iret hE dX8_shaped_116 (Nat.le_of_ble_eq_true rfl) (Nat.le_of_ble_eq_true rfl) (⟨congrArg (fun z => some (Value.int (iI z))) (by unfold zSh; (repeat' split) <;> omega), rfl⟩)
            · skip
              refine ga_iload_n (pc := 106) dX8_shaped_106 rfl ?_
              refine ga_iload_n (pc := 107) dX8_shaped_107 rfl ?_
              refine ga_icmp_ne (pc := 108) (tgt := 115) dX8_shaped_108 rfl (by omega) (by omega) (fun c108 => ?_) (fun c108 => ?_)
              · skip
                refine ga_iconst (pc := 115) dX8_shaped_115 ?_
                exact ga_iret hE dX8_shaped_116 (Nat.le_of_ble_eq_true rfl) (Nat.le_of_ble_eq_true rfl) (⟨congrArg (fun z => some (Value.int (iI z))) (by unfold zSh; (repeat' split) <;> omega), rfl⟩)
              · skip
                refine ga_iconst (pc := 111) dX8_shaped_111 ?_
                refine ga_goto (pc := 112) (tgt := 116) dX8_shaped_112 rfl ?_
                exact ga_iret hE dX8_shaped_116 (Nat.le_of_ble_eq_true rfl) (Nat.le_of_ble_eq_true rfl) (⟨congrArg (fun z => some (Value.int (iI z))) (by unfold zSh; (repeat' split) <;> omega), rfl⟩)
          · skip
            refine ga_iconst (pc := 96) dX8_shaped_96 ?_
            refine ga_goto (pc := 97) (tgt := 116) dX8_shaped_97 rfl ?_
            exact ga_iret hE dX8_shaped_116 (Nat.le_of_ble_eq_true rfl) (Nat.le_of_ble_eq_true rfl) (⟨congrArg (fun z => some (Value.int (iI z))) (by unfold zSh; (repeat' split) <;> omega), rfl⟩)
        · skip
          refine ga_iconst (pc := 87) dX8_shaped_87 ?_
          refine ga_goto (pc := 88) (tgt := 116) dX8_shaped_88 rfl ?_
          exact ga_iret hE dX8_shaped_116 (Nat.le_of_ble_eq_true rfl) (Nat.le_of_ble_eq_true rfl) (⟨congrArg (fun z => some (Value.int (iI z))) (by unfold zSh; (repeat' split) <;> omega), rfl⟩)
      refine ga_tabOut (pc := 19) (tgt := 117) dX8_shaped_19 (by omega) (by omega) rfl ?_
      refine ga_iload (pc := 117) dX8_shaped_117 rfl ?_
      refine ga_if_eq (pc := 119) (tgt := 126) dX8_shaped_119 rfl (by omega) (fun c119 => ?_) (fun c119 => ?_)
      · skip
        refine ga_iconst (pc := 126) dX8_shaped_126 ?_
        exact ga_iret hE dX8_shaped_127 (Nat.le_of_ble_eq_true rfl) (Nat.le_of_ble_eq_true rfl) (⟨congrArg (fun z => some (Value.int (iI z))) (by unfold zSh; (repeat' split) <;> omega), rfl⟩)
      · skip
        refine ga_iconst (pc := 122) dX8_shaped_122 ?_
        refine ga_goto (pc := 123) (tgt := 127) dX8_shaped_123 rfl ?_
        exact ga_iret hE dX8_shaped_127 (Nat.le_of_ble_eq_true rfl) (Nat.le_of_ble_eq_true rfl) (⟨congrArg (fun z => some (Value.int (iI z))) (by unfold zSh; (repeat' split) <;> omega), rfl⟩)
    · skip
      refine ga_iconst (pc := 11) dX8_shaped_11 ?_
      refine ga_goto (pc := 12) (tgt := 16) dX8_shaped_12 rfl ?_
      refine ga_istore (pc := 16) (L1 := [some (.int (iI kind)), some (.int (iI i)), some (.int (iI j)), some (.int (iI p)), some (.int (iI q)), some (.int (iI 1))]) dX8_shaped_16 rfl (by decide) rfl ?_
      refine ga_iload_n (pc := 18) dX8_shaped_18 rfl ?_
      by_cases c19_0 : kind = 4
      · refine ga_tabIn (pc := 19) (tgt := 44) 0 dX8_shaped_19 (by omega) (by omega) (by decide) rfl rfl ?_
        refine ga_iload (pc := 44) dX8_shaped_44 rfl ?_
        refine ga_if_eq (pc := 46) (tgt := 58) dX8_shaped_46 rfl (by omega) (fun c46 => ?_) (fun c46 => ?_)
        · skip
          refine ga_iconst (pc := 58) dX8_shaped_58 ?_
          exact ga_iret hE dX8_shaped_59 (Nat.le_of_ble_eq_true rfl) (Nat.le_of_ble_eq_true rfl) (⟨congrArg (fun z => some (Value.int (iI z))) (by unfold zSh; (repeat' split) <;> omega), rfl⟩)
        · skip
          refine ga_iload_n (pc := 49) dX8_shaped_49 rfl ?_
          refine ga_iload_n (pc := 50) dX8_shaped_50 rfl ?_
          refine ga_icmp_ne (pc := 51) (tgt := 58) dX8_shaped_51 rfl (by omega) (by omega) (fun c51 => ?_) (fun c51 => ?_)
          · skip
            refine ga_iconst (pc := 58) dX8_shaped_58 ?_
            exact ga_iret hE dX8_shaped_59 (Nat.le_of_ble_eq_true rfl) (Nat.le_of_ble_eq_true rfl) (⟨congrArg (fun z => some (Value.int (iI z))) (by unfold zSh; (repeat' split) <;> omega), rfl⟩)
          · skip
            refine ga_iconst (pc := 54) dX8_shaped_54 ?_
            refine ga_goto (pc := 55) (tgt := 59) dX8_shaped_55 rfl ?_
            exact ga_iret hE dX8_shaped_59 (Nat.le_of_ble_eq_true rfl) (Nat.le_of_ble_eq_true rfl) (⟨congrArg (fun z => some (Value.int (iI z))) (by unfold zSh; (repeat' split) <;> omega), rfl⟩)
      by_cases c19_1 : kind = 5
      · refine ga_tabIn (pc := 19) (tgt := 60) 1 dX8_shaped_19 (by omega) (by omega) (by decide) rfl rfl ?_
        refine ga_iload (pc := 60) dX8_shaped_60 rfl ?_
        refine ga_if_ne (pc := 62) (tgt := 76) dX8_shaped_62 rfl (by omega) (fun c62 => ?_) (fun c62 => ?_)
        · skip
          refine ga_iconst (pc := 76) dX8_shaped_76 ?_
          refine ga_goto (pc := 77) (tgt := 81) dX8_shaped_77 rfl ?_
          exact ga_iret hE dX8_shaped_81 (Nat.le_of_ble_eq_true rfl) (Nat.le_of_ble_eq_true rfl) (⟨congrArg (fun z => some (Value.int (iI z))) (by unfold zSh; (repeat' split) <;> omega), rfl⟩)
        · skip
          refine ga_iload_n (pc := 65) dX8_shaped_65 rfl ?_
          refine ga_iload (pc := 66) dX8_shaped_66 rfl ?_
          refine ga_icmp_ne (pc := 68) (tgt := 80) dX8_shaped_68 rfl (by omega) (by omega) (fun c68 => ?_) (fun c68 => ?_)
          · skip
            refine ga_iconst (pc := 80) dX8_shaped_80 ?_
            exact ga_iret hE dX8_shaped_81 (Nat.le_of_ble_eq_true rfl) (Nat.le_of_ble_eq_true rfl) (⟨congrArg (fun z => some (Value.int (iI z))) (by unfold zSh; (repeat' split) <;> omega), rfl⟩)
          · skip
            refine ga_iload_n (pc := 71) dX8_shaped_71 rfl ?_
            refine ga_iload_n (pc := 72) dX8_shaped_72 rfl ?_
            refine ga_icmp_ne (pc := 73) (tgt := 80) dX8_shaped_73 rfl (by omega) (by omega) (fun c73 => ?_) (fun c73 => ?_)
            · skip
              refine ga_iconst (pc := 80) dX8_shaped_80 ?_
              exact ga_iret hE dX8_shaped_81 (Nat.le_of_ble_eq_true rfl) (Nat.le_of_ble_eq_true rfl) (⟨congrArg (fun z => some (Value.int (iI z))) (by unfold zSh; (repeat' split) <;> omega), rfl⟩)
            · skip
              refine ga_iconst (pc := 76) dX8_shaped_76 ?_
              refine ga_goto (pc := 77) (tgt := 81) dX8_shaped_77 rfl ?_
              exact ga_iret hE dX8_shaped_81 (Nat.le_of_ble_eq_true rfl) (Nat.le_of_ble_eq_true rfl) (⟨congrArg (fun z => some (Value.int (iI z))) (by unfold zSh; (repeat' split) <;> omega), rfl⟩)
      by_cases c19_2 : kind = 6
      · refine ga_tabIn (pc := 19) (tgt := 82) 2 dX8_shaped_19 (by omega) (by omega) (by decide) rfl rfl ?_
        refine ga_iload_n (pc := 82) dX8_shaped_82 rfl ?_
        refine ga_iload_n (pc := 83) dX8_shaped_83 rfl ?_
        refine ga_icmp_ne (pc := 84) (tgt := 91) dX8_shaped_84 rfl (by omega) (by omega) (fun c84 => ?_) (fun c84 => ?_)
        · skip
          refine ga_iload (pc := 91) dX8_shaped_91 rfl ?_
          refine ga_if_eq (pc := 93) (tgt := 100) dX8_shaped_93 rfl (by omega) (fun c93 => ?_) (fun c93 => ?_)
          · skip
            refine ga_iload_n (pc := 100) dX8_shaped_100 rfl ?_
            refine ga_iload (pc := 101) dX8_shaped_101 rfl ?_
            refine ga_icmp_ne (pc := 103) (tgt := 115) dX8_shaped_103 rfl (by omega) (by omega) (fun c103 => ?_) (fun c103 => ?_)
            · skip
              refine ga_iconst (pc := 115) dX8_shaped_115 ?_
              exact ga_iret hE dX8_shaped_116 (Nat.le_of_ble_eq_true rfl) (Nat.le_of_ble_eq_true rfl) (⟨congrArg (fun z => some (Value.int (iI z))) (by unfold zSh; (repeat' split) <;> omega), rfl⟩)
            · skip
              refine ga_iload_n (pc := 106) dX8_shaped_106 rfl ?_
              refine ga_iload_n (pc := 107) dX8_shaped_107 rfl ?_
              refine ga_icmp_ne (pc := 108) (tgt := 115) dX8_shaped_108 rfl (by omega) (by omega) (fun c108 => ?_) (fun c108 => ?_)
              · skip
                refine ga_iconst (pc := 115) dX8_shaped_115 ?_
                exact ga_iret hE dX8_shaped_116 (Nat.le_of_ble_eq_true rfl) (Nat.le_of_ble_eq_true rfl) (⟨congrArg (fun z => some (Value.int (iI z))) (by unfold zSh; (repeat' split) <;> omega), rfl⟩)
              · skip
                refine ga_iconst (pc := 111) dX8_shaped_111 ?_
                refine ga_goto (pc := 112) (tgt := 116) dX8_shaped_112 rfl ?_
                exact ga_iret hE dX8_shaped_116 (Nat.le_of_ble_eq_true rfl) (Nat.le_of_ble_eq_true rfl) (⟨congrArg (fun z => some (Value.int (iI z))) (by unfold zSh; (repeat' split) <;> omega), rfl⟩)
          · skip
            refine ga_iconst (pc := 96) dX8_shaped_96 ?_
            refine ga_goto (pc := 97) (tgt := 116) dX8_shaped_97 rfl ?_
            exact ga_iret hE dX8_shaped_116 (Nat.le_of_ble_eq_true rfl) (Nat.le_of_ble_eq_true rfl) (⟨congrArg (fun z => some (Value.int (iI z))) (by unfold zSh; (repeat' split) <;> omega), rfl⟩)
        · skip
          refine ga_iconst (pc := 87) dX8_shaped_87 ?_
          refine ga_goto (pc := 88) (tgt := 116) dX8_shaped_88 rfl ?_
          exact ga_iret hE dX8_shaped_116 (Nat.le_of_ble_eq_true rfl) (Nat.le_of_ble_eq_true rfl) (⟨congrArg (fun z => some (Value.int (iI z))) (by unfold zSh; (repeat' split) <;> omega), rfl⟩)
      refine ga_tabOut (pc := 19) (tgt := 117) dX8_shaped_19 (by omega) (by omega) rfl ?_
      refine ga_iload (pc := 117) dX8_shaped_117 rfl ?_
      refine ga_if_eq (pc := 119) (tgt := 126) dX8_shaped_119 rfl (by omega) (fun c119 => ?_) (fun c119 => ?_)
      · skip
        refine ga_iconst (pc := 126) dX8_shaped_126 ?_
        exact ga_iret hE dX8_shaped_127 (Nat.le_of_ble_eq_true rfl) (Nat.le_of_ble_eq_true rfl) (⟨congrArg (fun z => some (Value.int (iI z))) (by unfold zSh; (repeat' split) <;> omega), rfl⟩)
      · skip
        refine ga_iconst (pc := 122) dX8_shaped_122 ?_
        refine ga_goto (pc := 123) (tgt := 127) dX8_shaped_123 rfl ?_
        exact ga_iret hE dX8_shaped_127 (Nat.le_of_ble_eq_true rfl) (Nat.le_of_ble_eq_true rfl) (⟨congrArg (fun z => some (Value.int (iI z))) (by unfold zSh; (repeat' split) <;> omega), rfl⟩)
theorem k_X8_shaped {X : ga_X} {R : Room} {nL : Nat} {cc : ByteArray} {h : ga_H} {k n pc : Nat} {L : List (Option Value)} {st : List Value} {kind i j p q : Int} {z : Int} (h1 : (-2147483648 ≤ kind ∧ kind < 2147483648) ∧ (-2147483648 ≤ i ∧ i < 2147483648) ∧ (-2147483648 ≤ j ∧ j < 2147483648) ∧ (-2147483648 ≤ p ∧ p < 2147483648) ∧ (-2147483648 ≤ q ∧ q < 2147483648)) (hz : (zSh kind i j p q) = z) (hR : 0 + 1 ≤ R.frames ∧ 19 + 6 + 64 * 0 ≤ R.locals) (hk : k ≤ R.cells ∧ n ≤ R.slots) (hs : (st.map fun v => v.category).sum ≤ 8) (d : decode cc pc = .ok (.invokestatic 218, 3)) (kk : G X R RX8 nL cc h k n (pc + 3) L (.int (iI z) :: st)) : G X R RX8 nL cc h k n pc L (.int (iI q) :: .int (iI p) :: .int (iI j) :: .int (iI i) :: .int (iI kind) :: st) := by
  subst hz
  exact ps_run (m_X8_shaped _ _ kind i j p q h1) (lw_S q1886 q1887 q113 q1888) (show ga_nn' yX8_shaped 5 from (by unfold ga_nn'; decide +kernel)) hR hk hs d rfl kk
set_option maxHeartbeats 4000000 in
set_option maxRecDepth 100000 in
theorem m_X8_isUnknown (l : Launch) (D : ga_G) (kind i j : Int) (h1 : (-2147483648 ≤ kind ∧ kind < 2147483648) ∧ (-2147483648 ≤ i ∧ i < 2147483648) ∧ (-2147483648 ≤ j ∧ j < 2147483648)) : pS l D yX8_isUnknown (ws_ yX8_isUnknown cX8_isUnknown 3 (some .boolean)) (gR 0) [.int (iI kind), .int (iI i), .int (iI j)] (some (.int (iI (bI (zIsU kind i j))))) := by
  intro h
  refine ga_met (own := RX8) 0 (by decide) rfl (Nat.le_of_ble_eq_true rfl) (L0 := [some (.int (iI kind)), some (.int (iI i)), some (.int (iI j))]) rfl (fun X _ _ hE => ?_)
  refine ga_iload_n (pc := 0) dX8_isUnknown_0 rfl ?_
  refine ga_iconst (pc := 1) dX8_isUnknown_1 ?_
  refine ga_icmp_ne (pc := 2) (tgt := 18) dX8_isUnknown_2 rfl (by omega) (by omega) (fun c2 => ?_) (fun c2 => ?_)
  · skip
    refine ga_iload_n (pc := 18) dX8_isUnknown_18 rfl ?_
    refine ga_iconst (pc := 19) dX8_isUnknown_19 ?_
    refine ga_icmp_ne (pc := 20) (tgt := 36) dX8_isUnknown_20 rfl (by omega) (by omega) (fun c20 => ?_) (fun c20 => ?_)
    · skip
      refine ga_iload_n (pc := 36) dX8_isUnknown_36 rfl ?_
      refine ga_bipush (pc := 37) dX8_isUnknown_37 rfl ?_
      refine ga_icmp_ne (pc := 39) (tgt := 47) dX8_isUnknown_39 rfl (by omega) (by omega) (fun c39 => ?_) (fun c39 => ?_)
      · skip
        refine ga_iconst (pc := 47) dX8_isUnknown_47 ?_
        refine ga_goto (pc := 48) (tgt := 52) dX8_isUnknown_48 rfl ?_
        exact ga_zret hE dX8_isUnknown_52 (Nat.le_of_ble_eq_true rfl) (Nat.le_of_ble_eq_true rfl) (by first | exact Or.inl rfl | exact Or.inr rfl) (⟨congrArg (fun z => some (Value.int (iI z))) ((bI_t (by omega)).symm), rfl⟩)
      · skip
        refine ga_iload_n (pc := 42) dX8_isUnknown_42 rfl ?_
        refine ga_iload_n (pc := 43) dX8_isUnknown_43 rfl ?_
        refine ga_icmp_le (pc := 44) (tgt := 51) dX8_isUnknown_44 rfl (by omega) (by omega) (fun c44 => ?_) (fun c44 => ?_)
        · skip
          refine ga_iconst (pc := 51) dX8_isUnknown_51 ?_
          exact ga_zret hE dX8_isUnknown_52 (Nat.le_of_ble_eq_true rfl) (Nat.le_of_ble_eq_true rfl) (by first | exact Or.inl rfl | exact Or.inr rfl) (⟨congrArg (fun z => some (Value.int (iI z))) ((bI_f (by omega)).symm), rfl⟩)
        · skip
          refine ga_iconst (pc := 47) dX8_isUnknown_47 ?_
          refine ga_goto (pc := 48) (tgt := 52) dX8_isUnknown_48 rfl ?_
          exact ga_zret hE dX8_isUnknown_52 (Nat.le_of_ble_eq_true rfl) (Nat.le_of_ble_eq_true rfl) (by first | exact Or.inl rfl | exact Or.inr rfl) (⟨congrArg (fun z => some (Value.int (iI z))) ((bI_t (by omega)).symm), rfl⟩)
    · skip
      refine ga_iload_n (pc := 23) dX8_isUnknown_23 rfl ?_
      refine ga_iload_n (pc := 24) dX8_isUnknown_24 rfl ?_
      refine ga_icmp_lt (pc := 25) (tgt := 32) dX8_isUnknown_25 rfl (by omega) (by omega) (fun c25 => ?_) (fun c25 => ?_)
      · skip
        refine ga_iconst (pc := 32) dX8_isUnknown_32 ?_
        refine ga_goto (pc := 33) (tgt := 52) dX8_isUnknown_33 rfl ?_
        exact ga_zret hE dX8_isUnknown_52 (Nat.le_of_ble_eq_true rfl) (Nat.le_of_ble_eq_true rfl) (by first | exact Or.inl rfl | exact Or.inr rfl) (⟨congrArg (fun z => some (Value.int (iI z))) ((bI_f (by omega)).symm), rfl⟩)
      · skip
        refine ga_iconst (pc := 28) dX8_isUnknown_28 ?_
        refine ga_goto (pc := 29) (tgt := 52) dX8_isUnknown_29 rfl ?_
        exact ga_zret hE dX8_isUnknown_52 (Nat.le_of_ble_eq_true rfl) (Nat.le_of_ble_eq_true rfl) (by first | exact Or.inl rfl | exact Or.inr rfl) (⟨congrArg (fun z => some (Value.int (iI z))) ((bI_t (by omega)).symm), rfl⟩)
  · skip
    refine ga_iload_n (pc := 5) dX8_isUnknown_5 rfl ?_
    refine ga_iload_n (pc := 6) dX8_isUnknown_6 rfl ?_
    refine ga_icmp_ne (pc := 7) (tgt := 14) dX8_isUnknown_7 rfl (by omega) (by omega) (fun c7 => ?_) (fun c7 => ?_)
    · skip
      refine ga_iconst (pc := 14) dX8_isUnknown_14 ?_
      refine ga_goto (pc := 15) (tgt := 52) dX8_isUnknown_15 rfl ?_
      exact ga_zret hE dX8_isUnknown_52 (Nat.le_of_ble_eq_true rfl) (Nat.le_of_ble_eq_true rfl) (by first | exact Or.inl rfl | exact Or.inr rfl) (⟨congrArg (fun z => some (Value.int (iI z))) ((bI_f (by omega)).symm), rfl⟩)
    · skip
      refine ga_iconst (pc := 10) dX8_isUnknown_10 ?_
      refine ga_goto (pc := 11) (tgt := 52) dX8_isUnknown_11 rfl ?_
      exact ga_zret hE dX8_isUnknown_52 (Nat.le_of_ble_eq_true rfl) (Nat.le_of_ble_eq_true rfl) (by first | exact Or.inl rfl | exact Or.inr rfl) (⟨congrArg (fun z => some (Value.int (iI z))) ((bI_t (by omega)).symm), rfl⟩)
theorem k_X8_isUnknown {X : ga_X} {R : Room} {nL : Nat} {cc : ByteArray} {h : ga_H} {k n pc : Nat} {L : List (Option Value)} {st : List Value} {kind i j : Int} {z : Int} (h1 : (-2147483648 ≤ kind ∧ kind < 2147483648) ∧ (-2147483648 ≤ i ∧ i < 2147483648) ∧ (-2147483648 ≤ j ∧ j < 2147483648)) (hz : (bI (zIsU kind i j)) = z) (hR : 0 + 1 ≤ R.frames ∧ 19 + 3 + 64 * 0 ≤ R.locals) (hk : k ≤ R.cells ∧ n ≤ R.slots) (hs : (st.map fun v => v.category).sum ≤ 8) (d : decode cc pc = .ok (.invokestatic 206, 3)) (kk : G X R RX8 nL cc h k n (pc + 3) L (.int (iI z) :: st)) : G X R RX8 nL cc h k n pc L (.int (iI j) :: .int (iI i) :: .int (iI kind) :: st) := by
  subst hz
  exact ps_run (m_X8_isUnknown _ _ kind i j h1) (lw_S q1871 q1872 q113 q1873) (show ga_nn' yX8_isUnknown 3 from (by unfold ga_nn'; decide +kernel)) hR hk hs d rfl kk
set_option maxHeartbeats 4000000 in
set_option maxRecDepth 100000 in
theorem m_X8_unknownsOf (l : Launch) (D : ga_G) (mo : Nat) (ad : Nat → Nat) (I : Nat → Int) (A : Nat → Int → Int) (kind : Int) (hm : (1 ≤ I 3 ∧ I 3 ≤ 3) ∧ 1 ≤ I 4 ∧ I 4 ≤ 3) (h1 : 0 ≤ kind ∧ kind ≤ 6) : mM l D yX8_unknownsOf (ws_ yX8_unknownsOf cX8_unknownsOf 4 (some .int)) (gR 1) [.int (iI kind)] mo ad I A (mI (fun r I1 A1 => r = ((tPl kind (I 4) (A 22) (I 3 * I 4).toNat).1) ∧ I1 = I ∧ A1 = (uN A 22 ((tPl kind (I 4) (A 22) (I 3 * I 4).toNat).2)))) := by
  refine mm_met 2 rfl (Nat.le_of_ble_eq_true rfl) (L0 := [some (.ref mo), some (.int (iI kind)), none, none]) rfl (fun X ok hE => ?_)
  have hmn := mn_r hm
  refine ga_iconst (pc := 0) dX8_unknownsOf_0 ?_
  refine ga_istore_n (pc := 1) (L1 := [some (.ref mo), some (.int (iI kind)), some (.int (iI 0)), none]) dX8_unknownsOf_1 rfl (by decide) rfl ?_
  refine ga_iconst (pc := 2) dX8_unknownsOf_2 ?_
  refine ga_istore_n (pc := 3) (L1 := [some (.ref mo), some (.int (iI kind)), some (.int (iI 0)), some (.int (iI 0))]) dX8_unknownsOf_3 rfl (by decide) rfl ?_
  refine ga_heq (pc := 4) (h1 := mH mo ad I (uN A 22 (A 22))) (congr (congrArg (mH mo ad) (rfl)) (by funext j; by_cases e0 : j = 22; (subst e0; exact (show (A 22) = (A 22) from rfl)); simp only [uN, if_neg e0])) ?_
  have lp4 : ∀ (N4 : Nat) (v p : Int) (f : Int → Int), (0 ≤ p ∧ p ≤ I 3 * I 4) → (v = (tPl kind (I 4) (A 22) p.toNat).1 ∧ f = (tPl kind (I 4) (A 22) p.toNat).2) → (I 3 * I 4 - p).toNat < N4 → G X (gR 1) RX8 4 cX8_unknownsOf (mH mo ad I (uN A 22 f)) 0 0 4 [some (.ref mo), some (.int (iI kind)), some (.int (iI v)), some (.int (iI p))] [] := by
    intro N4
    induction N4 with
    | zero => intro v p f hp hv hN4; exact absurd hN4 (Nat.not_lt_zero _)
    | succ N4 ih4 =>
      intro v p f hp hv hN4
      have htp := tPl_r kind (I 4) (A 22) p.toNat
      rw [← hv.1] at htp
      refine ga_iload_n (pc := 4) dX8_unknownsOf_4 rfl ?_
      refine ga_aload_n (pc := 5) dX8_unknownsOf_5 rfl ?_
      refine mm_g3 (pc := 6) (z := I 3) rfl dX8_unknownsOf_6 ?_
      refine ga_aload_n (pc := 9) dX8_unknownsOf_9 rfl ?_
      refine mm_g4 (pc := 10) (z := I 4) rfl dX8_unknownsOf_10 ?_
      refine ga_imul (pc := 13) dX8_unknownsOf_13 ?_
      refine ga_icmp_ge (pc := 14) (tgt := 52) dX8_unknownsOf_14 rfl (by omega) (by omega) (fun c14 => ?_) (fun c14 => ?_)
      · skip
        refine ga_iload_n (pc := 52) dX8_unknownsOf_52 rfl ?_
        exact mm_iret hE dX8_unknownsOf_53 (⟨_, rfl, by rw [hv.1, show p = I 3 * I 4 by omega], rfl, by funext j; by_cases e0 : j = 22; (subst e0; exact (show f = ((tPl kind (I 4) (A 22) (I 3 * I 4).toNat).2) from by rw [hv.2, show p = I 3 * I 4 by omega])); simp only [uN, if_neg e0]⟩)
      · skip
        have hdm := dm_r hm (show 0 ≤ p ∧ p < I 3 * I 4 by omega)
        have jn46 : ∀ (v2 : Int) (f2 : Int → Int), (v2 = (tPl kind (I 4) (A 22) (p + 1).toNat).1 ∧ f2 = (tPl kind (I 4) (A 22) (p + 1).toNat).2) → G X (gR 1) RX8 4 cX8_unknownsOf (mH mo ad I (uN A 22 f2)) 0 0 46 [some (.ref mo), some (.int (iI kind)), some (.int (iI v2)), some (.int (iI p))] [] := by
          intro v2 f2 hv2
          refine ga_iinc (pc := 46) (L1 := [some (.ref mo), some (.int (iI kind)), some (.int (iI v2)), some (.int (iI (p + 1)))]) dX8_unknownsOf_46 rfl rfl (by decide) rfl ?_
          refine ga_goto (pc := 49) (tgt := 4) dX8_unknownsOf_49 rfl ?_
          exact ih4 v2 (p + 1) f2 (by omega) (hv2) (by omega)
        refine ga_iload_n (pc := 17) dX8_unknownsOf_17 rfl ?_
        refine ga_iload_n (pc := 18) dX8_unknownsOf_18 rfl ?_
        refine ga_aload_n (pc := 19) dX8_unknownsOf_19 rfl ?_
        refine mm_g4 (pc := 20) (z := I 4) rfl dX8_unknownsOf_20 ?_
        refine ga_idiv (pc := 23) dX8_unknownsOf_23 (by omega) (by omega) (by omega) ?_
        refine ga_iload_n (pc := 24) dX8_unknownsOf_24 rfl ?_
        refine ga_aload_n (pc := 25) dX8_unknownsOf_25 rfl ?_
        refine mm_g4 (pc := 26) (z := I 4) rfl dX8_unknownsOf_26 ?_
        refine ga_irem (pc := 29) dX8_unknownsOf_29 (by omega) (by omega) (by omega) ?_
        refine k_X8_isUnknown (pc := 30) (kind := kind) (i := (p.tdiv (I 4))) (j := (p.tmod (I 4))) (by omega) (rfl) ⟨Nat.le_of_ble_eq_true rfl, Nat.le_of_ble_eq_true rfl⟩ ⟨Nat.le_of_ble_eq_true rfl, Nat.le_of_ble_eq_true rfl⟩ (Nat.le_of_ble_eq_true rfl) dX8_unknownsOf_30 ?_
        refine ga_ifb_eq (pc := 33) (tgt := 46) dX8_unknownsOf_33 rfl (fun c33 => ?_) (fun c33 => ?_)
        · skip
          exact jn46 v f (by first | (rw [tPl_t hp.1 (by assumption), ← hv.1, ← hv.2]; exact ⟨rfl, rfl⟩) | (rw [tPl_f hp.1 (by assumption), ← hv.1, ← hv.2]; exact ⟨rfl, rfl⟩))
        · skip
          refine ga_aload_n (pc := 36) dX8_unknownsOf_36 rfl ?_
          refine mm_g22 (pc := 37) dX8_unknownsOf_37 ?_
          refine ga_iload_n (pc := 40) dX8_unknownsOf_40 rfl ?_
          refine ga_iload_n (pc := 41) dX8_unknownsOf_41 rfl ?_
          refine mm_ast22 (pc := 42) (f := f) (A1 := (uN A 22 (uZ f v p))) ok (by omega) rfl (by funext j; by_cases e0 : j = 22; (subst e0; rfl); simp only [uN, if_neg e0]) dX8_unknownsOf_42 ?_
          refine ga_iinc (pc := 43) (L1 := [some (.ref mo), some (.int (iI kind)), some (.int (iI (v + 1))), some (.int (iI p))]) dX8_unknownsOf_43 rfl rfl (by decide) rfl ?_
          exact jn46 (v + 1) (uZ f v p) (by first | (rw [tPl_t hp.1 (by assumption), ← hv.1, ← hv.2]; exact ⟨rfl, rfl⟩) | (rw [tPl_f hp.1 (by assumption), ← hv.1, ← hv.2]; exact ⟨rfl, rfl⟩))
  exact lp4 _ 0 0 (A 22) (by omega) (⟨rfl, rfl⟩) (Nat.lt_succ_self _)
theorem k_X8_unknownsOf {X : ga_X} {nL : Nat} {cc : ByteArray} {mo : Nat} {ad : Nat → Nat} {I : Nat → Int} {A : Nat → Int → Int} {d pc : Nat} {L : List (Option Value)} {st : List Value} {kind : Int} {z : Int} {A2 : Nat → Int → Int} (ok : mOk mo ad) (hm : (1 ≤ I 3 ∧ I 3 ≤ 3) ∧ 1 ≤ I 4 ∧ I 4 ≤ 3) (h1 : 0 ≤ kind ∧ kind ≤ 6) (hz : ((tPl kind (I 4) (A 22) (I 3 * I 4).toNat).1) = z) (hA2 : (uN A 22 ((tPl kind (I 4) (A 22) (I 3 * I 4).toNat).2)) = A2) (hR : 1 + 1 ≤ d ∧ 19 + 4 + 64 * 1 ≤ 64 * d) (hs : (st.map fun v => v.category).sum ≤ 8) (dd : decode cc pc = .ok (.invokevirtual 212, 3)) (kk : G X (gR d) RX8 nL cc (mH mo ad I A2) 0 0 (pc + 3) L (.int (iI z) :: st)) : G X (gR d) RX8 nL cc (mH mo ad I A) 0 0 pc L (.int (iI kind) :: .ref mo :: st) :=
  mm_run ok (m_X8_unknownsOf _ _ mo ad I A kind hm h1) (lw_V q1867 q1869 qs64 q113 q1870) rfl (show ga_nn' yX8_unknownsOf 1 from (by unfold ga_nn'; decide +kernel)) hR hs dd rfl (fun v I1 A1 hp => by
    obtain ⟨r, rfl, hp⟩ := hp
    obtain ⟨e1, rfl, rfl⟩ := hp
    subst hz
    subst hA2
    rw [e1]
    exact kk)
set_option maxHeartbeats 4000000 in
set_option maxRecDepth 100000 in
theorem m_X8_isFit (l : Launch) (D : ga_G) (mo : Nat) (ad : Nat → Nat) (I : Nat → Int) (A : Nat → Int → Int) (kind : Int) (hm : (1 ≤ I 3 ∧ I 3 ≤ 3) ∧ 1 ≤ I 4 ∧ I 4 ≤ 3) (h1 : 0 ≤ kind ∧ kind ≤ 6) : mM l D yX8_isFit (ws_ yX8_isFit cX8_isFit 2 (some .boolean)) (gR 2) [.int (iI kind)] mo ad I A (mI (fun r I1 A1 => r = bI (zLike (I 3) (I 4) kind ∧ (tPl kind (I 4) (A 22) (I 3 * I 4).toNat).1 ≤ 6) ∧ I1 = I ∧ ∃ f, A1 = uN A 22 f)) := by
  refine mm_met 0 rfl (Nat.le_of_ble_eq_true rfl) (L0 := [some (.ref mo), some (.int (iI kind))]) rfl (fun X ok hE => ?_)
  have hmn := mn_r hm
  have htp := tPl_r kind (I 4) (A 22) (I 3 * I 4).toNat
  refine ga_aload_n (pc := 0) dX8_isFit_0 rfl ?_
  refine ga_iload_n (pc := 1) dX8_isFit_1 rfl ?_
  refine k_X8_isLike (pc := 2) (k := kind) ok (by first | exact hm | omega) (by first | exact h1 | omega) (rfl) ⟨Nat.le_of_ble_eq_true rfl, Nat.le_of_ble_eq_true rfl⟩ (Nat.le_of_ble_eq_true rfl) dX8_isFit_2 ?_
  refine ga_ifb_eq (pc := 5) (tgt := 22) dX8_isFit_5 rfl (fun c5 => ?_) (fun c5 => ?_)
  · skip
    refine ga_iconst (pc := 22) dX8_isFit_22 ?_
    exact mm_zret hE dX8_isFit_23 (by first | exact Or.inl rfl | exact Or.inr rfl) (⟨_, rfl, by dsimp only; exact ⟨(bI_f (by omega)).symm, rfl, ⟨A 22, (uN_i A 22).symm⟩⟩⟩)
  · skip
    refine ga_aload_n (pc := 8) dX8_isFit_8 rfl ?_
    refine ga_iload_n (pc := 9) dX8_isFit_9 rfl ?_
    refine k_X8_unknownsOf (pc := 10) (kind := kind) (z := (tPl kind (I 4) (A 22) (I 3 * I 4).toNat).1) (A2 := (uN A 22 ((tPl kind (I 4) (A 22) (I 3 * I 4).toNat).2))) ok (by first | exact hm | omega) (by first | exact h1 | omega) (rfl) (rfl) ⟨Nat.le_of_ble_eq_true rfl, Nat.le_of_ble_eq_true rfl⟩ (Nat.le_of_ble_eq_true rfl) dX8_isFit_10 ?_
    refine ga_bipush (pc := 13) dX8_isFit_13 rfl ?_
    refine ga_icmp_gt (pc := 15) (tgt := 22) dX8_isFit_15 rfl (by omega) (by omega) (fun c15 => ?_) (fun c15 => ?_)
    · skip
      refine ga_iconst (pc := 22) dX8_isFit_22 ?_
      exact mm_zret hE dX8_isFit_23 (by first | exact Or.inl rfl | exact Or.inr rfl) (⟨_, rfl, by dsimp only; exact ⟨(bI_f (by omega)).symm, rfl, ⟨_, rfl⟩⟩⟩)
    · skip
      refine ga_iconst (pc := 18) dX8_isFit_18 ?_
      refine ga_goto (pc := 19) (tgt := 23) dX8_isFit_19 rfl ?_
      exact mm_zret hE dX8_isFit_23 (by first | exact Or.inl rfl | exact Or.inr rfl) (⟨_, rfl, by dsimp only; exact ⟨(bI_t (by omega)).symm, rfl, ⟨_, rfl⟩⟩⟩)
theorem k_X8_isFit {X : ga_X} {nL : Nat} {cc : ByteArray} {mo : Nat} {ad : Nat → Nat} {I : Nat → Int} {A : Nat → Int → Int} {d pc : Nat} {L : List (Option Value)} {st : List Value} {kind : Int}  (ok : mOk mo ad) (hm : (1 ≤ I 3 ∧ I 3 ≤ 3) ∧ 1 ≤ I 4 ∧ I 4 ≤ 3) (h1 : 0 ≤ kind ∧ kind ≤ 6)  (hR : 2 + 1 ≤ d ∧ 19 + 2 + 64 * 2 ≤ 64 * d) (hs : (st.map fun v => v.category).sum ≤ 8) (dd : decode cc pc = .ok (.invokevirtual 259, 3)) (kk : ∀ (r : Int) (I1 : Nat → Int) (A1 : Nat → Int → Int), (r = bI (zLike (I 3) (I 4) kind ∧ (tPl kind (I 4) (A 22) (I 3 * I 4).toNat).1 ≤ 6) ∧ I1 = I ∧ ∃ f, A1 = uN A 22 f) → G X (gR d) RX8 nL cc (mH mo ad I1 A1) 0 0 (pc + 3) L (.int (iI r) :: st)) : G X (gR d) RX8 nL cc (mH mo ad I A) 0 0 pc L (.int (iI kind) :: .ref mo :: st) :=
  mm_run ok (m_X8_isFit _ _ mo ad I A kind hm h1) (lw_V q1859 q1861 qs62 q113 q1862) rfl (show ga_nn' yX8_isFit 1 from (by unfold ga_nn'; decide +kernel)) hR hs dd rfl (fun v I1 A1 hp => by
    obtain ⟨r, rfl, hp⟩ := hp
    exact kk r I1 A1 hp)
set_option maxHeartbeats 4000000 in
set_option maxRecDepth 100000 in
theorem m_X8_times0 (l : Launch) (D : ga_G) (mo : Nat) (ad : Nat → Nat) (I : Nat → Int) (A : Nat → Int → Int) (kind shift i j p q : Int) (h1 : (0 ≤ kind ∧ kind ≤ 6) ∧ (0 ≤ i ∧ i ≤ 2) ∧ (0 ≤ j ∧ j ≤ 2) ∧ (0 ≤ p ∧ p ≤ 2) ∧ (0 ≤ q ∧ q ≤ 2)) : mM l D yX8_times0 (ws_ yX8_times0 cX8_times0 7 (some .int)) (gR 2) [.int (iI kind), .int (iI shift), .int (iI i), .int (iI j), .int (iI p), .int (iI q)] mo ad I A (mI (fun r I1 A1 => r = (mT0 A kind shift i j p q) ∧ I1 = I ∧ A1 = A)) := by
  refine mm_met 0 rfl (Nat.le_of_ble_eq_true rfl) (L0 := [some (.ref mo), some (.int (iI kind)), some (.int (iI shift)), some (.int (iI i)), some (.int (iI j)), some (.int (iI p)), some (.int (iI q))]) rfl (fun X ok hE => ?_)
  have jn19 : ∀ (v1 : Int), (v1 = if j = q then mE A 0 i p else 0) → G X (gR 2) RX8 7 cX8_times0 (mH mo ad I A) 0 0 19 [some (.ref mo), some (.int (iI kind)), some (.int (iI shift)), some (.int (iI i)), some (.int (iI j)), some (.int (iI p)), some (.int (iI q))] [.int (iI v1)] := by
    intro v1 hv1
    have jn37 : ∀ (v2 : Int), (v2 = if i = p ∧ j = q then shift else 0) → G X (gR 2) RX8 7 cX8_times0 (mH mo ad I A) 0 0 37 [some (.ref mo), some (.int (iI kind)), some (.int (iI shift)), some (.int (iI i)), some (.int (iI j)), some (.int (iI p)), some (.int (iI q))] [.int (iI v2), .int (iI v1)] := by
      intro v2 hv2
      refine ga_iadd (pc := 37) dX8_times0_37 ?_
      have jn57 : ∀ (v3 : Int), (v3 = if i = p then mRight A kind q j else 0) → G X (gR 2) RX8 7 cX8_times0 (mH mo ad I A) 0 0 57 [some (.ref mo), some (.int (iI kind)), some (.int (iI shift)), some (.int (iI i)), some (.int (iI j)), some (.int (iI p)), some (.int (iI q))] [.int (iI v3), .int (iI (v1 + v2))] := by
        intro v3 hv3
        refine ga_iadd (pc := 57) dX8_times0_57 ?_
        exact mm_iret hE dX8_times0_58 (⟨_, rfl, by unfold mT0; rw [← hv1, ← hv2, ← hv3], rfl, rfl⟩)
      refine ga_iload_n (pc := 38) dX8_times0_38 rfl ?_
      refine ga_iload (pc := 39) dX8_times0_39 rfl ?_
      refine ga_icmp_ne (pc := 41) (tgt := 56) dX8_times0_41 rfl (by omega) (by omega) (fun c41 => ?_) (fun c41 => ?_)
      · skip
        refine ga_iconst (pc := 56) dX8_times0_56 ?_
        exact jn57 0 (by first | rw [if_pos (by omega)] | rw [if_neg (by omega)])
      · skip
        refine ga_aload_n (pc := 44) dX8_times0_44 rfl ?_
        refine ga_iload_n (pc := 45) dX8_times0_45 rfl ?_
        refine ga_iload (pc := 46) dX8_times0_46 rfl ?_
        refine ga_iload (pc := 48) dX8_times0_48 rfl ?_
        refine k_X8_rightOf (pc := 50) (kind := kind) (i := q) (j := j) (z := mRight A kind q j) ok (by first | exact h1 | omega) (rfl) ⟨Nat.le_of_ble_eq_true rfl, Nat.le_of_ble_eq_true rfl⟩ (Nat.le_of_ble_eq_true rfl) dX8_times0_50 ?_
        refine ga_goto (pc := 53) (tgt := 57) dX8_times0_53 rfl ?_
        exact jn57 (mRight A kind q j) (by first | rw [if_pos (by omega)] | rw [if_neg (by omega)])
    refine ga_iload_n (pc := 19) dX8_times0_19 rfl ?_
    refine ga_iload (pc := 20) dX8_times0_20 rfl ?_
    refine ga_icmp_ne (pc := 22) (tgt := 36) dX8_times0_22 rfl (by omega) (by omega) (fun c22 => ?_) (fun c22 => ?_)
    · skip
      refine ga_iconst (pc := 36) dX8_times0_36 ?_
      exact jn37 0 (by first | rw [if_pos (by omega)] | rw [if_neg (by omega)])
    · skip
      refine ga_iload (pc := 25) dX8_times0_25 rfl ?_
      refine ga_iload (pc := 27) dX8_times0_27 rfl ?_
      refine ga_icmp_ne (pc := 29) (tgt := 36) dX8_times0_29 rfl (by omega) (by omega) (fun c29 => ?_) (fun c29 => ?_)
      · skip
        refine ga_iconst (pc := 36) dX8_times0_36 ?_
        exact jn37 0 (by first | rw [if_pos (by omega)] | rw [if_neg (by omega)])
      · skip
        refine ga_iload_n (pc := 32) dX8_times0_32 rfl ?_
        refine ga_goto (pc := 33) (tgt := 37) dX8_times0_33 rfl ?_
        exact jn37 shift (by first | rw [if_pos (by omega)] | rw [if_neg (by omega)])
  refine ga_iload (pc := 0) dX8_times0_0 rfl ?_
  refine ga_iload (pc := 2) dX8_times0_2 rfl ?_
  refine ga_icmp_ne (pc := 4) (tgt := 18) dX8_times0_4 rfl (by omega) (by omega) (fun c4 => ?_) (fun c4 => ?_)
  · skip
    refine ga_iconst (pc := 18) dX8_times0_18 ?_
    exact jn19 0 (by first | rw [if_pos (by omega)] | rw [if_neg (by omega)])
  · skip
    refine ga_aload_n (pc := 7) dX8_times0_7 rfl ?_
    refine ga_iconst (pc := 8) dX8_times0_8 ?_
    refine ga_iload_n (pc := 9) dX8_times0_9 rfl ?_
    refine ga_iload (pc := 10) dX8_times0_10 rfl ?_
    refine k_X8_its (pc := 12) (t := 0) (i := i) (j := p) (z := mE A 0 i p) ok (by first | exact h1 | omega) (rfl) ⟨Nat.le_of_ble_eq_true rfl, Nat.le_of_ble_eq_true rfl⟩ (Nat.le_of_ble_eq_true rfl) dX8_times0_12 ?_
    refine ga_goto (pc := 15) (tgt := 19) dX8_times0_15 rfl ?_
    exact jn19 (mE A 0 i p) (by first | rw [if_pos (by omega)] | rw [if_neg (by omega)])
theorem k_X8_times0 {X : ga_X} {nL : Nat} {cc : ByteArray} {mo : Nat} {ad : Nat → Nat} {I : Nat → Int} {A : Nat → Int → Int} {d pc : Nat} {L : List (Option Value)} {st : List Value} {kind shift i j p q : Int} {z : Int} (ok : mOk mo ad) (h1 : (0 ≤ kind ∧ kind ≤ 6) ∧ (0 ≤ i ∧ i ≤ 2) ∧ (0 ≤ j ∧ j ≤ 2) ∧ (0 ≤ p ∧ p ≤ 2) ∧ (0 ≤ q ∧ q ≤ 2)) (hz : (mT0 A kind shift i j p q) = z) (hR : 2 + 1 ≤ d ∧ 19 + 7 + 64 * 2 ≤ 64 * d) (hs : (st.map fun v => v.category).sum ≤ 8) (dd : decode cc pc = .ok (.invokevirtual 222, 3)) (kk : G X (gR d) RX8 nL cc (mH mo ad I A) 0 0 (pc + 3) L (.int (iI z) :: st)) : G X (gR d) RX8 nL cc (mH mo ad I A) 0 0 pc L (.int (iI q) :: .int (iI p) :: .int (iI j) :: .int (iI i) :: .int (iI shift) :: .int (iI kind) :: .ref mo :: st) :=
  mm_run ok (m_X8_times0 _ _ mo ad I A kind shift i j p q h1) (lw_V q1889 q1891 qs68 q113 q1892) rfl (show ga_nn' yX8_times0 6 from (by unfold ga_nn'; decide +kernel)) hR hs dd rfl (fun v I1 A1 hp => by
    obtain ⟨r, rfl, hp⟩ := hp
    obtain ⟨e1, rfl, rfl⟩ := hp
    subst hz
    rw [e1]
    exact kk)
set_option maxHeartbeats 4000000 in
set_option maxRecDepth 100000 in
theorem m_X8_takenBy (l : Launch) (D : ga_G) (mo : Nat) (ad : Nat → Nat) (I : Nat → Int) (A : Nat → Int → Int) (kind shape shift p u : Int) (hm : (1 ≤ I 3 ∧ I 3 ≤ 3) ∧ 1 ≤ I 4 ∧ I 4 ≤ 3) (h1 : (0 ≤ kind ∧ kind ≤ 6) ∧ (0 ≤ shape ∧ shape ≤ 6) ∧ (0 ≤ p ∧ p < I 3 * I 4) ∧ 0 ≤ u ∧ u < 9) (h2 : 0 ≤ A 22 u ∧ A 22 u < I 3 * I 4) : mM l D yX8_takenBy (ws_ yX8_takenBy cX8_takenBy 9 (some .int)) (gR 3) [.int (iI kind), .int (iI shape), .int (iI shift), .int (iI p), .int (iI u)] mo ad I A (mI (fun r I1 A1 => r = (mTak A (I 4) kind shape shift p (A 22 u) (I 3 * I 4).toNat) ∧ I1 = I ∧ A1 = A)) := by
  refine mm_met 3 rfl (Nat.le_of_ble_eq_true rfl) (L0 := [some (.ref mo), some (.int (iI kind)), some (.int (iI shape)), some (.int (iI shift)), some (.int (iI p)), some (.int (iI u)), none, none, none]) rfl (fun X ok hE => ?_)
  have hmn := mn_r hm
  have hdp := dm_r hm (show 0 ≤ p ∧ p < I 3 * I 4 by omega)
  have hdu := dm_r hm h2
  refine ga_iconst (pc := 0) dX8_takenBy_0 ?_
  refine ga_istore (pc := 1) (L1 := [some (.ref mo), some (.int (iI kind)), some (.int (iI shape)), some (.int (iI shift)), some (.int (iI p)), some (.int (iI u)), some (.int (iI 0)), none, none]) dX8_takenBy_1 rfl (by decide) rfl ?_
  refine ga_iconst (pc := 3) dX8_takenBy_3 ?_
  refine ga_istore (pc := 4) (L1 := [some (.ref mo), some (.int (iI kind)), some (.int (iI shape)), some (.int (iI shift)), some (.int (iI p)), some (.int (iI u)), some (.int (iI 0)), some (.int (iI 0)), none]) dX8_takenBy_4 rfl (by decide) rfl ?_
  have lp6 : ∀ (N6 : Nat) (v q : Int), (0 ≤ q ∧ q ≤ I 3 * I 4) → (v = zsum (fun q => zSh shape (q.tdiv (I 4)) (q.tmod (I 4)) ((A 22 u).tdiv (I 4)) ((A 22 u).tmod (I 4)) * mT0 A kind shift (p.tdiv (I 4)) (p.tmod (I 4)) (q.tdiv (I 4)) (q.tmod (I 4))) q.toNat) → (I 3 * I 4 - q).toNat < N6 → G X (gR 3) RX8 9 cX8_takenBy (mH mo ad I A) 0 0 6 [some (.ref mo), some (.int (iI kind)), some (.int (iI shape)), some (.int (iI shift)), some (.int (iI p)), some (.int (iI u)), some (.int (iI v)), some (.int (iI q)), none] [] := by
    intro N6
    induction N6 with
    | zero => intro v q hq hv hN6; exact absurd hN6 (Nat.not_lt_zero _)
    | succ N6 ih6 =>
      intro v q hq hv hN6
      refine ga_iload (pc := 6) dX8_takenBy_6 rfl ?_
      refine ga_aload_n (pc := 8) dX8_takenBy_8 rfl ?_
      refine mm_g3 (pc := 9) (z := I 3) rfl dX8_takenBy_9 ?_
      refine ga_aload_n (pc := 12) dX8_takenBy_12 rfl ?_
      refine mm_g4 (pc := 13) (z := I 4) rfl dX8_takenBy_13 ?_
      refine ga_imul (pc := 16) dX8_takenBy_16 ?_
      refine ga_icmp_ge (pc := 17) (tgt := 121) dX8_takenBy_17 rfl (by omega) (by omega) (fun c17 => ?_) (fun c17 => ?_)
      · skip
        refine ga_iload (pc := 121) dX8_takenBy_121 rfl ?_
        exact mm_iret hE dX8_takenBy_123 (⟨_, rfl, by unfold mTak; rw [hv, show q = I 3 * I 4 by omega], rfl, rfl⟩)
      · skip
        have hdq := dm_r hm (show 0 ≤ q ∧ q < I 3 * I 4 by omega)
        refine ga_iload_n (pc := 20) dX8_takenBy_20 rfl ?_
        refine ga_iload (pc := 21) dX8_takenBy_21 rfl ?_
        refine ga_aload_n (pc := 23) dX8_takenBy_23 rfl ?_
        refine mm_g4 (pc := 24) (z := I 4) rfl dX8_takenBy_24 ?_
        refine ga_idiv (pc := 27) dX8_takenBy_27 (by omega) (by omega) (by omega) ?_
        refine ga_iload (pc := 28) dX8_takenBy_28 rfl ?_
        refine ga_aload_n (pc := 30) dX8_takenBy_30 rfl ?_
        refine mm_g4 (pc := 31) (z := I 4) rfl dX8_takenBy_31 ?_
        refine ga_irem (pc := 34) dX8_takenBy_34 (by omega) (by omega) (by omega) ?_
        refine ga_aload_n (pc := 35) dX8_takenBy_35 rfl ?_
        refine mm_g22 (pc := 36) dX8_takenBy_36 ?_
        refine ga_iload (pc := 39) dX8_takenBy_39 rfl ?_
        refine mm_ald22 (pc := 41) (x := A 22 u) ok (by omega) (rfl) dX8_takenBy_41 ?_
        refine ga_aload_n (pc := 42) dX8_takenBy_42 rfl ?_
        refine mm_g4 (pc := 43) (z := I 4) rfl dX8_takenBy_43 ?_
        refine ga_idiv (pc := 46) dX8_takenBy_46 (by omega) (by omega) (by omega) ?_
        refine ga_aload_n (pc := 47) dX8_takenBy_47 rfl ?_
        refine mm_g22 (pc := 48) dX8_takenBy_48 ?_
        refine ga_iload (pc := 51) dX8_takenBy_51 rfl ?_
        refine mm_ald22 (pc := 53) (x := A 22 u) ok (by omega) (rfl) dX8_takenBy_53 ?_
        refine ga_aload_n (pc := 54) dX8_takenBy_54 rfl ?_
        refine mm_g4 (pc := 55) (z := I 4) rfl dX8_takenBy_55 ?_
        refine ga_irem (pc := 58) dX8_takenBy_58 (by omega) (by omega) (by omega) ?_
        refine k_X8_shaped (pc := 59) (kind := shape) (i := (q.tdiv (I 4))) (j := (q.tmod (I 4))) (p := ((A 22 u).tdiv (I 4))) (q := ((A 22 u).tmod (I 4))) (by omega) (rfl) ⟨Nat.le_of_ble_eq_true rfl, Nat.le_of_ble_eq_true rfl⟩ ⟨Nat.le_of_ble_eq_true rfl, Nat.le_of_ble_eq_true rfl⟩ (Nat.le_of_ble_eq_true rfl) dX8_takenBy_59 ?_
        have hsh := zSh_r shape (q.tdiv (I 4)) (q.tmod (I 4)) ((A 22 u).tdiv (I 4)) ((A 22 u).tmod (I 4))
        refine ga_istore (pc := 62) (L1 := [some (.ref mo), some (.int (iI kind)), some (.int (iI shape)), some (.int (iI shift)), some (.int (iI p)), some (.int (iI u)), some (.int (iI v)), some (.int (iI q)), some (.int (iI (zSh shape (q.tdiv (I 4)) (q.tmod (I 4)) ((A 22 u).tdiv (I 4)) ((A 22 u).tmod (I 4)))))]) dX8_takenBy_62 rfl (by decide) rfl ?_
        refine ga_iload (pc := 64) dX8_takenBy_64 rfl ?_
        refine ga_iload (pc := 66) dX8_takenBy_66 rfl ?_
        refine ga_if_ne (pc := 68) (tgt := 75) dX8_takenBy_68 rfl (by omega) (fun c68 => ?_) (fun c68 => ?_)
        · skip
          refine ga_iload (pc := 75) dX8_takenBy_75 rfl ?_
          refine ga_aload_n (pc := 77) dX8_takenBy_77 rfl ?_
          refine ga_iload_n (pc := 78) dX8_takenBy_78 rfl ?_
          refine ga_iload_n (pc := 79) dX8_takenBy_79 rfl ?_
          refine ga_iload (pc := 80) dX8_takenBy_80 rfl ?_
          refine ga_aload_n (pc := 82) dX8_takenBy_82 rfl ?_
          refine mm_g4 (pc := 83) (z := I 4) rfl dX8_takenBy_83 ?_
          refine ga_idiv (pc := 86) dX8_takenBy_86 (by omega) (by omega) (by omega) ?_
          refine ga_iload (pc := 87) dX8_takenBy_87 rfl ?_
          refine ga_aload_n (pc := 89) dX8_takenBy_89 rfl ?_
          refine mm_g4 (pc := 90) (z := I 4) rfl dX8_takenBy_90 ?_
          refine ga_irem (pc := 93) dX8_takenBy_93 (by omega) (by omega) (by omega) ?_
          refine ga_iload (pc := 94) dX8_takenBy_94 rfl ?_
          refine ga_aload_n (pc := 96) dX8_takenBy_96 rfl ?_
          refine mm_g4 (pc := 97) (z := I 4) rfl dX8_takenBy_97 ?_
          refine ga_idiv (pc := 100) dX8_takenBy_100 (by omega) (by omega) (by omega) ?_
          refine ga_iload (pc := 101) dX8_takenBy_101 rfl ?_
          refine ga_aload_n (pc := 103) dX8_takenBy_103 rfl ?_
          refine mm_g4 (pc := 104) (z := I 4) rfl dX8_takenBy_104 ?_
          refine ga_irem (pc := 107) dX8_takenBy_107 (by omega) (by omega) (by omega) ?_
          refine k_X8_times0 (pc := 108) (kind := kind) (shift := shift) (i := (p.tdiv (I 4))) (j := (p.tmod (I 4))) (p := (q.tdiv (I 4))) (q := (q.tmod (I 4))) (z := mT0 A kind shift (p.tdiv (I 4)) (p.tmod (I 4)) (q.tdiv (I 4)) (q.tmod (I 4))) ok (by first | exact h1 | omega) (rfl) ⟨Nat.le_of_ble_eq_true rfl, Nat.le_of_ble_eq_true rfl⟩ (Nat.le_of_ble_eq_true rfl) dX8_takenBy_108 ?_
          refine ga_imul (pc := 111) dX8_takenBy_111 ?_
          refine ga_iadd (pc := 112) dX8_takenBy_112 ?_
          refine ga_istore (pc := 113) (L1 := [some (.ref mo), some (.int (iI kind)), some (.int (iI shape)), some (.int (iI shift)), some (.int (iI p)), some (.int (iI u)), some (.int (iI (v + ((zSh shape (q.tdiv (I 4)) (q.tmod (I 4)) ((A 22 u).tdiv (I 4)) ((A 22 u).tmod (I 4))) * (mT0 A kind shift (p.tdiv (I 4)) (p.tmod (I 4)) (q.tdiv (I 4)) (q.tmod (I 4))))))), some (.int (iI q)), some (.int (iI (zSh shape (q.tdiv (I 4)) (q.tmod (I 4)) ((A 22 u).tdiv (I 4)) ((A 22 u).tmod (I 4)))))]) dX8_takenBy_113 rfl (by decide) rfl ?_
          refine ga_iinc (pc := 115) (L1 := [some (.ref mo), some (.int (iI kind)), some (.int (iI shape)), some (.int (iI shift)), some (.int (iI p)), some (.int (iI u)), some (.int (iI (v + ((zSh shape (q.tdiv (I 4)) (q.tmod (I 4)) ((A 22 u).tdiv (I 4)) ((A 22 u).tmod (I 4))) * (mT0 A kind shift (p.tdiv (I 4)) (p.tmod (I 4)) (q.tdiv (I 4)) (q.tmod (I 4))))))), some (.int (iI (q + 1))), some (.int (iI (zSh shape (q.tdiv (I 4)) (q.tmod (I 4)) ((A 22 u).tdiv (I 4)) ((A 22 u).tmod (I 4)))))]) dX8_takenBy_115 rfl rfl (by decide) rfl ?_
          refine ga_goto (pc := 118) (tgt := 6) dX8_takenBy_118 rfl ?_
          refine ga_kill (pc := 6) 8 (L1 := [some (.ref mo), some (.int (iI kind)), some (.int (iI shape)), some (.int (iI shift)), some (.int (iI p)), some (.int (iI u)), some (.int (iI (v + ((zSh shape (q.tdiv (I 4)) (q.tmod (I 4)) ((A 22 u).tdiv (I 4)) ((A 22 u).tmod (I 4))) * (mT0 A kind shift (p.tdiv (I 4)) (p.tmod (I 4)) (q.tdiv (I 4)) (q.tmod (I 4))))))), some (.int (iI (q + 1))), none]) rfl ?_
          exact ih6 (v + ((zSh shape (q.tdiv (I 4)) (q.tmod (I 4)) ((A 22 u).tdiv (I 4)) ((A 22 u).tmod (I 4))) * (mT0 A kind shift (p.tdiv (I 4)) (p.tmod (I 4)) (q.tdiv (I 4)) (q.tmod (I 4))))) (q + 1) (by omega) (by first | (rw [zsum_s _ hq.1, hv]; done) | (rw [zsum_s _ hq.1, hv]; congr 1; rw [show zSh shape (q.tdiv (I 4)) (q.tmod (I 4)) ((A 22 u).tdiv (I 4)) ((A 22 u).tmod (I 4)) = 0 by omega, Int.zero_mul])) (by omega)
        · skip
          refine ga_iconst (pc := 71) dX8_takenBy_71 ?_
          refine ga_goto (pc := 72) (tgt := 112) dX8_takenBy_72 rfl ?_
          refine ga_iadd (pc := 112) dX8_takenBy_112 ?_
          refine ga_istore (pc := 113) (L1 := [some (.ref mo), some (.int (iI kind)), some (.int (iI shape)), some (.int (iI shift)), some (.int (iI p)), some (.int (iI u)), some (.int (iI (v + 0))), some (.int (iI q)), some (.int (iI (zSh shape (q.tdiv (I 4)) (q.tmod (I 4)) ((A 22 u).tdiv (I 4)) ((A 22 u).tmod (I 4)))))]) dX8_takenBy_113 rfl (by decide) rfl ?_
          refine ga_iinc (pc := 115) (L1 := [some (.ref mo), some (.int (iI kind)), some (.int (iI shape)), some (.int (iI shift)), some (.int (iI p)), some (.int (iI u)), some (.int (iI (v + 0))), some (.int (iI (q + 1))), some (.int (iI (zSh shape (q.tdiv (I 4)) (q.tmod (I 4)) ((A 22 u).tdiv (I 4)) ((A 22 u).tmod (I 4)))))]) dX8_takenBy_115 rfl rfl (by decide) rfl ?_
          refine ga_goto (pc := 118) (tgt := 6) dX8_takenBy_118 rfl ?_
          refine ga_kill (pc := 6) 8 (L1 := [some (.ref mo), some (.int (iI kind)), some (.int (iI shape)), some (.int (iI shift)), some (.int (iI p)), some (.int (iI u)), some (.int (iI (v + 0))), some (.int (iI (q + 1))), none]) rfl ?_
          exact ih6 (v + 0) (q + 1) (by omega) (by first | (rw [zsum_s _ hq.1, hv]; done) | (rw [zsum_s _ hq.1, hv]; congr 1; rw [show zSh shape (q.tdiv (I 4)) (q.tmod (I 4)) ((A 22 u).tdiv (I 4)) ((A 22 u).tmod (I 4)) = 0 by omega, Int.zero_mul])) (by omega)
  exact lp6 _ 0 0 (by omega) (rfl) (Nat.lt_succ_self _)
theorem k_X8_takenBy {X : ga_X} {nL : Nat} {cc : ByteArray} {mo : Nat} {ad : Nat → Nat} {I : Nat → Int} {A : Nat → Int → Int} {d pc : Nat} {L : List (Option Value)} {st : List Value} {kind shape shift p u : Int} {z : Int} (ok : mOk mo ad) (hm : (1 ≤ I 3 ∧ I 3 ≤ 3) ∧ 1 ≤ I 4 ∧ I 4 ≤ 3) (h1 : (0 ≤ kind ∧ kind ≤ 6) ∧ (0 ≤ shape ∧ shape ≤ 6) ∧ (0 ≤ p ∧ p < I 3 * I 4) ∧ 0 ≤ u ∧ u < 9) (h2 : 0 ≤ A 22 u ∧ A 22 u < I 3 * I 4) (hz : (mTak A (I 4) kind shape shift p (A 22 u) (I 3 * I 4).toNat) = z) (hR : 3 + 1 ≤ d ∧ 19 + 9 + 64 * 3 ≤ 64 * d) (hs : (st.map fun v => v.category).sum ≤ 8) (dd : decode cc pc = .ok (.invokevirtual 249, 3)) (kk : G X (gR d) RX8 nL cc (mH mo ad I A) 0 0 (pc + 3) L (.int (iI z) :: st)) : G X (gR d) RX8 nL cc (mH mo ad I A) 0 0 pc L (.int (iI u) :: .int (iI p) :: .int (iI shift) :: .int (iI shape) :: .int (iI kind) :: .ref mo :: st) :=
  mm_run ok (m_X8_takenBy _ _ mo ad I A kind shape shift p u hm h1 h2) (lw_V q1882 q1884 qs67 q113 q1885) rfl (show ga_nn' yX8_takenBy 5 from (by unfold ga_nn'; decide +kernel)) hR hs dd rfl (fun v I1 A1 hp => by
    obtain ⟨r, rfl, hp⟩ := hp
    obtain ⟨e1, rfl, rfl⟩ := hp
    subst hz
    rw [e1]
    exact kk)
