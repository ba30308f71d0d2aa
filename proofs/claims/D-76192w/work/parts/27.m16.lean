/-! THE REFERENCE: lots; what a sheet is judged by -/
theorem iI_m (a : Int) : iI a = iI (a.bmod 4294967296) := by
  rw [← Int32.toInt_inj]
  show (Int32.ofInt a).toInt = (Int32.ofInt (a.bmod 4294967296)).toInt
  rw [Int32.toInt_ofInt, Int32.toInt_ofInt]
  exact (Int.bmod_bmod).symm
theorem lI_m (a : Int) : lI a = lI (a.bmod 18446744073709551616) := by
  rw [← Int64.toInt_inj]
  show (Int64.ofInt a).toInt = (Int64.ofInt (a.bmod 18446744073709551616)).toInt
  rw [Int64.toInt_ofInt, Int64.toInt_ofInt]
  exact (Int.bmod_bmod).symm
theorem ga_wi {X : ga_X} {R : Room} {own : String} {nL : Nat} {cc : ByteArray} {h : ga_H} {k n pc : Nat} {L : List (Option Value)} {st : List Value} {a b : Int} (e : iI a = iI b) (kk : G X R own nL cc h k n pc L (.int (iI b) :: st)) : G X R own nL cc h k n pc L (.int (iI a) :: st) := by rw [e]; exact kk
theorem ga_wl {X : ga_X} {R : Room} {own : String} {nL : Nat} {cc : ByteArray} {h : ga_H} {k n pc : Nat} {L : List (Option Value)} {st : List Value} {a b : Int} (e : lI a = lI b) (kk : G X R own nL cc h k n pc L (.long (lI b) :: st)) : G X R own nL cc h k n pc L (.long (lI a) :: st) := by rw [e]; exact kk
def zLc (z : Int) : Int := (z * 1103515245 + 12345).bmod 4294967296
theorem zLc_r (z : Int) : -2147483648 ≤ zLc z ∧ zLc z < 2147483648 := by
  unfold zLc
  have h1 := Int.le_bmod (x := z * 1103515245 + 12345) (m := 4294967296) (by decide)
  have h2 := Int.bmod_lt (x := z * 1103515245 + 12345) (m := 4294967296) (by decide)
  omega
theorem zushr_16 (z : Int) : 0 ≤ zushr z 16 ∧ zushr z 16 < 65536 := by
  unfold zushr
  have e : ((iI 16).toUInt32 &&& Int32.toUInt32 31) = 16 := by decide
  rw [e]
  have h : ((iI z).toUInt32 >>> 16).toNat < 65536 := by
    rw [UInt32.toNat_shiftRight]
    have := (iI z).toUInt32.toNat_lt
    show (iI z).toUInt32.toNat >>> 16 < 65536
    rw [Nat.shiftRight_eq_div_pow]
    omega
  have h2 : ((iI z).toUInt32 >>> 16).toInt32.toInt = (((iI z).toUInt32 >>> 16).toNat : Int).bmod 4294967296 := by
    show (((iI z).toUInt32 >>> 16).toInt32).toBitVec.toInt = _
    rw [BitVec.toInt_eq_toNat_bmod]
    rfl
  rw [h2, Int.bmod_eq_of_le (by omega) (by omega)]
  omega
def zLv (t z : Int) : Int := if t = 2 then (zushr z 16).tmod 101 - 50 else (zushr z 16).tmod 11 - 5
theorem zLv_r (t z : Int) : (t = 2 → -50 ≤ zLv t z ∧ zLv t z ≤ 50) ∧ (t ≠ 2 → -5 ≤ zLv t z ∧ zLv t z ≤ 5) := by
  have h := zushr_16 z
  have h1 : 0 ≤ (zushr z 16).tmod 101 ∧ (zushr z 16).tmod 101 < 101 := ⟨Int.tmod_nonneg _ h.1, Int.tmod_lt_of_pos _ (by decide)⟩
  have h2 : 0 ≤ (zushr z 16).tmod 11 ∧ (zushr z 16).tmod 11 < 11 := ⟨Int.tmod_nonneg _ h.1, Int.tmod_lt_of_pos _ (by decide)⟩
  unfold zLv
  constructor
  · intro e
    rw [if_pos e]
    omega
  · intro e
    rw [if_neg e]
    omega
/-- one lot, a row, a table, all of them: the number and the entries -/
abbrev zLs : Type := Int × (Int → Int)
def zL1 (t i j : Int) (s : zLs) : zLs := (zLc s.1, uZ s.2 (9 * t + 3 * i + j) (zLv t (zLc s.1)))
def zLr (t i : Int) (s : zLs) : Nat → zLs
  | 0 => s
  | j + 1 => zL1 t i j (zLr t i s j)
def zLi (t C : Int) (s : zLs) : Nat → zLs
  | 0 => s
  | i + 1 => zLr t i (zLi t C s i) C.toNat
def zLa (R C : Int → Int) (s : zLs) : Nat → zLs
  | 0 => s
  | t + 1 => zLi t (C t) (zLa R C s t) (R t).toNat
theorem zLr_s {t i j : Int} (s : zLs) (h : 0 ≤ j) : zLr t i s (j + 1).toNat = zL1 t i j (zLr t i s j.toNat) := by
  rw [show (j + 1).toNat = j.toNat + 1 by omega]
  show zL1 t i (j.toNat : Nat) _ = _
  rw [show ((j.toNat : Nat) : Int) = j by omega]
theorem zLi_s {t C i : Int} (s : zLs) (h : 0 ≤ i) : zLi t C s (i + 1).toNat = zLr t i (zLi t C s i.toNat) C.toNat := by
  rw [show (i + 1).toNat = i.toNat + 1 by omega]
  show zLr t (i.toNat : Nat) _ _ = _
  rw [show ((i.toNat : Nat) : Int) = i by omega]
theorem zLa_s {R C : Int → Int} {t : Int} (s : zLs) (h : 0 ≤ t) : zLa R C s (t + 1).toNat = zLi t (C t) (zLa R C s t.toNat) (R t).toNat := by
  rw [show (t + 1).toNat = t.toNat + 1 by omega]
  show zLi (t.toNat : Nat) _ _ _ = _
  rw [show ((t.toNat : Nat) : Int) = t by omega]
abbrev zLk (s : zLs) : Prop := (-2147483648 ≤ s.1 ∧ s.1 < 2147483648) ∧ tEn s.2
theorem zL1_k {t i j : Int} {s : zLs} (hp : (0 ≤ t ∧ t ≤ 2) ∧ (0 ≤ i ∧ i ≤ 2) ∧ 0 ≤ j ∧ j ≤ 2) (h : zLk s) : zLk (zL1 t i j s) := by
  refine ⟨zLc_r s.1, tEn_u h.2 hp ?_⟩
  have := zLv_r t (zLc s.1)
  by_cases e : t = 2
  · exact Or.inl ⟨e, this.1 e⟩
  · exact Or.inr ⟨e, this.2 e⟩
theorem zLr_k {t i : Int} (hp : (0 ≤ t ∧ t ≤ 2) ∧ (0 ≤ i ∧ i ≤ 2)) : ∀ (n : Nat) (s : zLs), n ≤ 3 → zLk s → zLk (zLr t i s n) := by
  intro n
  induction n with
  | zero => intro s _ h; exact h
  | succ n ih => intro s hn h; exact zL1_k ⟨hp.1, hp.2, by omega, by omega⟩ (ih s (by omega) h)
theorem zLi_k {t C : Int} (ht : 0 ≤ t ∧ t ≤ 2) (hC : C ≤ 3) : ∀ (n : Nat) (s : zLs), n ≤ 3 → zLk s → zLk (zLi t C s n) := by
  intro n
  induction n with
  | zero => intro s _ h; exact h
  | succ n ih => intro s hn h; exact zLr_k ⟨ht, by omega, by omega⟩ C.toNat _ (by omega) (ih s (by omega) h)
theorem zLa_k {R C : Int → Int} (hR : ∀ t, 1 ≤ R t ∧ R t ≤ 3) (hC : ∀ t, 1 ≤ C t ∧ C t ≤ 3) : ∀ (n : Nat) (s : zLs), n ≤ 3 → zLk s → zLk (zLa R C s n) := by
  intro n
  induction n with
  | zero => intro s _ h; exact h
  | succ n ih =>
    intro s hn h
    have h1 := hR n
    have h2 := hC n
    exact zLi_k ⟨by omega, by omega⟩ h2.2 (R n).toNat _ (by omega) (ih s (by omega) h)
def mLot (I : Nat → Int) (A : Nat → Int → Int) : zLs := zLa (mRows I) (mCols I) (I 6, A 0) 3
set_option maxHeartbeats 4000000 in
set_option maxRecDepth 100000 in
theorem m_X8_seed (l : Launch) (D : ga_G) (mo : Nat) (ad : Nat → Nat) (I : Nat → Int) (A : Nat → Int → Int) (v : Int)  : mM l D yX8_seed (ws_ yX8_seed cX8_seed 3 (some .int)) (gR 0) [.int (iI v)] mo ad I A (mI (fun r I1 A1 => r = (I 6) ∧ I1 = (uN I 6 v) ∧ A1 = A)) := by
  refine mm_met 1 rfl (Nat.le_of_ble_eq_true rfl) (L0 := [some (.ref mo), some (.int (iI v)), none]) rfl (fun X ok hE => ?_)
  refine ga_aload_n (pc := 0) dX8_seed_0 rfl ?_
  refine mm_g6 (pc := 1) (z := I 6) rfl dX8_seed_1 ?_
  refine ga_istore_n (pc := 4) (L1 := [some (.ref mo), some (.int (iI v)), some (.int (iI (I 6)))]) dX8_seed_4 rfl (by decide) rfl ?_
  refine ga_aload_n (pc := 5) dX8_seed_5 rfl ?_
  refine ga_iload_n (pc := 6) dX8_seed_6 rfl ?_
  refine mm_p6 (pc := 7) (I1 := (uN I 6 v)) (rfl) dX8_seed_7 ?_
  refine ga_iload_n (pc := 10) dX8_seed_10 rfl ?_
  exact mm_iret hE dX8_seed_11 (⟨_, rfl, rfl, rfl, rfl⟩)
set_option maxHeartbeats 4000000 in
set_option maxRecDepth 100000 in
theorem m_X8_lots (l : Launch) (D : ga_G) (mo : Nat) (ad : Nat → Nat) (I : Nat → Int) (A : Nat → Int → Int)  (hm : (1 ≤ I 3 ∧ I 3 ≤ 3) ∧ 1 ≤ I 4 ∧ I 4 ≤ 3) (he5 : tEn (A 0)) (hz6 : -2147483648 ≤ I 6 ∧ I 6 < 2147483648) : mM l D yX8_lots (ws_ yX8_lots cX8_lots 4 none) (gR 1) [] mo ad I A (mV (fun I1 A1 => I1 = (uN I 6 ((mLot I A).1)) ∧ A1 = (uN A 0 ((mLot I A).2)))) := by
  refine mm_met 3 rfl (Nat.le_of_ble_eq_true rfl) (L0 := [some (.ref mo), none, none, none]) rfl (fun X ok hE => ?_)
  have hk0 : zLk (I 6, A 0) := ⟨hz6, he5⟩
  refine ga_iconst (pc := 0) dX8_lots_0 ?_
  refine ga_istore_n (pc := 1) (L1 := [some (.ref mo), some (.int (iI 0)), none, none]) dX8_lots_1 rfl (by decide) rfl ?_
  refine ga_heq (pc := 2) (h1 := mH mo ad (uN I 6 (I 6)) (uN A 0 (A 0))) (congr (congrArg (mH mo ad) (by funext j; by_cases e0 : j = 6; (subst e0; exact (show (I 6) = (I 6) from rfl)); simp only [uN, if_neg e0])) (by funext j; by_cases e0 : j = 0; (subst e0; exact (show (A 0) = (A 0) from rfl)); simp only [uN, if_neg e0])) ?_
  have lp2 : ∀ (N2 : Nat) (t z : Int) (e : Int → Int), (0 ≤ t ∧ t ≤ 3) → (z = (zLa (mRows I) (mCols I) (I 6, A 0) t.toNat).1 ∧ e = (zLa (mRows I) (mCols I) (I 6, A 0) t.toNat).2) → (3 - t).toNat < N2 → G X (gR 1) RX8 4 cX8_lots (mH mo ad (uN I 6 z) (uN A 0 e)) 0 0 2 [some (.ref mo), some (.int (iI t)), none, none] [] := by
    intro N2
    induction N2 with
    | zero => intro t z e ht hs hN2; exact absurd hN2 (Nat.not_lt_zero _)
    | succ N2 ih2 =>
      intro t z e ht hs hN2
      have hrt := mRows_r hm t
      have hct := mCols_r hm t
      refine ga_iload_n (pc := 2) dX8_lots_2 rfl ?_
      refine ga_iconst (pc := 3) dX8_lots_3 ?_
      refine ga_icmp_ge (pc := 4) (tgt := 111) dX8_lots_4 rfl (by omega) (by omega) (fun c4 => ?_) (fun c4 => ?_)
      · skip
        exact mm_vret hE dX8_lots_111 (⟨rfl, by funext j; by_cases e0 : j = 6; (subst e0; exact (show z = ((mLot I A).1) from by unfold mLot; rw [hs.1, show t = 3 by omega]; rfl)); simp only [uN, if_neg e0], by funext j; by_cases e0 : j = 0; (subst e0; exact (show e = ((mLot I A).2) from by unfold mLot; rw [hs.2, show t = 3 by omega]; rfl)); simp only [uN, if_neg e0]⟩)
      · skip
        refine ga_iconst (pc := 7) dX8_lots_7 ?_
        refine ga_istore_n (pc := 8) (L1 := [some (.ref mo), some (.int (iI t)), some (.int (iI 0)), none]) dX8_lots_8 rfl (by decide) rfl ?_
        have lp9 : ∀ (N9 : Nat) (i z : Int) (e : Int → Int), (0 ≤ i ∧ i ≤ mRows I t) → (z = (zLi t (mCols I t) (zLa (mRows I) (mCols I) (I 6, A 0) t.toNat) i.toNat).1 ∧ e = (zLi t (mCols I t) (zLa (mRows I) (mCols I) (I 6, A 0) t.toNat) i.toNat).2) → (mRows I t - i).toNat < N9 → G X (gR 1) RX8 4 cX8_lots (mH mo ad (uN I 6 z) (uN A 0 e)) 0 0 9 [some (.ref mo), some (.int (iI t)), some (.int (iI i)), none] [] := by
          intro N9
          induction N9 with
          | zero => intro i z e hi hs2 hN9; exact absurd hN9 (Nat.not_lt_zero _)
          | succ N9 ih9 =>
            intro i z e hi hs2 hN9
            refine ga_iload_n (pc := 9) dX8_lots_9 rfl ?_
            refine ga_aload_n (pc := 10) dX8_lots_10 rfl ?_
            refine ga_iload_n (pc := 11) dX8_lots_11 rfl ?_
            refine k_X8_rowsOf (pc := 12) (t := t) (z := mRows I t) ok (show (-2147483648 ≤ t ∧ t < 2147483648) from by first | exact h1 | omega) (rfl) ⟨Nat.le_of_ble_eq_true rfl, Nat.le_of_ble_eq_true rfl⟩ (Nat.le_of_ble_eq_true rfl) dX8_lots_12 ?_
            refine ga_icmp_ge (pc := 15) (tgt := 105) dX8_lots_15 rfl (by omega) (by omega) (fun c15 => ?_) (fun c15 => ?_)
            · skip
              refine ga_iinc (pc := 105) (L1 := [some (.ref mo), some (.int (iI (t + 1))), some (.int (iI i)), none]) dX8_lots_105 rfl rfl (by decide) rfl ?_
              refine ga_goto (pc := 108) (tgt := 2) dX8_lots_108 rfl ?_
              refine ga_kill (pc := 2) 2 (L1 := [some (.ref mo), some (.int (iI (t + 1))), none, none]) rfl ?_
              exact ih2 (t + 1) z e (by omega) (by rw [zLa_s _ ht.1, hs2.1, hs2.2, show i = mRows I t by omega]; exact ⟨rfl, rfl⟩) (by omega)
            · skip
              refine ga_iconst (pc := 18) dX8_lots_18 ?_
              refine ga_istore_n (pc := 19) (L1 := [some (.ref mo), some (.int (iI t)), some (.int (iI i)), some (.int (iI 0))]) dX8_lots_19 rfl (by decide) rfl ?_
              have lp20 : ∀ (N20 : Nat) (j z : Int) (e : Int → Int), (0 ≤ j ∧ j ≤ mCols I t) → (z = (zLr t i (zLi t (mCols I t) (zLa (mRows I) (mCols I) (I 6, A 0) t.toNat) i.toNat) j.toNat).1 ∧ e = (zLr t i (zLi t (mCols I t) (zLa (mRows I) (mCols I) (I 6, A 0) t.toNat) i.toNat) j.toNat).2) → (mCols I t - j).toNat < N20 → G X (gR 1) RX8 4 cX8_lots (mH mo ad (uN I 6 z) (uN A 0 e)) 0 0 20 [some (.ref mo), some (.int (iI t)), some (.int (iI i)), some (.int (iI j))] [] := by
                intro N20
                induction N20 with
                | zero => intro j z e hj hs3 hN20; exact absurd hN20 (Nat.not_lt_zero _)
                | succ N20 ih20 =>
                  intro j z e hj hs3 hN20
                  refine ga_iload_n (pc := 20) dX8_lots_20 rfl ?_
                  refine ga_aload_n (pc := 21) dX8_lots_21 rfl ?_
                  refine ga_iload_n (pc := 22) dX8_lots_22 rfl ?_
                  refine k_X8_columnsOf (pc := 23) (t := t) (z := mCols I t) ok (show (-2147483648 ≤ t ∧ t < 2147483648) from by first | exact h1 | omega) (rfl) ⟨Nat.le_of_ble_eq_true rfl, Nat.le_of_ble_eq_true rfl⟩ (Nat.le_of_ble_eq_true rfl) dX8_lots_23 ?_
                  refine ga_icmp_ge (pc := 26) (tgt := 99) dX8_lots_26 rfl (by omega) (by omega) (fun c26 => ?_) (fun c26 => ?_)
                  · skip
                    refine ga_iinc (pc := 99) (L1 := [some (.ref mo), some (.int (iI t)), some (.int (iI (i + 1))), some (.int (iI j))]) dX8_lots_99 rfl rfl (by decide) rfl ?_
                    refine ga_goto (pc := 102) (tgt := 9) dX8_lots_102 rfl ?_
                    refine ga_kill (pc := 9) 3 (L1 := [some (.ref mo), some (.int (iI t)), some (.int (iI (i + 1))), none]) rfl ?_
                    exact ih9 (i + 1) z e (by omega) (by rw [zLi_s _ hi.1, hs3.1, hs3.2, show j = mCols I t by omega]; exact ⟨rfl, rfl⟩) (by omega)
                  · skip
                    refine ga_aload_n (pc := 29) dX8_lots_29 rfl ?_
                    refine ga_aload_n (pc := 30) dX8_lots_30 rfl ?_
                    refine mm_g6 (pc := 31) (z := z) rfl dX8_lots_31 ?_
                    refine ga_ldcw (pc := 34) (1103515245) dX8_lots_34 q2036 rfl ?_
                    refine ga_imul (pc := 37) dX8_lots_37 ?_
                    refine ga_sipush (pc := 38) dX8_lots_38 rfl ?_
                    refine ga_iadd (pc := 41) dX8_lots_41 ?_
                    refine ga_wi (pc := 42) (b := zLc z) (iI_m _) ?_
                    refine mm_p6 (pc := 42) (I1 := (uN I 6 (zLc z))) (by funext j; by_cases e0 : j = 6; (subst e0; rfl); simp only [uN, if_neg e0]) dX8_lots_42 ?_
                    refine ga_aload_n (pc := 45) dX8_lots_45 rfl ?_
                    refine mm_g0 (pc := 46) dX8_lots_46 ?_
                    refine ga_bipush (pc := 49) dX8_lots_49 rfl ?_
                    refine ga_iload_n (pc := 51) dX8_lots_51 rfl ?_
                    refine ga_imul (pc := 52) dX8_lots_52 ?_
                    refine ga_iconst (pc := 53) dX8_lots_53 ?_
                    refine ga_iload_n (pc := 54) dX8_lots_54 rfl ?_
                    refine ga_imul (pc := 55) dX8_lots_55 ?_
                    refine ga_iadd (pc := 56) dX8_lots_56 ?_
                    refine ga_iload_n (pc := 57) dX8_lots_57 rfl ?_
                    refine ga_iadd (pc := 58) dX8_lots_58 ?_
                    have jn92 : ∀ (x : Int), (x = zLv t (zLc z)) → G X (gR 1) RX8 4 cX8_lots (mH mo ad (uN I 6 (zLc z)) (uN A 0 e)) 0 0 92 [some (.ref mo), some (.int (iI t)), some (.int (iI i)), some (.int (iI j))] [.int (iI x), .int (iI (((9 * t) + (3 * i)) + j)), .ref (ad 0)] := by
                      intro x hx
                      refine mm_ast0 (pc := 92) (f := e) (A1 := (uN A 0 (uZ e (((9 * t) + (3 * i)) + j) x))) ok (by omega) rfl (by funext j; by_cases e0 : j = 0; (subst e0; rfl); simp only [uN, if_neg e0]) dX8_lots_92 ?_
                      refine ga_iinc (pc := 93) (L1 := [some (.ref mo), some (.int (iI t)), some (.int (iI i)), some (.int (iI (j + 1)))]) dX8_lots_93 rfl rfl (by decide) rfl ?_
                      refine ga_goto (pc := 96) (tgt := 20) dX8_lots_96 rfl ?_
                      exact ih20 (j + 1) (zLc z) (uZ e (((9 * t) + (3 * i)) + j) x) (by omega) (by rw [zLr_s _ hj.1]; unfold zL1; rw [← hs3.1, ← hs3.2, hx]; exact ⟨rfl, rfl⟩) (by omega)
                    refine ga_iload_n (pc := 59) dX8_lots_59 rfl ?_
                    refine ga_iconst (pc := 60) dX8_lots_60 ?_
                    refine ga_icmp_ne (pc := 61) (tgt := 80) dX8_lots_61 rfl (by omega) (by omega) (fun c61 => ?_) (fun c61 => ?_)
                    · skip
                      refine ga_aload_n (pc := 80) dX8_lots_80 rfl ?_
                      refine mm_g6 (pc := 81) (z := zLc z) rfl dX8_lots_81 ?_
                      refine ga_bipush (pc := 84) dX8_lots_84 rfl ?_
                      refine ga_iushr (pc := 86) dX8_lots_86 ?_
                      refine ga_bipush (pc := 87) dX8_lots_87 rfl ?_
                      have hus := zushr_16 (zLc z)
                      refine ga_irem (pc := 89) dX8_lots_89 (by omega) (by omega) (by omega) ?_
                      refine ga_iconst (pc := 90) dX8_lots_90 ?_
                      refine ga_isub (pc := 91) dX8_lots_91 ?_
                      exact jn92 (((zushr (zLc z) 16).tmod 11) - 5) (by unfold zLv; first | rw [if_pos (by omega)] | rw [if_neg (by omega)])
                    · skip
                      refine ga_aload_n (pc := 64) dX8_lots_64 rfl ?_
                      refine mm_g6 (pc := 65) (z := zLc z) rfl dX8_lots_65 ?_
                      refine ga_bipush (pc := 68) dX8_lots_68 rfl ?_
                      refine ga_iushr (pc := 70) dX8_lots_70 ?_
                      refine ga_bipush (pc := 71) dX8_lots_71 rfl ?_
                      have hus := zushr_16 (zLc z)
                      refine ga_irem (pc := 73) dX8_lots_73 (by omega) (by omega) (by omega) ?_
                      refine ga_bipush (pc := 74) dX8_lots_74 rfl ?_
                      refine ga_isub (pc := 76) dX8_lots_76 ?_
                      refine ga_goto (pc := 77) (tgt := 92) dX8_lots_77 rfl ?_
                      exact jn92 (((zushr (zLc z) 16).tmod 101) - 50) (by unfold zLv; first | rw [if_pos (by omega)] | rw [if_neg (by omega)])
              exact lp20 _ 0 z e (by omega) (hs2) (Nat.lt_succ_self _)
        exact lp9 _ 0 z e (by omega) (hs) (Nat.lt_succ_self _)
  exact lp2 _ 0 (I 6) (A 0) (by omega) (⟨rfl, rfl⟩) (Nat.lt_succ_self _)
theorem k_X8_lots {X : ga_X} {nL : Nat} {cc : ByteArray} {mo : Nat} {ad : Nat → Nat} {I : Nat → Int} {A : Nat → Int → Int} {d pc : Nat} {L : List (Option Value)} {st : List Value}   {I2 : Nat → Int} {A2 : Nat → Int → Int} (ok : mOk mo ad) (hm : (1 ≤ I 3 ∧ I 3 ≤ 3) ∧ 1 ≤ I 4 ∧ I 4 ≤ 3) (he5 : tEn (A 0)) (hz6 : -2147483648 ≤ I 6 ∧ I 6 < 2147483648)  (hI2 : (uN I 6 ((mLot I A).1)) = I2) (hA2 : (uN A 0 ((mLot I A).2)) = A2) (hR : 1 + 1 ≤ d ∧ 19 + 4 + 64 * 1 ≤ 64 * d) (hs : (st.map fun v => v.category).sum ≤ 8) (dd : decode cc pc = .ok (.invokevirtual 326, 3)) (kk : G X (gR d) RX8 nL cc (mH mo ad I2 A2) 0 0 (pc + 3) L st) : G X (gR d) RX8 nL cc (mH mo ad I A) 0 0 pc L (.ref mo :: st) :=
  mm_run ok (m_X8_lots _ _ mo ad I A  hm he5 hz6) (lw_V q2032 q2034 qs86 q113 q2035) rfl (show ga_nn' yX8_lots 0 from (by unfold ga_nn'; decide +kernel)) hR hs dd rfl (fun v I1 A1 hp => by
    obtain ⟨rfl, hp⟩ := hp
    obtain ⟨rfl, rfl⟩ := hp
    subst hI2
    subst hA2
    exact kk)
set_option maxHeartbeats 4000000 in
set_option maxRecDepth 100000 in
theorem m_X8_lot (l : Launch) (D : ga_G) (mo : Nat) (ad : Nat → Nat) (I : Nat → Int) (A : Nat → Int → Int)  (hm : (1 ≤ I 3 ∧ I 3 ≤ 3) ∧ 1 ≤ I 4 ∧ I 4 ≤ 3) (he5 : tEn (A 0)) (hz6 : -2147483648 ≤ I 6 ∧ I 6 < 2147483648) : mM l D yX8_lot (ws_ yX8_lot cX8_lot 1 (some .int)) (gR 2) [] mo ad I A (mI (fun r I1 A1 => r = (100 + mE (uN A 0 (mLot I A).2) 2 0 0) ∧ I1 = (uN I 6 ((mLot I A).1)) ∧ A1 = (uN A 0 ((mLot I A).2)))) := by
  refine mm_met 0 rfl (Nat.le_of_ble_eq_true rfl) (L0 := [some (.ref mo)]) rfl (fun X ok hE => ?_)
  refine ga_aload_n (pc := 0) dX8_lot_0 rfl ?_
  refine k_X8_lots (pc := 1)  (I2 := (uN I 6 ((mLot I A).1))) (A2 := (uN A 0 ((mLot I A).2))) ok (by first | exact hm | omega) (by first | exact he5 | omega) (by first | exact hz6 | omega) (rfl) (rfl) ⟨Nat.le_of_ble_eq_true rfl, Nat.le_of_ble_eq_true rfl⟩ (Nat.le_of_ble_eq_true rfl) dX8_lot_1 ?_
  refine ga_bipush (pc := 4) dX8_lot_4 rfl ?_
  refine ga_aload_n (pc := 6) dX8_lot_6 rfl ?_
  refine ga_iconst (pc := 7) dX8_lot_7 ?_
  refine ga_iconst (pc := 8) dX8_lot_8 ?_
  refine ga_iconst (pc := 9) dX8_lot_9 ?_
  refine k_X8_its (pc := 10) (t := 2) (i := 0) (j := 0) (z := mE (uN A 0 ((mLot I A).2)) 2 0 0) ok (show (0 ≤ 2 ∧ 2 ≤ 2) ∧ (0 ≤ 0 ∧ 0 ≤ 2) ∧ 0 ≤ 0 ∧ 0 ≤ 2 from by first | exact h1 | omega) (rfl) ⟨Nat.le_of_ble_eq_true rfl, Nat.le_of_ble_eq_true rfl⟩ (Nat.le_of_ble_eq_true rfl) dX8_lot_10 ?_
  refine ga_iadd (pc := 13) dX8_lot_13 ?_
  exact mm_iret hE dX8_lot_14 (⟨_, rfl, by first | rfl | omega | ((repeat' split) <;> omega), rfl, rfl⟩)
