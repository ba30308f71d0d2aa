/-! THE REFERENCE: systems of any shape -/
theorem mSys_t {E : Nat → Int → Int} {m n kind shape shift first p q : Int} (h : q < zW shape m n first) : mSys E m n kind shape shift first p q = mTak E n kind shape shift (p + first * n) (tPlc shape m n (q + (if first = 0 then 0 else first * n))) (m * n).toNat := if_pos h
theorem mSys_f {E : Nat → Int → Int} {m n kind shape shift first p q : Int} (h : ¬ q < zW shape m n first) : mSys E m n kind shape shift first p q = mE E 2 ((p + first * n).tdiv n) ((p + first * n).tmod n) := if_neg h
set_option maxHeartbeats 4000000 in
set_option maxRecDepth 100000 in
theorem m_X8_similar (l : Launch) (D : ga_G) (mo : Nat) (ad : Nat → Nat) (I : Nat → Int) (A : Nat → Int → Int) (e : Int) (hm : (1 ≤ I 3 ∧ I 3 ≤ 3) ∧ 1 ≤ I 4 ∧ I 4 ≤ 3) (he5 : tEn (A 0)) (heq : mEq I A) (hsf : mSafe (I 3) (I 4) A) (h1 : (-2147483648 ≤ e ∧ e < 2147483648)) : mM l D yX8_similar (ws_ yX8_similar cX8_similar 2 (some .int)) (gR 5) [.int (iI e)] mo ad I A (mI (fun r I1 A1 => r = mSim I A e ∧ mSam I A I1 A1)) := by
  refine mm_met 0 rfl (Nat.le_of_ble_eq_true rfl) (L0 := [some (.ref mo), some (.int (iI e))]) rfl (fun X ok hE => ?_)
  have hmn := mn_r hm
  refine ga_aload_n (pc := 0) dX8_similar_0 rfl ?_
  refine ga_iload_n (pc := 1) dX8_similar_1 rfl ?_
  refine k_X8_isEquation (pc := 2) (e := e) ok (by first | exact hq | omega) (by first | exact h1 | omega) (rfl) ⟨Nat.le_of_ble_eq_true rfl, Nat.le_of_ble_eq_true rfl⟩ (Nat.le_of_ble_eq_true rfl) dX8_similar_2 ?_
  refine ga_ifb_ne (pc := 5) (tgt := 10) dX8_similar_5 rfl (fun c5 => ?_) (fun c5 => ?_)
  · skip
    have hke := heq.2 e (by omega) (by omega)
    refine ga_aload_n (pc := 10) dX8_similar_10 rfl ?_
    refine ga_iload_n (pc := 11) dX8_similar_11 rfl ?_
    refine k_X8_isSmall (pc := 12) (e := e) ok (by first | exact hm | omega) (by first | exact heq | omega) (by first | exact h1 | omega) (rfl) ⟨Nat.le_of_ble_eq_true rfl, Nat.le_of_ble_eq_true rfl⟩ (Nat.le_of_ble_eq_true rfl) dX8_similar_12 ?_
    refine ga_ifb_ne (pc := 15) (tgt := 21) dX8_similar_15 rfl (fun c15 => ?_) (fun c15 => ?_)
    · skip
      have hz9 : zW 0 (I 3) (I 4) 0 = I 3 * I 4 ∧ zH (I 3) (I 4) 0 = I 3 * I 4 := ⟨by rw [zW_0, tCnt_0 (by omega)], zH_0 _ _⟩
      have hsy := hsf (A 11 e) 0 (A 12 e) 0 hke.1 (Or.inr rfl) (by omega) hke.2 (by omega) (fun _ => rfl) (by omega)
      refine ga_aload_n (pc := 21) dX8_similar_21 rfl ?_
      refine ga_aload_n (pc := 22) dX8_similar_22 rfl ?_
      refine mm_g11 (pc := 23) dX8_similar_23 ?_
      refine ga_iload_n (pc := 26) dX8_similar_26 rfl ?_
      refine mm_ald11 (pc := 27) (x := A 11 e) ok (by omega) (rfl) dX8_similar_27 ?_
      refine ga_iconst (pc := 28) dX8_similar_28 ?_
      refine ga_aload_n (pc := 29) dX8_similar_29 rfl ?_
      refine mm_g12 (pc := 30) dX8_similar_30 ?_
      refine ga_iload_n (pc := 33) dX8_similar_33 rfl ?_
      refine mm_ald12 (pc := 34) (x := A 12 e) ok (by omega) (rfl) dX8_similar_34 ?_
      refine ga_iconst (pc := 35) dX8_similar_35 ?_
      refine k_X8_sets (pc := 36) (kind := (A 11 e)) (shape := 0) (shift := (A 12 e)) (first := 0) (H := (zH (I 3) (I 4) 0)) (W := (zW 0 (I 3) (I 4) 0)) (T := (mSys A (I 3) (I 4) (A 11 e) 0 (A 12 e) 0)) ok (by first | exact hm | omega) (by first | exact he5 | omega) (by first | exact h1 | omega) (by omega) (⟨by unfold zH; omega, by omega, by rw [tCnt_e]; rfl, by omega, by omega⟩) (fun p q p0 p1 q0 => ⟨fun q1 => by rw [mSys_t q1]; congr 1; exact (tPlc_e _ _ _ _ (by rw [if_pos rfl]; omega) (by unfold zW at q1; omega)).symm, fun q1 => mSys_f (by rw [q1]; exact Int.lt_irrefl _)⟩) (hsy) ⟨Nat.le_of_ble_eq_true rfl, Nat.le_of_ble_eq_true rfl⟩ (Nat.le_of_ble_eq_true rfl) dX8_similar_36 (fun I36 A36 hp36 => ?_)
      obtain ⟨hsm36, hst9, -⟩ : mSam I A I36 A36 ∧ mSt I36 A36 (zH (I 3) (I 4) 0) (zW 0 (I 3) (I 4) 0) (mK0 I A e 0) ∧ _ := hp36
      have hI3 : I36 3 = I 3 := hsm36.1 3 (by decide)
      have hI4 : I36 4 = I 4 := hsm36.1 4 (by decide)
      have hzr : (0 ≤ (mK0 I A e 0).2.1 ∧ (mK0 I A e 0).2.1 ≤ (zW 0 (I 3) (I 4) 0) ∧ (mK0 I A e 0).2.1 ≤ (zH (I 3) (I 4) 0)) ∧ (0 ≤ (mK0 I A e 0).2.2.1 ∧ (mK0 I A e 0).2.2.1 ≤ (zW 0 (I 3) (I 4) 0)) ∧ (∀ k : Int, -1 ≤ (mK0 I A e 0).2.2.2.2 k ∧ (mK0 I A e 0).2.2.2.2 k < (mK0 I A e 0).2.1) ∧ eEnt (zH (I 3) (I 4) 0) (zW 0 (I 3) (I 4) 0) (mK0 I A e 0) ∧ (mK0 I A e 0).2.2.2.1 ≠ 0 ∧ z40 (mK0 I A e 0).2.2.2.1 := zSy_r hsy (by omega) (by omega)
      have hsw9 : (0 ≤ (zH (I 3) (I 4) 0) ∧ (zH (I 3) (I 4) 0) ≤ 9) ∧ (0 ≤ (zW 0 (I 3) (I 4) 0) ∧ (zW 0 (I 3) (I 4) 0) ≤ 7) ∧ 0 ≤ (mK0 I A e 0).2.1 ∧ (mK0 I A e 0).2.1 ≤ (zH (I 3) (I 4) 0) := ⟨by omega, by omega, hzr.1.1, hzr.1.2.2⟩
      refine ga_aload_n (pc := 39) dX8_similar_39 rfl ?_
      refine k_X8_isSolved (pc := 40) (H := (zH (I 3) (I 4) 0)) (W := (zW 0 (I 3) (I 4) 0)) (S := (mK0 I A e 0)) ok (hst9) (hsw9) (hzr.2.2.2.1) ⟨Nat.le_of_ble_eq_true rfl, Nat.le_of_ble_eq_true rfl⟩ (Nat.le_of_ble_eq_true rfl) dX8_similar_40 (fun r40 I40 A40 hp40 => ?_)
      obtain ⟨⟨eI40, eA40⟩, hq40⟩ := hp40
      rw [eI40, eA40]
      have er40 := eSlv_o hsw9.2.2.2 hq40
      have hr40 : r40 = 0 ∨ r40 = 1 := by rcases hq40 with ⟨z, -⟩ | ⟨z, -⟩ <;> omega
      refine ga_if_eq (pc := 43) (tgt := 50) dX8_similar_43 rfl (by omega) (fun c43 => ?_) (fun c43 => ?_)
      · skip
        refine ga_iconst (pc := 50) dX8_similar_50 ?_
        exact mm_iret hE dX8_similar_51 (⟨_, rfl, by dsimp only; exact ⟨by unfold mSim; (repeat' split) <;> first | (exfalso; omega) | rfl | omega | assumption, hsm36⟩⟩)
      · skip
        refine ga_iconst (pc := 46) dX8_similar_46 ?_
        refine ga_goto (pc := 47) (tgt := 51) dX8_similar_47 rfl ?_
        exact mm_iret hE dX8_similar_51 (⟨_, rfl, by dsimp only; exact ⟨by unfold mSim; (repeat' split) <;> first | (exfalso; omega) | rfl | omega | assumption, hsm36⟩⟩)
    · skip
      refine ga_bipush (pc := 18) dX8_similar_18 rfl ?_
      exact mm_iret hE dX8_similar_20 (⟨_, rfl, by dsimp only; exact ⟨by unfold mSim; (repeat' split) <;> first | (exfalso; omega) | rfl | omega | assumption, (mSam.refl I A)⟩⟩)
  · skip
    refine ga_iconst (pc := 8) dX8_similar_8 ?_
    exact mm_iret hE dX8_similar_9 (⟨_, rfl, by dsimp only; exact ⟨by unfold mSim; (repeat' split) <;> first | (exfalso; omega) | rfl | omega | assumption, (mSam.refl I A)⟩⟩)
set_option maxHeartbeats 4000000 in
set_option maxRecDepth 100000 in
theorem m_X8_whole (l : Launch) (D : ga_G) (mo : Nat) (ad : Nat → Nat) (I : Nat → Int) (A : Nat → Int → Int) (e : Int) (hm : (1 ≤ I 3 ∧ I 3 ≤ 3) ∧ 1 ≤ I 4 ∧ I 4 ≤ 3) (he5 : tEn (A 0)) (heq : mEq I A) (hsf : mSafe (I 3) (I 4) A) (h1 : (-2147483648 ≤ e ∧ e < 2147483648)) : mM l D yX8_whole (ws_ yX8_whole cX8_whole 2 (some .long)) (gR 5) [.int (iI e)] mo ad I A (mL (fun r I1 A1 => r = mWho I A e ∧ mSam I A I1 A1)) := by
  refine mm_met 0 rfl (Nat.le_of_ble_eq_true rfl) (L0 := [some (.ref mo), some (.int (iI e))]) rfl (fun X ok hE => ?_)
  have hmn := mn_r hm
  refine ga_aload_n (pc := 0) dX8_whole_0 rfl ?_
  refine ga_iload_n (pc := 1) dX8_whole_1 rfl ?_
  refine k_X8_isEquation (pc := 2) (e := e) ok (by first | exact hq | omega) (by first | exact h1 | omega) (rfl) ⟨Nat.le_of_ble_eq_true rfl, Nat.le_of_ble_eq_true rfl⟩ (Nat.le_of_ble_eq_true rfl) dX8_whole_2 ?_
  refine ga_ifb_ne (pc := 5) (tgt := 13) dX8_whole_5 rfl (fun c5 => ?_) (fun c5 => ?_)
  · skip
    have hke := heq.2 e (by omega) (by omega)
    refine ga_aload_n (pc := 13) dX8_whole_13 rfl ?_
    refine ga_iload_n (pc := 14) dX8_whole_14 rfl ?_
    refine k_X8_isSmall (pc := 15) (e := e) ok (by first | exact hm | omega) (by first | exact heq | omega) (by first | exact h1 | omega) (rfl) ⟨Nat.le_of_ble_eq_true rfl, Nat.le_of_ble_eq_true rfl⟩ (Nat.le_of_ble_eq_true rfl) dX8_whole_15 ?_
    refine ga_ifb_ne (pc := 18) (tgt := 27) dX8_whole_18 rfl (fun c18 => ?_) (fun c18 => ?_)
    · skip
      have hz9 : zW 0 (I 3) (I 4) 0 = I 3 * I 4 ∧ zH (I 3) (I 4) 0 = I 3 * I 4 := ⟨by rw [zW_0, tCnt_0 (by omega)], zH_0 _ _⟩
      have hsy := hsf (A 11 e) 0 (A 12 e) 0 hke.1 (Or.inr rfl) (by omega) hke.2 (by omega) (fun _ => rfl) (by omega)
      refine ga_aload_n (pc := 27) dX8_whole_27 rfl ?_
      refine ga_aload_n (pc := 28) dX8_whole_28 rfl ?_
      refine mm_g11 (pc := 29) dX8_whole_29 ?_
      refine ga_iload_n (pc := 32) dX8_whole_32 rfl ?_
      refine mm_ald11 (pc := 33) (x := A 11 e) ok (by omega) (rfl) dX8_whole_33 ?_
      refine ga_iconst (pc := 34) dX8_whole_34 ?_
      refine ga_aload_n (pc := 35) dX8_whole_35 rfl ?_
      refine mm_g12 (pc := 36) dX8_whole_36 ?_
      refine ga_iload_n (pc := 39) dX8_whole_39 rfl ?_
      refine mm_ald12 (pc := 40) (x := A 12 e) ok (by omega) (rfl) dX8_whole_40 ?_
      refine ga_iconst (pc := 41) dX8_whole_41 ?_
      refine k_X8_sets (pc := 42) (kind := (A 11 e)) (shape := 0) (shift := (A 12 e)) (first := 0) (H := (zH (I 3) (I 4) 0)) (W := (zW 0 (I 3) (I 4) 0)) (T := (mSys A (I 3) (I 4) (A 11 e) 0 (A 12 e) 0)) ok (by first | exact hm | omega) (by first | exact he5 | omega) (by first | exact h1 | omega) (by omega) (⟨by unfold zH; omega, by omega, by rw [tCnt_e]; rfl, by omega, by omega⟩) (fun p q p0 p1 q0 => ⟨fun q1 => by rw [mSys_t q1]; congr 1; exact (tPlc_e _ _ _ _ (by rw [if_pos rfl]; omega) (by unfold zW at q1; omega)).symm, fun q1 => mSys_f (by rw [q1]; exact Int.lt_irrefl _)⟩) (hsy) ⟨Nat.le_of_ble_eq_true rfl, Nat.le_of_ble_eq_true rfl⟩ (Nat.le_of_ble_eq_true rfl) dX8_whole_42 (fun I42 A42 hp42 => ?_)
      obtain ⟨hsm42, hst9, -⟩ : mSam I A I42 A42 ∧ mSt I42 A42 (zH (I 3) (I 4) 0) (zW 0 (I 3) (I 4) 0) (mK0 I A e 0) ∧ _ := hp42
      have hI3 : I42 3 = I 3 := hsm42.1 3 (by decide)
      have hI4 : I42 4 = I 4 := hsm42.1 4 (by decide)
      have hzr : (0 ≤ (mK0 I A e 0).2.1 ∧ (mK0 I A e 0).2.1 ≤ (zW 0 (I 3) (I 4) 0) ∧ (mK0 I A e 0).2.1 ≤ (zH (I 3) (I 4) 0)) ∧ (0 ≤ (mK0 I A e 0).2.2.1 ∧ (mK0 I A e 0).2.2.1 ≤ (zW 0 (I 3) (I 4) 0)) ∧ (∀ k : Int, -1 ≤ (mK0 I A e 0).2.2.2.2 k ∧ (mK0 I A e 0).2.2.2.2 k < (mK0 I A e 0).2.1) ∧ eEnt (zH (I 3) (I 4) 0) (zW 0 (I 3) (I 4) 0) (mK0 I A e 0) ∧ (mK0 I A e 0).2.2.2.1 ≠ 0 ∧ z40 (mK0 I A e 0).2.2.2.1 := zSy_r hsy (by omega) (by omega)
      have hsw9 : (0 ≤ (zH (I 3) (I 4) 0) ∧ (zH (I 3) (I 4) 0) ≤ 9) ∧ (0 ≤ (zW 0 (I 3) (I 4) 0) ∧ (zW 0 (I 3) (I 4) 0) ≤ 7) ∧ 0 ≤ (mK0 I A e 0).2.1 ∧ (mK0 I A e 0).2.1 ≤ (zH (I 3) (I 4) 0) := ⟨by omega, by omega, hzr.1.1, hzr.1.2.2⟩
      refine ga_aload_n (pc := 45) dX8_whole_45 rfl ?_
      refine mm_g28 (pc := 46) (z := I42 28) rfl dX8_whole_46 ?_
      refine ga_topi (pc := 49) (b := (mK0 I A e 0).2.1) (hst9.2.1.1) ?_
      refine ga_aload_n (pc := 49) dX8_whole_49 rfl ?_
      refine mm_g3 (pc := 50) (z := I42 3) rfl dX8_whole_50 ?_
      refine ga_topi (pc := 53) (b := I 3) (hI3) ?_
      refine ga_aload_n (pc := 53) dX8_whole_53 rfl ?_
      refine mm_g4 (pc := 54) (z := I42 4) rfl dX8_whole_54 ?_
      refine ga_topi (pc := 57) (b := I 4) (hI4) ?_
      refine ga_imul (pc := 57) dX8_whole_57 ?_
      refine ga_icmp_ge (pc := 58) (tgt := 65) dX8_whole_58 rfl (by omega) (by omega) (fun c58 => ?_) (fun c58 => ?_)
      · skip
        refine ga_aload_n (pc := 65) dX8_whole_65 rfl ?_
        refine mm_g29 (pc := 66) (z := I42 29) rfl dX8_whole_66 ?_
        refine ga_topi (pc := 69) (b := (mK0 I A e 0).2.2.1) (hst9.2.1.2.1) ?_
        refine ga_iconst (pc := 69) dX8_whole_69 ?_
        have ht2 : -2 < (mK0 I A e 0).2.2.1.tmod 2 ∧ (mK0 I A e 0).2.2.1.tmod 2 < 2 := ⟨by have := Int.lt_tmod_of_pos (mK0 I A e 0).2.2.1 (show (0:Int) < 2 by decide); omega, Int.tmod_lt_of_pos _ (by decide)⟩
        refine ga_irem (pc := 70) dX8_whole_70 (by omega) (by omega) (by omega) ?_
        refine ga_iconst (pc := 71) dX8_whole_71 ?_
        refine ga_icmp_ne (pc := 72) (tgt := 83) dX8_whole_72 rfl (by omega) (by omega) (fun c72 => ?_) (fun c72 => ?_)
        · skip
          refine ga_aload_n (pc := 83) dX8_whole_83 rfl ?_
          refine mm_g30 (pc := 84) (z := I42 30) rfl dX8_whole_84 ?_
          refine ga_topl (pc := 87) (b := (mK0 I A e 0).2.2.2.1) (hst9.2.1.2.2) ?_
          exact mm_lret hE dX8_whole_87 (⟨_, rfl, by dsimp only; exact ⟨by unfold mWho; (repeat' split) <;> first | (exfalso; omega) | rfl | omega | assumption, hsm42⟩⟩)
        · skip
          refine ga_aload_n (pc := 75) dX8_whole_75 rfl ?_
          refine mm_g30 (pc := 76) (z := I42 30) rfl dX8_whole_76 ?_
          refine ga_topl (pc := 79) (b := (mK0 I A e 0).2.2.2.1) (hst9.2.1.2.2) ?_
          refine ga_lneg (pc := 79) dX8_whole_79 ?_
          refine ga_goto (pc := 80) (tgt := 87) dX8_whole_80 rfl ?_
          exact mm_lret hE dX8_whole_87 (⟨_, rfl, by dsimp only; exact ⟨by unfold mWho; (repeat' split) <;> first | (exfalso; omega) | rfl | omega | assumption, hsm42⟩⟩)
      · skip
        refine ga_lconst (pc := 61) 0 dX8_whole_61 rfl ?_
        refine ga_goto (pc := 62) (tgt := 87) dX8_whole_62 rfl ?_
        exact mm_lret hE dX8_whole_87 (⟨_, rfl, by dsimp only; exact ⟨by unfold mWho; (repeat' split) <;> first | (exfalso; omega) | rfl | omega | assumption, hsm42⟩⟩)
    · skip
      refine ga_bipush (pc := 21) dX8_whole_21 rfl ?_
      refine k_X8_told (pc := 23) (a := (-4)) (by omega) (rfl) ⟨Nat.le_of_ble_eq_true rfl, Nat.le_of_ble_eq_true rfl⟩ ⟨Nat.le_of_ble_eq_true rfl, Nat.le_of_ble_eq_true rfl⟩ (Nat.le_of_ble_eq_true rfl) dX8_whole_23 ?_
      exact mm_lret hE dX8_whole_26 (⟨_, rfl, by dsimp only; exact ⟨by unfold mWho; (repeat' split) <;> first | (exfalso; omega) | rfl | omega | assumption, (mSam.refl I A)⟩⟩)
  · skip
    refine ga_iconst (pc := 8) dX8_whole_8 ?_
    refine k_X8_told (pc := 9) (a := (-1)) (by omega) (rfl) ⟨Nat.le_of_ble_eq_true rfl, Nat.le_of_ble_eq_true rfl⟩ ⟨Nat.le_of_ble_eq_true rfl, Nat.le_of_ble_eq_true rfl⟩ (Nat.le_of_ble_eq_true rfl) dX8_whole_9 ?_
    exact mm_lret hE dX8_whole_12 (⟨_, rfl, by dsimp only; exact ⟨by unfold mWho; (repeat' split) <;> first | (exfalso; omega) | rfl | omega | assumption, (mSam.refl I A)⟩⟩)
set_option maxHeartbeats 4000000 in
set_option maxRecDepth 100000 in
theorem m_X8_splits (l : Launch) (D : ga_G) (mo : Nat) (ad : Nat → Nat) (I : Nat → Int) (A : Nat → Int → Int) (s : Int) (hm : (1 ≤ I 3 ∧ I 3 ≤ 3) ∧ 1 ≤ I 4 ∧ I 4 ≤ 3) (he5 : tEn (A 0)) (h1 : 1 ≤ s ∧ s < I 3) : mM l D yX8_splits (ws_ yX8_splits cX8_splits 4 (some .boolean)) (gR 1) [.int (iI s)] mo ad I A (mI (fun r I1 A1 => r = (bI (zSpl A (I 3) s)) ∧ I1 = I ∧ A1 = A)) := by
  refine mm_met 2 rfl (Nat.le_of_ble_eq_true rfl) (L0 := [some (.ref mo), some (.int (iI s)), none, none]) rfl (fun X ok hE => ?_)
  refine ga_iload_n (pc := 0) dX8_splits_0 rfl ?_
  refine ga_istore_n (pc := 1) (L1 := [some (.ref mo), some (.int (iI s)), some (.int (iI s)), none]) dX8_splits_1 rfl (by decide) rfl ?_
  have lp2 : ∀ (N2 : Nat) (i : Int), (s ≤ i ∧ i ≤ I 3) → (∀ a b : Int, s ≤ a → a < i → 0 ≤ b → b < s → mE A 0 a b = 0) → (I 3 - i).toNat < N2 → G X (gR 1) RX8 4 cX8_splits (mH mo ad I A) 0 0 2 [some (.ref mo), some (.int (iI s)), some (.int (iI i)), none] [] := by
    intro N2
    induction N2 with
    | zero => intro i hi hv hN2; exact absurd hN2 (Nat.not_lt_zero _)
    | succ N2 ih2 =>
      intro i hi hv hN2
      refine ga_iload_n (pc := 2) dX8_splits_2 rfl ?_
      refine ga_aload_n (pc := 3) dX8_splits_3 rfl ?_
      refine mm_g3 (pc := 4) (z := I 3) rfl dX8_splits_4 ?_
      refine ga_icmp_ge (pc := 7) (tgt := 41) dX8_splits_7 rfl (by omega) (by omega) (fun c7 => ?_) (fun c7 => ?_)
      · skip
        refine ga_iconst (pc := 41) dX8_splits_41 ?_
        exact mm_zret hE dX8_splits_42 (by first | exact Or.inl rfl | exact Or.inr rfl) (⟨_, rfl, by rw [bI_t (zSpl_t (by omega) (fun a b a0 a1 b0 b1 => hv a b a0 (by omega) b0 b1))], rfl, rfl⟩)
      · skip
        refine ga_iconst (pc := 10) dX8_splits_10 ?_
        refine ga_istore_n (pc := 11) (L1 := [some (.ref mo), some (.int (iI s)), some (.int (iI i)), some (.int (iI 0))]) dX8_splits_11 rfl (by decide) rfl ?_
        have lp12 : ∀ (N12 : Nat) (j : Int), (0 ≤ j ∧ j ≤ s) → (∀ b : Int, 0 ≤ b → b < j → mE A 0 i b = 0) → (s - j).toNat < N12 → G X (gR 1) RX8 4 cX8_splits (mH mo ad I A) 0 0 12 [some (.ref mo), some (.int (iI s)), some (.int (iI i)), some (.int (iI j))] [] := by
          intro N12
          induction N12 with
          | zero => intro j hj hw hN12; exact absurd hN12 (Nat.not_lt_zero _)
          | succ N12 ih12 =>
            intro j hj hw hN12
            refine ga_iload_n (pc := 12) dX8_splits_12 rfl ?_
            refine ga_iload_n (pc := 13) dX8_splits_13 rfl ?_
            refine ga_icmp_ge (pc := 14) (tgt := 35) dX8_splits_14 rfl (by omega) (by omega) (fun c14 => ?_) (fun c14 => ?_)
            · skip
              refine ga_iinc (pc := 35) (L1 := [some (.ref mo), some (.int (iI s)), some (.int (iI (i + 1))), some (.int (iI j))]) dX8_splits_35 rfl rfl (by decide) rfl ?_
              refine ga_goto (pc := 38) (tgt := 2) dX8_splits_38 rfl ?_
              refine ga_kill (pc := 2) 3 (L1 := [some (.ref mo), some (.int (iI s)), some (.int (iI (i + 1))), none]) rfl ?_
              exact ih2 (i + 1) (by omega) (fun a b a0 a1 b0 b1 => by by_cases e : a = i; (rw [e]; exact hw b b0 (by omega)); exact hv a b a0 (by omega) b0 b1) (by omega)
            · skip
              refine ga_aload_n (pc := 17) dX8_splits_17 rfl ?_
              refine ga_iconst (pc := 18) dX8_splits_18 ?_
              refine ga_iload_n (pc := 19) dX8_splits_19 rfl ?_
              refine ga_iload_n (pc := 20) dX8_splits_20 rfl ?_
              refine k_X8_its (pc := 21) (t := 0) (i := i) (j := j) (z := mE A 0 i j) ok (by first | exact h1 | omega) (rfl) ⟨Nat.le_of_ble_eq_true rfl, Nat.le_of_ble_eq_true rfl⟩ (Nat.le_of_ble_eq_true rfl) dX8_splits_21 ?_
              have hez := mE_r he5 0 i j
              refine ga_if_eq (pc := 24) (tgt := 29) dX8_splits_24 rfl (by omega) (fun c24 => ?_) (fun c24 => ?_)
              · skip
                refine ga_iinc (pc := 29) (L1 := [some (.ref mo), some (.int (iI s)), some (.int (iI i)), some (.int (iI (j + 1)))]) dX8_splits_29 rfl rfl (by decide) rfl ?_
                refine ga_goto (pc := 32) (tgt := 12) dX8_splits_32 rfl ?_
                exact ih12 (j + 1) (by omega) (fun b b0 b1 => by by_cases e : b = j; (rw [e]; omega); exact hw b b0 (by omega)) (by omega)
              · skip
                refine ga_iconst (pc := 27) dX8_splits_27 ?_
                exact mm_zret hE dX8_splits_28 (by first | exact Or.inl rfl | exact Or.inr rfl) (⟨_, rfl, by rw [bI_f (zSpl_f (i := i) (j := j) (by omega) (by omega) (by omega))], rfl, rfl⟩)
        exact lp12 _ 0 (by omega) (fun b b0 b1 => by omega) (Nat.lt_succ_self _)
  exact lp2 _ s (by omega) (fun a b a0 a1 => by omega) (Nat.lt_succ_self _)
theorem k_X8_splits {X : ga_X} {nL : Nat} {cc : ByteArray} {mo : Nat} {ad : Nat → Nat} {I : Nat → Int} {A : Nat → Int → Int} {d pc : Nat} {L : List (Option Value)} {st : List Value} {s : Int} {z : Int} (ok : mOk mo ad) (hm : (1 ≤ I 3 ∧ I 3 ≤ 3) ∧ 1 ≤ I 4 ∧ I 4 ≤ 3) (he5 : tEn (A 0)) (h1 : 1 ≤ s ∧ s < I 3) (hz : (bI (zSpl A (I 3) s)) = z) (hR : 1 + 1 ≤ d ∧ 19 + 4 + 64 * 1 ≤ 64 * d) (hs : (st.map fun v => v.category).sum ≤ 8) (dd : decode cc pc = .ok (.invokevirtual 300, 3)) (kk : G X (gR d) RX8 nL cc (mH mo ad I A) 0 0 (pc + 3) L (.int (iI z) :: st)) : G X (gR d) RX8 nL cc (mH mo ad I A) 0 0 pc L (.int (iI s) :: .ref mo :: st) :=
  mm_run ok (m_X8_splits _ _ mo ad I A s hm he5 h1) (lw_V q1975 q1977 qs81 q113 q1978) rfl (show ga_nn' yX8_splits 1 from (by unfold ga_nn'; decide +kernel)) hR hs dd rfl (fun v I1 A1 hp => by
    obtain ⟨r, rfl, hp⟩ := hp
    obtain ⟨e1, rfl, rfl⟩ := hp
    subst hz
    rw [e1]
    exact kk)
set_option maxHeartbeats 4000000 in
set_option maxRecDepth 100000 in
theorem m_X8_lower (l : Launch) (D : ga_G) (mo : Nat) (ad : Nat → Nat) (I : Nat → Int) (A : Nat → Int → Int) (e s : Int) (hm : (1 ≤ I 3 ∧ I 3 ≤ 3) ∧ 1 ≤ I 4 ∧ I 4 ≤ 3) (he5 : tEn (A 0)) (heq : mEq I A) (hsf : mSafe (I 3) (I 4) A) (h1 : (-2147483648 ≤ e ∧ e < 2147483648) ∧ (-2147483648 ≤ s ∧ s < 2147483648)) : mM l D yX8_lower (ws_ yX8_lower cX8_lower 3 (some .int)) (gR 5) [.int (iI e), .int (iI s)] mo ad I A (mI (fun r I1 A1 => r = mLow I A e s ∧ mSam I A I1 A1)) := by
  refine mm_met 0 rfl (Nat.le_of_ble_eq_true rfl) (L0 := [some (.ref mo), some (.int (iI e)), some (.int (iI s))]) rfl (fun X ok hE => ?_)
  have hmn := mn_r hm
  refine ga_aload_n (pc := 0) dX8_lower_0 rfl ?_
  refine ga_iload_n (pc := 1) dX8_lower_1 rfl ?_
  refine k_X8_isEquation (pc := 2) (e := e) ok (by first | exact hq | omega) (by first | exact h1 | omega) (rfl) ⟨Nat.le_of_ble_eq_true rfl, Nat.le_of_ble_eq_true rfl⟩ (Nat.le_of_ble_eq_true rfl) dX8_lower_2 ?_
  refine ga_ifb_eq (pc := 5) (tgt := 20) dX8_lower_5 rfl (fun c5 => ?_) (fun c5 => ?_)
  · skip
    refine ga_iconst (pc := 20) dX8_lower_20 ?_
    exact mm_iret hE dX8_lower_21 (⟨_, rfl, by dsimp only; exact ⟨by unfold mLow; (repeat' split) <;> first | (exfalso; omega) | rfl | omega | assumption, (mSam.refl I A)⟩⟩)
  · skip
    refine ga_iload_n (pc := 8) dX8_lower_8 rfl ?_
    refine ga_i2l (pc := 9) dX8_lower_9 (by omega) ?_
    refine ga_lconst (pc := 10) 1 dX8_lower_10 rfl ?_
    refine ga_ldc2 (pc := 11) (2) dX8_lower_11 q1743 rfl ?_
    refine k_X8_in (pc := 14) (a := s) (b := 1) (c := (2)) (by omega) (rfl) ⟨Nat.le_of_ble_eq_true rfl, Nat.le_of_ble_eq_true rfl⟩ ⟨Nat.le_of_ble_eq_true rfl, Nat.le_of_ble_eq_true rfl⟩ (Nat.le_of_ble_eq_true rfl) dX8_lower_14 ?_
    refine ga_ifb_ne (pc := 17) (tgt := 22) dX8_lower_17 rfl (fun c17 => ?_) (fun c17 => ?_)
    · skip
      have hke := heq.2 e (by omega) (by omega)
      refine ga_iload_n (pc := 22) dX8_lower_22 rfl ?_
      refine ga_aload_n (pc := 23) dX8_lower_23 rfl ?_
      refine mm_g3 (pc := 24) (z := I 3) rfl dX8_lower_24 ?_
      refine ga_icmp_ge (pc := 27) (tgt := 51) dX8_lower_27 rfl (by omega) (by omega) (fun c27 => ?_) (fun c27 => ?_)
      · skip
        refine ga_bipush (pc := 51) dX8_lower_51 rfl ?_
        exact mm_iret hE dX8_lower_53 (⟨_, rfl, by dsimp only; exact ⟨by unfold mLow; (repeat' split) <;> first | (exfalso; omega) | rfl | omega | assumption, (mSam.refl I A)⟩⟩)
      · skip
        refine ga_aload_n (pc := 30) dX8_lower_30 rfl ?_
        refine ga_iload_n (pc := 31) dX8_lower_31 rfl ?_
        refine k_X8_splits (pc := 32) (s := s) ok (by first | exact hm | omega) (by first | exact he5 | omega) (by first | exact h1 | omega) (rfl) ⟨Nat.le_of_ble_eq_true rfl, Nat.le_of_ble_eq_true rfl⟩ (Nat.le_of_ble_eq_true rfl) dX8_lower_32 ?_
        refine ga_ifb_eq (pc := 35) (tgt := 51) dX8_lower_35 rfl (fun c35 => ?_) (fun c35 => ?_)
        · skip
          refine ga_bipush (pc := 51) dX8_lower_51 rfl ?_
          exact mm_iret hE dX8_lower_53 (⟨_, rfl, by dsimp only; exact ⟨by unfold mLow; (repeat' split) <;> first | (exfalso; omega) | rfl | omega | assumption, (mSam.refl I A)⟩⟩)
        · skip
          refine ga_aload_n (pc := 38) dX8_lower_38 rfl ?_
          refine ga_aload_n (pc := 39) dX8_lower_39 rfl ?_
          refine mm_g11 (pc := 40) dX8_lower_40 ?_
          refine ga_iload_n (pc := 43) dX8_lower_43 rfl ?_
          refine mm_ald11 (pc := 44) (x := A 11 e) ok (by omega) (rfl) dX8_lower_44 ?_
          refine k_X8_isLike (pc := 45) (k := (A 11 e)) ok (by first | exact hm | omega) (by first | exact h1 | omega) (rfl) ⟨Nat.le_of_ble_eq_true rfl, Nat.le_of_ble_eq_true rfl⟩ (Nat.le_of_ble_eq_true rfl) dX8_lower_45 ?_
          refine ga_ifb_ne (pc := 48) (tgt := 54) dX8_lower_48 rfl (fun c48 => ?_) (fun c48 => ?_)
          · skip
            have hz8 : zH (I 3) (I 4) s = I 3 * I 4 - s * I 4 := rfl
            have hz9 := zW_6 hm (s := s) (by omega)
            have hsy := hsf (A 11 e) 0 (A 12 e) s hke.1 (Or.inr rfl) (by omega) hke.2 (by omega) (fun _ => rfl) (by omega)
            refine ga_aload_n (pc := 54) dX8_lower_54 rfl ?_
            refine ga_aload_n (pc := 55) dX8_lower_55 rfl ?_
            refine mm_g11 (pc := 56) dX8_lower_56 ?_
            refine ga_iload_n (pc := 59) dX8_lower_59 rfl ?_
            refine mm_ald11 (pc := 60) (x := A 11 e) ok (by omega) (rfl) dX8_lower_60 ?_
            refine ga_iconst (pc := 61) dX8_lower_61 ?_
            refine ga_aload_n (pc := 62) dX8_lower_62 rfl ?_
            refine mm_g12 (pc := 63) dX8_lower_63 ?_
            refine ga_iload_n (pc := 66) dX8_lower_66 rfl ?_
            refine mm_ald12 (pc := 67) (x := A 12 e) ok (by omega) (rfl) dX8_lower_67 ?_
            refine ga_iload_n (pc := 68) dX8_lower_68 rfl ?_
            refine k_X8_sets (pc := 69) (kind := (A 11 e)) (shape := 0) (shift := (A 12 e)) (first := s) (H := (zH (I 3) (I 4) s)) (W := (zW 0 (I 3) (I 4) s)) (T := (mSys A (I 3) (I 4) (A 11 e) 0 (A 12 e) s)) ok (by first | exact hm | omega) (by first | exact he5 | omega) (by first | exact h1 | omega) (by omega) (⟨by unfold zH; omega, by omega, by rw [tCnt_e]; rfl, by omega, by omega⟩) (fun p q p0 p1 q0 => ⟨fun q1 => by rw [mSys_t q1]; congr 1; exact (tPlc_e _ _ _ _ (by rw [if_neg (by omega)]; omega) (by unfold zW at q1; omega)).symm, fun q1 => mSys_f (by rw [q1]; exact Int.lt_irrefl _)⟩) (hsy) ⟨Nat.le_of_ble_eq_true rfl, Nat.le_of_ble_eq_true rfl⟩ (Nat.le_of_ble_eq_true rfl) dX8_lower_69 (fun I69 A69 hp69 => ?_)
            obtain ⟨hsm69, hst9, -⟩ : mSam I A I69 A69 ∧ mSt I69 A69 (zH (I 3) (I 4) s) (zW 0 (I 3) (I 4) s) (mK0 I A e s) ∧ _ := hp69
            have hI3 : I69 3 = I 3 := hsm69.1 3 (by decide)
            have hI4 : I69 4 = I 4 := hsm69.1 4 (by decide)
            have hzr : (0 ≤ (mK0 I A e s).2.1 ∧ (mK0 I A e s).2.1 ≤ (zW 0 (I 3) (I 4) s) ∧ (mK0 I A e s).2.1 ≤ (zH (I 3) (I 4) s)) ∧ (0 ≤ (mK0 I A e s).2.2.1 ∧ (mK0 I A e s).2.2.1 ≤ (zW 0 (I 3) (I 4) s)) ∧ (∀ k : Int, -1 ≤ (mK0 I A e s).2.2.2.2 k ∧ (mK0 I A e s).2.2.2.2 k < (mK0 I A e s).2.1) ∧ eEnt (zH (I 3) (I 4) s) (zW 0 (I 3) (I 4) s) (mK0 I A e s) ∧ (mK0 I A e s).2.2.2.1 ≠ 0 ∧ z40 (mK0 I A e s).2.2.2.1 := zSy_r hsy (by omega) (by omega)
            have hsw9 : (0 ≤ (zH (I 3) (I 4) s) ∧ (zH (I 3) (I 4) s) ≤ 9) ∧ (0 ≤ (zW 0 (I 3) (I 4) s) ∧ (zW 0 (I 3) (I 4) s) ≤ 7) ∧ 0 ≤ (mK0 I A e s).2.1 ∧ (mK0 I A e s).2.1 ≤ (zH (I 3) (I 4) s) := ⟨by omega, by omega, hzr.1.1, hzr.1.2.2⟩
            refine ga_aload_n (pc := 72) dX8_lower_72 rfl ?_
            refine k_X8_isSolved (pc := 73) (H := (zH (I 3) (I 4) s)) (W := (zW 0 (I 3) (I 4) s)) (S := (mK0 I A e s)) ok (hst9) (hsw9) (hzr.2.2.2.1) ⟨Nat.le_of_ble_eq_true rfl, Nat.le_of_ble_eq_true rfl⟩ (Nat.le_of_ble_eq_true rfl) dX8_lower_73 (fun r73 I73 A73 hp73 => ?_)
            obtain ⟨⟨eI73, eA73⟩, hq73⟩ := hp73
            rw [eI73, eA73]
            have er73 := eSlv_o hsw9.2.2.2 hq73
            have hr73 : r73 = 0 ∨ r73 = 1 := by rcases hq73 with ⟨z, -⟩ | ⟨z, -⟩ <;> omega
            refine ga_if_eq (pc := 76) (tgt := 83) dX8_lower_76 rfl (by omega) (fun c76 => ?_) (fun c76 => ?_)
            · skip
              refine ga_iconst (pc := 83) dX8_lower_83 ?_
              exact mm_iret hE dX8_lower_84 (⟨_, rfl, by dsimp only; exact ⟨by unfold mLow; (repeat' split) <;> first | (exfalso; omega) | rfl | omega | assumption, hsm69⟩⟩)
            · skip
              refine ga_iconst (pc := 79) dX8_lower_79 ?_
              refine ga_goto (pc := 80) (tgt := 84) dX8_lower_80 rfl ?_
              exact mm_iret hE dX8_lower_84 (⟨_, rfl, by dsimp only; exact ⟨by unfold mLow; (repeat' split) <;> first | (exfalso; omega) | rfl | omega | assumption, hsm69⟩⟩)
          · skip
            refine ga_bipush (pc := 51) dX8_lower_51 rfl ?_
            exact mm_iret hE dX8_lower_53 (⟨_, rfl, by dsimp only; exact ⟨by unfold mLow; (repeat' split) <;> first | (exfalso; omega) | rfl | omega | assumption, (mSam.refl I A)⟩⟩)
    · skip
      refine ga_iconst (pc := 20) dX8_lower_20 ?_
      exact mm_iret hE dX8_lower_21 (⟨_, rfl, by dsimp only; exact ⟨by unfold mLow; (repeat' split) <;> first | (exfalso; omega) | rfl | omega | assumption, (mSam.refl I A)⟩⟩)
set_option maxHeartbeats 4000000 in
set_option maxRecDepth 100000 in
theorem m_X8_swapped (l : Launch) (D : ga_G) (mo : Nat) (ad : Nat → Nat) (I : Nat → Int) (A : Nat → Int → Int)  (hm : (1 ≤ I 3 ∧ I 3 ≤ 3) ∧ 1 ≤ I 4 ∧ I 4 ≤ 3) (he5 : tEn (A 0)) : mM l D yX8_swapped (ws_ yX8_swapped cX8_swapped 1 (some .int)) (gR 2) [] mo ad I A (mI (fun r I1 A1 => r = (if I 3 ≠ I 4 then -4 else if mTr I A 2 = 0 then 1 else 0) ∧ I1 = I ∧ A1 = A)) := by
  refine mm_met 0 rfl (Nat.le_of_ble_eq_true rfl) (L0 := [some (.ref mo)]) rfl (fun X ok hE => ?_)
  have hen5 : mEn A := fun k => (he5 k).1
  have hr := mRows_r hm 2
  have htr := mTr_r (I := I) he5 (t := 2) hr
  refine ga_aload_n (pc := 0) dX8_swapped_0 rfl ?_
  refine mm_g3 (pc := 1) (z := I 3) rfl dX8_swapped_1 ?_
  refine ga_aload_n (pc := 4) dX8_swapped_4 rfl ?_
  refine mm_g4 (pc := 5) (z := I 4) rfl dX8_swapped_5 ?_
  refine ga_icmp_eq (pc := 8) (tgt := 16) dX8_swapped_8 rfl (by omega) (by omega) (fun c8 => ?_) (fun c8 => ?_)
  · skip
    refine ga_aload_n (pc := 16) dX8_swapped_16 rfl ?_
    refine ga_iconst (pc := 17) dX8_swapped_17 ?_
    refine k_X8_sumDown (pc := 18) (t := 2) (z := mTr I A 2) ok (by first | exact hm | omega) (hen5) (by first | exact h1 | omega) (rfl) ⟨Nat.le_of_ble_eq_true rfl, Nat.le_of_ble_eq_true rfl⟩ (Nat.le_of_ble_eq_true rfl) dX8_swapped_18 ?_
    refine ga_lconst (pc := 21) 0 dX8_swapped_21 rfl ?_
    refine ga_lcmp (pc := 22) dX8_swapped_22 (by omega) (by omega) ?_
    refine ga_ifc_ne (pc := 23) (tgt := 30) dX8_swapped_23 rfl (fun c23 => ?_) (fun c23 => ?_)
    · skip
      refine ga_iconst (pc := 30) dX8_swapped_30 ?_
      exact mm_iret hE dX8_swapped_31 (⟨_, rfl, by (repeat' split) <;> first | rfl | omega, rfl, rfl⟩)
    · skip
      refine ga_iconst (pc := 26) dX8_swapped_26 ?_
      refine ga_goto (pc := 27) (tgt := 31) dX8_swapped_27 rfl ?_
      exact mm_iret hE dX8_swapped_31 (⟨_, rfl, by (repeat' split) <;> first | rfl | omega, rfl, rfl⟩)
  · skip
    refine ga_bipush (pc := 11) dX8_swapped_11 rfl ?_
    refine ga_goto (pc := 13) (tgt := 31) dX8_swapped_13 rfl ?_
    exact mm_iret hE dX8_swapped_31 (⟨_, rfl, by (repeat' split) <;> first | rfl | omega, rfl, rfl⟩)
set_option maxHeartbeats 4000000 in
set_option maxRecDepth 100000 in
theorem m_X8_stable (l : Launch) (D : ga_G) (mo : Nat) (ad : Nat → Nat) (I : Nat → Int) (A : Nat → Int → Int)  (hm : (1 ≤ I 3 ∧ I 3 ≤ 3) ∧ 1 ≤ I 4 ∧ I 4 ≤ 3) (he5 : tEn (A 0)) : mM l D yX8_stable (ws_ yX8_stable cX8_stable 8 (some .int)) (gR 3) [] mo ad I A (mI (fun r I1 A1 => r = (mStb I A) ∧ I1 = I ∧ A1 = A)) := by
  refine mm_met 7 rfl (Nat.le_of_ble_eq_true rfl) (L0 := [some (.ref mo), none, none, none, none, none, none, none]) rfl (fun X ok hE => ?_)
  have hen5 : mEn A := fun k => (he5 k).1
  have hr := mRows_r hm 0
  have htr := mTr_r (I := I) he5 (t := 0) hr
  have hpr := mPairs_r (I := I) he5 (t := 0) hr
  have hdt := mDet_r (I := I) he5 0
  have hdn : -750000 ≤ mDn I A ∧ mDn I A ≤ 750000 := by unfold mDn; split <;> omega
  have ht2 : 0 ≤ (I 3).tmod 2 ∧ (I 3).tmod 2 < 2 := ⟨Int.tmod_nonneg _ (by omega), Int.tmod_lt_of_pos _ (by decide)⟩
  have hab := zm_r (x := -mTr I A 0) (y := mPairs I A 0) (a := 150) (b := 45000) (by omega) (by omega)
  refine ga_aload_n (pc := 0) dX8_stable_0 rfl ?_
  refine ga_iconst (pc := 1) dX8_stable_1 ?_
  refine k_X8_sumDown (pc := 2) (t := 0) (z := mTr I A 0) ok (by first | exact hm | omega) (hen5) (by first | exact h1 | omega) (rfl) ⟨Nat.le_of_ble_eq_true rfl, Nat.le_of_ble_eq_true rfl⟩ (Nat.le_of_ble_eq_true rfl) dX8_stable_2 ?_
  refine ga_lneg (pc := 5) dX8_stable_5 ?_
  refine ga_lstore_n (pc := 6) (L1 := [some (.ref mo), some (.long (lI (-(mTr I A 0)))), none, none, none, none, none, none]) dX8_stable_6 rfl (by decide) rfl ?_
  refine ga_aload_n (pc := 7) dX8_stable_7 rfl ?_
  refine ga_iconst (pc := 8) dX8_stable_8 ?_
  refine k_X8_pairs (pc := 9) (t := 0) (z := mPairs I A 0) ok (by first | exact hm | omega) (hen5) (by first | exact h1 | omega) (rfl) ⟨Nat.le_of_ble_eq_true rfl, Nat.le_of_ble_eq_true rfl⟩ (Nat.le_of_ble_eq_true rfl) dX8_stable_9 ?_
  refine ga_lstore_n (pc := 12) (L1 := [some (.ref mo), some (.long (lI (-(mTr I A 0)))), none, some (.long (lI (mPairs I A 0))), none, none, none, none]) dX8_stable_12 rfl (by decide) rfl ?_
  have jn36 : ∀ (x : Int), (mDn I A = x) → G X (gR 3) RX8 8 cX8_stable (mH mo ad I A) 0 0 36 [some (.ref mo), some (.long (lI (-(mTr I A 0)))), none, some (.long (lI (mPairs I A 0))), none, none, none, none] [.long (lI x)] := by
    intro x hx
    subst hx
    refine ga_lstore (pc := 36) (L1 := [some (.ref mo), some (.long (lI (-(mTr I A 0)))), none, some (.long (lI (mPairs I A 0))), none, some (.long (lI (mDn I A))), none, none]) dX8_stable_36 rfl (by decide) rfl ?_
    have jn115 : ∀ (y : Int), (y = mStb I A) → (0 ≤ y ∧ y ≤ 1) → G X (gR 3) RX8 8 cX8_stable (mH mo ad I A) 0 0 115 [some (.ref mo), some (.long (lI (-(mTr I A 0)))), none, some (.long (lI (mPairs I A 0))), none, some (.long (lI (mDn I A))), none, none] [.int (iI y)] := by
      intro y hy hyr
      refine ga_istore (pc := 115) (L1 := [some (.ref mo), some (.long (lI (-(mTr I A 0)))), none, some (.long (lI (mPairs I A 0))), none, some (.long (lI (mDn I A))), none, some (.int (iI y))]) dX8_stable_115 rfl (by decide) rfl ?_
      refine ga_iload (pc := 117) dX8_stable_117 rfl ?_
      refine ga_if_eq (pc := 119) (tgt := 126) dX8_stable_119 rfl (by omega) (fun c119 => ?_) (fun c119 => ?_)
      · skip
        refine ga_iconst (pc := 126) dX8_stable_126 ?_
        exact mm_iret hE dX8_stable_127 (⟨_, rfl, by rw [← hy]; omega, rfl, rfl⟩)
      · skip
        refine ga_iconst (pc := 122) dX8_stable_122 ?_
        refine ga_goto (pc := 123) (tgt := 127) dX8_stable_123 rfl ?_
        exact mm_iret hE dX8_stable_127 (⟨_, rfl, by rw [← hy]; omega, rfl, rfl⟩)
    refine ga_aload_n (pc := 38) dX8_stable_38 rfl ?_
    refine mm_g3 (pc := 39) (z := I 3) rfl dX8_stable_39 ?_
    refine ga_iconst (pc := 42) dX8_stable_42 ?_
    refine ga_icmp_ne (pc := 43) (tgt := 60) dX8_stable_43 rfl (by omega) (by omega) (fun c43 => ?_) (fun c43 => ?_)
    · skip
      refine ga_aload_n (pc := 60) dX8_stable_60 rfl ?_
      refine mm_g3 (pc := 61) (z := I 3) rfl dX8_stable_61 ?_
      refine ga_iconst (pc := 64) dX8_stable_64 ?_
      refine ga_icmp_ne (pc := 65) (tgt := 88) dX8_stable_65 rfl (by omega) (by omega) (fun c65 => ?_) (fun c65 => ?_)
      · skip
        refine ga_lload_n (pc := 88) dX8_stable_88 rfl ?_
        refine ga_lconst (pc := 89) 0 dX8_stable_89 rfl ?_
        refine ga_lcmp (pc := 90) dX8_stable_90 (by omega) (by omega) ?_
        refine ga_ifc_le (pc := 91) (tgt := 114) dX8_stable_91 rfl (fun c91 => ?_) (fun c91 => ?_)
        · skip
          refine ga_iconst (pc := 114) dX8_stable_114 ?_
          exact jn115 0 (by unfold mStb; first | (rw [if_pos (by omega)]; done) | (rw [if_neg (by omega)])) (by omega)
        · skip
          refine ga_lload (pc := 94) dX8_stable_94 rfl ?_
          refine ga_lconst (pc := 96) 0 dX8_stable_96 rfl ?_
          refine ga_lcmp (pc := 97) dX8_stable_97 (by omega) (by omega) ?_
          refine ga_ifc_le (pc := 98) (tgt := 114) dX8_stable_98 rfl (fun c98 => ?_) (fun c98 => ?_)
          · skip
            refine ga_iconst (pc := 114) dX8_stable_114 ?_
            exact jn115 0 (by unfold mStb; first | (rw [if_pos (by omega)]; done) | (rw [if_neg (by omega)])) (by omega)
          · skip
            refine ga_lload_n (pc := 101) dX8_stable_101 rfl ?_
            refine ga_lload_n (pc := 102) dX8_stable_102 rfl ?_
            refine ga_lmul (pc := 103) dX8_stable_103 ?_
            refine ga_lload (pc := 104) dX8_stable_104 rfl ?_
            refine ga_lcmp (pc := 106) dX8_stable_106 (by omega) (by omega) ?_
            refine ga_ifc_le (pc := 107) (tgt := 114) dX8_stable_107 rfl (fun c107 => ?_) (fun c107 => ?_)
            · skip
              refine ga_iconst (pc := 114) dX8_stable_114 ?_
              exact jn115 0 (by unfold mStb; first | (rw [if_pos (by omega)]; done) | (rw [if_neg (by omega)])) (by omega)
            · skip
              refine ga_iconst (pc := 110) dX8_stable_110 ?_
              refine ga_goto (pc := 111) (tgt := 115) dX8_stable_111 rfl ?_
              exact jn115 1 (by unfold mStb; first | (rw [if_pos (by omega)]; done) | (rw [if_neg (by omega)])) (by omega)
      · skip
        refine ga_lload_n (pc := 68) dX8_stable_68 rfl ?_
        refine ga_lconst (pc := 69) 0 dX8_stable_69 rfl ?_
        refine ga_lcmp (pc := 70) dX8_stable_70 (by omega) (by omega) ?_
        refine ga_ifc_le (pc := 71) (tgt := 84) dX8_stable_71 rfl (fun c71 => ?_) (fun c71 => ?_)
        · skip
          refine ga_iconst (pc := 84) dX8_stable_84 ?_
          refine ga_goto (pc := 85) (tgt := 115) dX8_stable_85 rfl ?_
          exact jn115 0 (by unfold mStb; first | (rw [if_pos (by omega)]; done) | (rw [if_neg (by omega)])) (by omega)
        · skip
          refine ga_lload_n (pc := 74) dX8_stable_74 rfl ?_
          refine ga_lconst (pc := 75) 0 dX8_stable_75 rfl ?_
          refine ga_lcmp (pc := 76) dX8_stable_76 (by omega) (by omega) ?_
          refine ga_ifc_le (pc := 77) (tgt := 84) dX8_stable_77 rfl (fun c77 => ?_) (fun c77 => ?_)
          · skip
            refine ga_iconst (pc := 84) dX8_stable_84 ?_
            refine ga_goto (pc := 85) (tgt := 115) dX8_stable_85 rfl ?_
            exact jn115 0 (by unfold mStb; first | (rw [if_pos (by omega)]; done) | (rw [if_neg (by omega)])) (by omega)
          · skip
            refine ga_iconst (pc := 80) dX8_stable_80 ?_
            refine ga_goto (pc := 81) (tgt := 115) dX8_stable_81 rfl ?_
            exact jn115 1 (by unfold mStb; first | (rw [if_pos (by omega)]; done) | (rw [if_neg (by omega)])) (by omega)
    · skip
      refine ga_lload_n (pc := 46) dX8_stable_46 rfl ?_
      refine ga_lconst (pc := 47) 0 dX8_stable_47 rfl ?_
      refine ga_lcmp (pc := 48) dX8_stable_48 (by omega) (by omega) ?_
      refine ga_ifc_le (pc := 49) (tgt := 56) dX8_stable_49 rfl (fun c49 => ?_) (fun c49 => ?_)
      · skip
        refine ga_iconst (pc := 56) dX8_stable_56 ?_
        refine ga_goto (pc := 57) (tgt := 115) dX8_stable_57 rfl ?_
        exact jn115 0 (by unfold mStb; first | (rw [if_pos (by omega)]; done) | (rw [if_neg (by omega)])) (by omega)
      · skip
        refine ga_iconst (pc := 52) dX8_stable_52 ?_
        refine ga_goto (pc := 53) (tgt := 115) dX8_stable_53 rfl ?_
        exact jn115 1 (by unfold mStb; first | (rw [if_pos (by omega)]; done) | (rw [if_neg (by omega)])) (by omega)
  refine ga_aload_n (pc := 13) dX8_stable_13 rfl ?_
  refine mm_g3 (pc := 14) (z := I 3) rfl dX8_stable_14 ?_
  refine ga_iconst (pc := 17) dX8_stable_17 ?_
  refine ga_irem (pc := 18) dX8_stable_18 (by omega) (by omega) (by omega) ?_
  refine ga_if_ne (pc := 19) (tgt := 30) dX8_stable_19 rfl (by omega) (fun c19 => ?_) (fun c19 => ?_)
  · skip
    refine ga_aload_n (pc := 30) dX8_stable_30 rfl ?_
    refine ga_iconst (pc := 31) dX8_stable_31 ?_
    refine k_X8_detOf (pc := 32) (t := 0) (z := mDet I A 0) ok (by first | exact hm | omega) (hen5) (by first | exact h1 | omega) (rfl) ⟨Nat.le_of_ble_eq_true rfl, Nat.le_of_ble_eq_true rfl⟩ (Nat.le_of_ble_eq_true rfl) dX8_stable_32 ?_
    refine ga_lneg (pc := 35) dX8_stable_35 ?_
    exact jn36 (-(mDet I A 0)) (by unfold mDn; first | rw [if_pos (by omega)] | rw [if_neg (by omega)])
  · skip
    refine ga_aload_n (pc := 22) dX8_stable_22 rfl ?_
    refine ga_iconst (pc := 23) dX8_stable_23 ?_
    refine k_X8_detOf (pc := 24) (t := 0) (z := mDet I A 0) ok (by first | exact hm | omega) (hen5) (by first | exact h1 | omega) (rfl) ⟨Nat.le_of_ble_eq_true rfl, Nat.le_of_ble_eq_true rfl⟩ (Nat.le_of_ble_eq_true rfl) dX8_stable_24 ?_
    refine ga_goto (pc := 27) (tgt := 36) dX8_stable_27 rfl ?_
    exact jn36 (mDet I A 0) (by unfold mDn; first | rw [if_pos (by omega)] | rw [if_neg (by omega)])
