set_option maxHeartbeats 4000000 in
set_option maxRecDepth 100000 in
theorem m_X8_solution (l : Launch) (D : ga_G) (mo : Nat) (ad : Nat → Nat) (I : Nat → Int) (A : Nat → Int → Int) (e i j part : Int) (hm : (1 ≤ I 3 ∧ I 3 ≤ 3) ∧ 1 ≤ I 4 ∧ I 4 ≤ 3) (he5 : tEn (A 0)) (heq : mEq I A) (hsf : mSafe (I 3) (I 4) A) (h1 : (-2147483648 ≤ e ∧ e < 2147483648) ∧ (-2147483648 ≤ i ∧ i < 2147483648) ∧ (-2147483648 ≤ j ∧ j < 2147483648) ∧ (-2147483648 ≤ part ∧ part < 2147483648)) : mM l D yX8_solution (ws_ yX8_solution cX8_solution 5 (some .long)) (gR 6) [.int (iI e), .int (iI i), .int (iI j), .int (iI part)] mo ad I A (mL (fun r I1 A1 => r = mSol I A e i j part ∧ mSam I A I1 A1)) := by
  refine mm_met 0 rfl (Nat.le_of_ble_eq_true rfl) (L0 := [some (.ref mo), some (.int (iI e)), some (.int (iI i)), some (.int (iI j)), some (.int (iI part))]) rfl (fun X ok hE => ?_)
  have hmn := mn_r hm
  refine ga_aload_n (pc := 0) dX8_solution_0 rfl ?_
  refine ga_iload_n (pc := 1) dX8_solution_1 rfl ?_
  refine ga_iload_n (pc := 2) dX8_solution_2 rfl ?_
  refine ga_iload_n (pc := 3) dX8_solution_3 rfl ?_
  refine ga_iload (pc := 4) dX8_solution_4 rfl ?_
  refine k_X8_isPart (pc := 6) (e := e) (i := i) (j := j) (part := part) ok (by first | exact hm | omega) (by first | exact hq | omega) (by first | exact h1 | omega) (rfl) ⟨Nat.le_of_ble_eq_true rfl, Nat.le_of_ble_eq_true rfl⟩ (Nat.le_of_ble_eq_true rfl) dX8_solution_6 ?_
  refine ga_ifb_ne (pc := 9) (tgt := 17) dX8_solution_9 rfl (fun c9 => ?_) (fun c9 => ?_)
  · skip
    have hke := heq.2 e (by omega) (by omega)
    have hcr := tCnt_r (kind := A 11 e) hmn
    refine ga_aload_n (pc := 17) dX8_solution_17 rfl ?_
    refine ga_aload_n (pc := 18) dX8_solution_18 rfl ?_
    refine mm_g11 (pc := 19) dX8_solution_19 ?_
    refine ga_iload_n (pc := 22) dX8_solution_22 rfl ?_
    refine mm_ald11 (pc := 23) (x := A 11 e) ok (by omega) (rfl) dX8_solution_23 ?_
    refine k_X8_isFit (pc := 24) (kind := (A 11 e)) ok (by first | exact hm | omega) (by first | exact h1 | omega) ⟨Nat.le_of_ble_eq_true rfl, Nat.le_of_ble_eq_true rfl⟩ (Nat.le_of_ble_eq_true rfl) dX8_solution_24 (fun r24 I24 A24 hp24 => ?_)
    obtain ⟨er24, eI24, f24, rfl⟩ := hp24
    rw [tCnt_e] at er24
    rw [er24, eI24]
    refine ga_ifb_ne (pc := 27) (tgt := 36) dX8_solution_27 rfl (fun c27 => ?_) (fun c27 => ?_)
    · skip
      refine ga_aload_n (pc := 36) dX8_solution_36 rfl ?_
      refine ga_iload_n (pc := 37) dX8_solution_37 rfl ?_
      refine k_X8_setsUp (pc := 38) (e := e) ok (show (1 ≤ I 3 ∧ I 3 ≤ 3) ∧ 1 ≤ I 4 ∧ I 4 ≤ 3 from by first | exact hm | omega) (show tEn ((A 0)) from by first | exact he5 | omega) (show mEq I (uN A 22 f24) from by first | exact heq | omega) (show mSafe (I 3) (I 4) (uN A 22 f24) from by first | exact hsf | omega) (show 0 ≤ e ∧ e < I 5 from by first | exact h1 | omega) (show zFit (I 3) (I 4) ((A 11) e) from by first | exact hft | omega) ⟨Nat.le_of_ble_eq_true rfl, Nat.le_of_ble_eq_true rfl⟩ (Nat.le_of_ble_eq_true rfl) dX8_solution_38 (fun I38 A38 hp38 => ?_)
      obtain ⟨hz38, hst9, hpl9⟩ : mSam I (uN A 22 f24) I38 A38 ∧ mSt I38 A38 (I 3 * I 4) (tCnt (A 11 e) (I 3) (I 4)) (mKd I A e) ∧ ∀ u : Int, 0 ≤ u → u < (tCnt (A 11 e) (I 3) (I 4)) → A38 22 u = tPlc (A 11 e) (I 3) (I 4) u := hp38
      have hsm38 : mSam I A I38 A38 := ((mSam.refl I A).uA (k := 22) (by decide)).trans hz38
      have hft : zFit (I 3) (I 4) (A 11 e) := by assumption
      have hm9 : (1 ≤ I38 3 ∧ I38 3 ≤ 3) ∧ 1 ≤ I38 4 ∧ I38 4 ≤ 3 := by rw [hsm38.1 3 (by decide), hsm38.1 4 (by decide)]; exact hm
      have hI3 : I38 3 = I 3 := hsm38.1 3 (by decide)
      have hI4 : I38 4 = I 4 := hsm38.1 4 (by decide)
      have hA11 : A38 11 = A 11 := hsm38.2 11 (by decide)
      have hI5 : I38 5 = I 5 := hsm38.1 5 (by decide)
      have hsy := hsf (A 11 e) (A 11 e) (A 12 e) 0 hke.1 (Or.inl rfl) hft.1 hke.2 (by omega) (fun z => absurd rfl z) (by rw [zW_0]; exact hft.2)
      have hzr := zSy_r hsy (by rw [zH_0]; omega) (by rw [zW_0]; omega)
      rw [zH_0, zW_0] at hzr
      have hlr9 : ∀ k : Int, -1 ≤ (mKd I A e).2.2.2.2 k ∧ (mKd I A e).2.2.2.2 k < 9 := fun k => by have g := hzr.2.2.1 k; have g1 := hzr.1; change -1 ≤ (mKd I A e).2.2.2.2 k ∧ (mKd I A e).2.2.2.2 k < (mKd I A e).2.1 at g; change 0 ≤ (mKd I A e).2.1 ∧ (mKd I A e).2.1 ≤ _ ∧ (mKd I A e).2.1 ≤ _ at g1; omega
      have hsw9 : (0 ≤ I 3 * I 4 ∧ I 3 * I 4 ≤ 9) ∧ (0 ≤ (tCnt (A 11 e) (I 3) (I 4)) ∧ (tCnt (A 11 e) (I 3) (I 4)) ≤ 7) ∧ 0 ≤ (mKd I A e).2.1 ∧ (mKd I A e).2.1 ≤ I 3 * I 4 := ⟨by omega, by omega, hzr.1.1, hzr.1.2.2⟩
      refine ga_aload_n (pc := 41) dX8_solution_41 rfl ?_
      refine k_X8_isSolved (pc := 42) (H := (I 3 * I 4)) (W := (tCnt (A 11 e) (I 3) (I 4))) (S := (mKd I A e)) ok (hst9) (hsw9) (hzr.2.2.2.1) ⟨Nat.le_of_ble_eq_true rfl, Nat.le_of_ble_eq_true rfl⟩ (Nat.le_of_ble_eq_true rfl) dX8_solution_42 (fun r42 I42 A42 hp42 => ?_)
      obtain ⟨⟨eI42, eA42⟩, hq42⟩ := hp42
      rw [eI42, eA42]
      have er42 := eSlv_o hsw9.2.2.2 hq42
      have hr42 : r42 = 0 ∨ r42 = 1 := by rcases hq42 with ⟨z, -⟩ | ⟨z, -⟩ <;> omega
      refine ga_if_eq (pc := 45) (tgt := 73) dX8_solution_45 rfl (by omega) (fun c45 => ?_) (fun c45 => ?_)
      · skip
        refine ga_bipush (pc := 73) dX8_solution_73 rfl ?_
        refine k_X8_told (pc := 75) (a := (-3)) (by omega) (rfl) ⟨Nat.le_of_ble_eq_true rfl, Nat.le_of_ble_eq_true rfl⟩ ⟨Nat.le_of_ble_eq_true rfl, Nat.le_of_ble_eq_true rfl⟩ (Nat.le_of_ble_eq_true rfl) dX8_solution_75 ?_
        exact mm_lret hE dX8_solution_78 (⟨_, rfl, by dsimp only; exact ⟨by unfold mSol; (repeat' split) <;> first | (exfalso; omega) | rfl | omega | assumption, hsm38⟩⟩)
      · skip
        refine ga_aload_n (pc := 48) dX8_solution_48 rfl ?_
        refine ga_aload_n (pc := 49) dX8_solution_49 rfl ?_
        refine mm_g11 (pc := 50) dX8_solution_50 ?_
        refine ga_iload_n (pc := 53) dX8_solution_53 rfl ?_
        refine mm_ald11 (pc := 54) (x := A 11 e) ok (by omega) (by rw [hA11]) dX8_solution_54 ?_
        refine ga_iload_n (pc := 55) dX8_solution_55 rfl ?_
        refine ga_iload_n (pc := 56) dX8_solution_56 rfl ?_
        refine ga_iconst (pc := 57) dX8_solution_57 ?_
        refine k_X8_shapedSum (pc := 58) (kind := (A 11 e)) (i := i) (j := j) (c := (-1)) (H := (I 3 * I 4)) (W := (tCnt (A 11 e) (I 3) (I 4))) (S := (mKd I A e)) (z := (zShs (I 3) (I 4) (A 11 e) (mKd I A e) (tCnt (A 11 e) (I 3) (I 4)) i j (-1))) ok (hm9) (hst9) (hsw9) (by omega) (by rw [hI3, hI4]; exact ⟨by omega, rfl⟩) (fun k => hzr.2.2.1 k) (by rw [hI3, hI4]; exact hpl9) (by rw [hI3, hI4]) ⟨Nat.le_of_ble_eq_true rfl, Nat.le_of_ble_eq_true rfl⟩ (Nat.le_of_ble_eq_true rfl) dX8_solution_58 ?_
        refine ga_aload_n (pc := 61) dX8_solution_61 rfl ?_
        refine mm_g30 (pc := 62) (z := I38 30) rfl dX8_solution_62 ?_
        refine ga_topl (pc := 65) (b := (mKd I A e).2.2.2.1) (hst9.2.1.2.2) ?_
        refine ga_iload (pc := 65) dX8_solution_65 rfl ?_
        have hzs := zShs_r (m := I 3) (n := I 4) (kind := A 11 e) (S := mKd I A e) (W := (tCnt (A 11 e) (I 3) (I 4))) (i := i) (j := j) (c := (-1)) (by omega) hzr.2.2.2.1 hzr.2.2.2.2.2 (fun k => by have g := hzr.2.2.1 k; have g1 := hzr.1; exact ⟨g.1, Int.lt_of_lt_of_le g.2 g1.2.2⟩) (by omega)
        have hzd := hzr.2.2.2.2
        change (mKd I A e).2.2.2.1 ≠ 0 ∧ z40 (mKd I A e).2.2.2.1 at hzd
        refine k_X8_partOf (pc := 67) (a := (zShs (I 3) (I 4) (A 11 e) (mKd I A e) (tCnt (A 11 e) (I 3) (I 4)) i j (-1))) (b := ((mKd I A e).2.2.2.1)) (part := part) (by omega) (by omega) (by omega) (rfl) ⟨Nat.le_of_ble_eq_true rfl, Nat.le_of_ble_eq_true rfl⟩ ⟨Nat.le_of_ble_eq_true rfl, Nat.le_of_ble_eq_true rfl⟩ (Nat.le_of_ble_eq_true rfl) dX8_solution_67 ?_
        refine ga_goto (pc := 70) (tgt := 78) dX8_solution_70 rfl ?_
        exact mm_lret hE dX8_solution_78 (⟨_, rfl, by dsimp only; exact ⟨by unfold mSol; (repeat' split) <;> first | (exfalso; omega) | rfl | omega | assumption, hsm38⟩⟩)
    · skip
      refine ga_bipush (pc := 30) dX8_solution_30 rfl ?_
      refine k_X8_told (pc := 32) (a := (-4)) (by omega) (rfl) ⟨Nat.le_of_ble_eq_true rfl, Nat.le_of_ble_eq_true rfl⟩ ⟨Nat.le_of_ble_eq_true rfl, Nat.le_of_ble_eq_true rfl⟩ (Nat.le_of_ble_eq_true rfl) dX8_solution_32 ?_
      exact mm_lret hE dX8_solution_35 (⟨_, rfl, by dsimp only; exact ⟨by unfold mSol; (repeat' split) <;> first | (exfalso; omega) | rfl | omega | assumption, ((mSam.refl I A).uA (k := 22) (by decide))⟩⟩)
  · skip
    refine ga_iconst (pc := 12) dX8_solution_12 ?_
    refine k_X8_told (pc := 13) (a := (-1)) (by omega) (rfl) ⟨Nat.le_of_ble_eq_true rfl, Nat.le_of_ble_eq_true rfl⟩ ⟨Nat.le_of_ble_eq_true rfl, Nat.le_of_ble_eq_true rfl⟩ (Nat.le_of_ble_eq_true rfl) dX8_solution_13 ?_
    exact mm_lret hE dX8_solution_16 (⟨_, rfl, by dsimp only; exact ⟨by unfold mSol; (repeat' split) <;> first | (exfalso; omega) | rfl | omega | assumption, (mSam.refl I A)⟩⟩)
set_option maxHeartbeats 4000000 in
set_option maxRecDepth 100000 in
theorem m_X8_base (l : Launch) (D : ga_G) (mo : Nat) (ad : Nat → Nat) (I : Nat → Int) (A : Nat → Int → Int) (e u i j part : Int) (hm : (1 ≤ I 3 ∧ I 3 ≤ 3) ∧ 1 ≤ I 4 ∧ I 4 ≤ 3) (he5 : tEn (A 0)) (heq : mEq I A) (hsf : mSafe (I 3) (I 4) A) (h1 : (-2147483648 ≤ e ∧ e < 2147483648) ∧ (-2147483648 ≤ u ∧ u < 2147483648) ∧ (-2147483648 ≤ i ∧ i < 2147483648) ∧ (-2147483648 ≤ j ∧ j < 2147483648) ∧ (-2147483648 ≤ part ∧ part < 2147483648)) : mM l D yX8_base (ws_ yX8_base cX8_base 6 (some .long)) (gR 6) [.int (iI e), .int (iI u), .int (iI i), .int (iI j), .int (iI part)] mo ad I A (mL (fun r I1 A1 => r = mBas I A e u i j part ∧ mSam I A I1 A1)) := by
  refine mm_met 0 rfl (Nat.le_of_ble_eq_true rfl) (L0 := [some (.ref mo), some (.int (iI e)), some (.int (iI u)), some (.int (iI i)), some (.int (iI j)), some (.int (iI part))]) rfl (fun X ok hE => ?_)
  have hmn := mn_r hm
  refine ga_aload_n (pc := 0) dX8_base_0 rfl ?_
  refine ga_iload_n (pc := 1) dX8_base_1 rfl ?_
  refine ga_iload_n (pc := 2) dX8_base_2 rfl ?_
  refine ga_iload (pc := 3) dX8_base_3 rfl ?_
  refine ga_iload (pc := 5) dX8_base_5 rfl ?_
  refine k_X8_isPart (pc := 7) (e := e) (i := i) (j := j) (part := part) ok (by first | exact hm | omega) (by first | exact hq | omega) (by first | exact h1 | omega) (rfl) ⟨Nat.le_of_ble_eq_true rfl, Nat.le_of_ble_eq_true rfl⟩ (Nat.le_of_ble_eq_true rfl) dX8_base_7 ?_
  refine ga_ifb_eq (pc := 10) (tgt := 25) dX8_base_10 rfl (fun c10 => ?_) (fun c10 => ?_)
  · skip
    refine ga_iconst (pc := 25) dX8_base_25 ?_
    refine k_X8_told (pc := 26) (a := (-1)) (by omega) (rfl) ⟨Nat.le_of_ble_eq_true rfl, Nat.le_of_ble_eq_true rfl⟩ ⟨Nat.le_of_ble_eq_true rfl, Nat.le_of_ble_eq_true rfl⟩ (Nat.le_of_ble_eq_true rfl) dX8_base_26 ?_
    exact mm_lret hE dX8_base_29 (⟨_, rfl, by dsimp only; exact ⟨by unfold mBas; (repeat' split) <;> first | (exfalso; omega) | rfl | omega | assumption, (mSam.refl I A)⟩⟩)
  · skip
    refine ga_iload_n (pc := 13) dX8_base_13 rfl ?_
    refine ga_i2l (pc := 14) dX8_base_14 (by omega) ?_
    refine ga_lconst (pc := 15) 0 dX8_base_15 rfl ?_
    refine ga_ldc2 (pc := 16) (8) dX8_base_16 q1803 rfl ?_
    refine k_X8_in (pc := 19) (a := u) (b := 0) (c := (8)) (by omega) (rfl) ⟨Nat.le_of_ble_eq_true rfl, Nat.le_of_ble_eq_true rfl⟩ ⟨Nat.le_of_ble_eq_true rfl, Nat.le_of_ble_eq_true rfl⟩ (Nat.le_of_ble_eq_true rfl) dX8_base_19 ?_
    refine ga_ifb_ne (pc := 22) (tgt := 30) dX8_base_22 rfl (fun c22 => ?_) (fun c22 => ?_)
    · skip
      have hke := heq.2 e (by omega) (by omega)
      have hcr := tCnt_r (kind := A 11 e) hmn
      refine ga_aload_n (pc := 30) dX8_base_30 rfl ?_
      refine ga_aload_n (pc := 31) dX8_base_31 rfl ?_
      refine mm_g11 (pc := 32) dX8_base_32 ?_
      refine ga_iload_n (pc := 35) dX8_base_35 rfl ?_
      refine mm_ald11 (pc := 36) (x := A 11 e) ok (by omega) (rfl) dX8_base_36 ?_
      refine k_X8_isFit (pc := 37) (kind := (A 11 e)) ok (by first | exact hm | omega) (by first | exact h1 | omega) ⟨Nat.le_of_ble_eq_true rfl, Nat.le_of_ble_eq_true rfl⟩ (Nat.le_of_ble_eq_true rfl) dX8_base_37 (fun r37 I37 A37 hp37 => ?_)
      obtain ⟨er37, eI37, f37, rfl⟩ := hp37
      rw [tCnt_e] at er37
      rw [er37, eI37]
      refine ga_ifb_ne (pc := 40) (tgt := 49) dX8_base_40 rfl (fun c40 => ?_) (fun c40 => ?_)
      · skip
        refine ga_aload_n (pc := 49) dX8_base_49 rfl ?_
        refine ga_iload_n (pc := 50) dX8_base_50 rfl ?_
        refine k_X8_setsUp (pc := 51) (e := e) ok (show (1 ≤ I 3 ∧ I 3 ≤ 3) ∧ 1 ≤ I 4 ∧ I 4 ≤ 3 from by first | exact hm | omega) (show tEn ((A 0)) from by first | exact he5 | omega) (show mEq I (uN A 22 f37) from by first | exact heq | omega) (show mSafe (I 3) (I 4) (uN A 22 f37) from by first | exact hsf | omega) (show 0 ≤ e ∧ e < I 5 from by first | exact h1 | omega) (show zFit (I 3) (I 4) ((A 11) e) from by first | exact hft | omega) ⟨Nat.le_of_ble_eq_true rfl, Nat.le_of_ble_eq_true rfl⟩ (Nat.le_of_ble_eq_true rfl) dX8_base_51 (fun I51 A51 hp51 => ?_)
        obtain ⟨hz51, hst9, hpl9⟩ : mSam I (uN A 22 f37) I51 A51 ∧ mSt I51 A51 (I 3 * I 4) (tCnt (A 11 e) (I 3) (I 4)) (mKd I A e) ∧ ∀ u : Int, 0 ≤ u → u < (tCnt (A 11 e) (I 3) (I 4)) → A51 22 u = tPlc (A 11 e) (I 3) (I 4) u := hp51
        have hsm51 : mSam I A I51 A51 := ((mSam.refl I A).uA (k := 22) (by decide)).trans hz51
        have hft : zFit (I 3) (I 4) (A 11 e) := by assumption
        have hm9 : (1 ≤ I51 3 ∧ I51 3 ≤ 3) ∧ 1 ≤ I51 4 ∧ I51 4 ≤ 3 := by rw [hsm51.1 3 (by decide), hsm51.1 4 (by decide)]; exact hm
        have hI3 : I51 3 = I 3 := hsm51.1 3 (by decide)
        have hI4 : I51 4 = I 4 := hsm51.1 4 (by decide)
        have hA11 : A51 11 = A 11 := hsm51.2 11 (by decide)
        have hI5 : I51 5 = I 5 := hsm51.1 5 (by decide)
        have hsy := hsf (A 11 e) (A 11 e) (A 12 e) 0 hke.1 (Or.inl rfl) hft.1 hke.2 (by omega) (fun z => absurd rfl z) (by rw [zW_0]; exact hft.2)
        have hzr := zSy_r hsy (by rw [zH_0]; omega) (by rw [zW_0]; omega)
        rw [zH_0, zW_0] at hzr
        have hlr9 : ∀ k : Int, -1 ≤ (mKd I A e).2.2.2.2 k ∧ (mKd I A e).2.2.2.2 k < 9 := fun k => by have g := hzr.2.2.1 k; have g1 := hzr.1; change -1 ≤ (mKd I A e).2.2.2.2 k ∧ (mKd I A e).2.2.2.2 k < (mKd I A e).2.1 at g; change 0 ≤ (mKd I A e).2.1 ∧ (mKd I A e).2.1 ≤ _ ∧ (mKd I A e).2.1 ≤ _ at g1; omega
        have hsw9 : (0 ≤ I 3 * I 4 ∧ I 3 * I 4 ≤ 9) ∧ (0 ≤ (tCnt (A 11 e) (I 3) (I 4)) ∧ (tCnt (A 11 e) (I 3) (I 4)) ≤ 7) ∧ 0 ≤ (mKd I A e).2.1 ∧ (mKd I A e).2.1 ≤ I 3 * I 4 := ⟨by omega, by omega, hzr.1.1, hzr.1.2.2⟩
        refine ga_iload_n (pc := 54) dX8_base_54 rfl ?_
        refine ga_aload_n (pc := 55) dX8_base_55 rfl ?_
        refine mm_g27 (pc := 56) (z := I51 27) rfl dX8_base_56 ?_
        refine ga_topi (pc := 59) (b := (tCnt (A 11 e) (I 3) (I 4))) (hst9.1.2) ?_
        refine ga_icmp_ge (pc := 59) (tgt := 97) dX8_base_59 rfl (by omega) (by omega) (fun c59 => ?_) (fun c59 => ?_)
        · skip
          refine ga_bipush (pc := 97) dX8_base_97 rfl ?_
          refine k_X8_told (pc := 99) (a := (-3)) (by omega) (rfl) ⟨Nat.le_of_ble_eq_true rfl, Nat.le_of_ble_eq_true rfl⟩ ⟨Nat.le_of_ble_eq_true rfl, Nat.le_of_ble_eq_true rfl⟩ (Nat.le_of_ble_eq_true rfl) dX8_base_99 ?_
          exact mm_lret hE dX8_base_102 (⟨_, rfl, by dsimp only; exact ⟨by unfold mBas; (repeat' split) <;> first | (exfalso; omega) | rfl | omega | assumption, hsm51⟩⟩)
        · skip
          refine ga_aload_n (pc := 62) dX8_base_62 rfl ?_
          refine mm_g25 (pc := 63) dX8_base_63 ?_
          refine ga_iload_n (pc := 66) dX8_base_66 rfl ?_
          have hl9u := hlr9 u
          refine mm_ald25 (pc := 67) (x := (mKd I A e).2.2.2.2 u) ok (by omega) (hst9.2.2.2 u (by omega) (by omega)) dX8_base_67 ?_
          refine ga_if_ge (pc := 68) (tgt := 97) dX8_base_68 rfl (by omega) (fun c68 => ?_) (fun c68 => ?_)
          · skip
            refine ga_bipush (pc := 97) dX8_base_97 rfl ?_
            refine k_X8_told (pc := 99) (a := (-3)) (by omega) (rfl) ⟨Nat.le_of_ble_eq_true rfl, Nat.le_of_ble_eq_true rfl⟩ ⟨Nat.le_of_ble_eq_true rfl, Nat.le_of_ble_eq_true rfl⟩ (Nat.le_of_ble_eq_true rfl) dX8_base_99 ?_
            exact mm_lret hE dX8_base_102 (⟨_, rfl, by dsimp only; exact ⟨by unfold mBas; (repeat' split) <;> first | (exfalso; omega) | rfl | omega | assumption, hsm51⟩⟩)
          · skip
            refine ga_aload_n (pc := 71) dX8_base_71 rfl ?_
            refine ga_aload_n (pc := 72) dX8_base_72 rfl ?_
            refine mm_g11 (pc := 73) dX8_base_73 ?_
            refine ga_iload_n (pc := 76) dX8_base_76 rfl ?_
            refine mm_ald11 (pc := 77) (x := A 11 e) ok (by omega) (by rw [hA11]) dX8_base_77 ?_
            refine ga_iload_n (pc := 78) dX8_base_78 rfl ?_
            refine ga_iload (pc := 79) dX8_base_79 rfl ?_
            refine ga_iload_n (pc := 81) dX8_base_81 rfl ?_
            refine k_X8_shapedSum (pc := 82) (kind := (A 11 e)) (i := i) (j := j) (c := u) (H := (I 3 * I 4)) (W := (tCnt (A 11 e) (I 3) (I 4))) (S := (mKd I A e)) (z := (zShs (I 3) (I 4) (A 11 e) (mKd I A e) (tCnt (A 11 e) (I 3) (I 4)) i j u)) ok (hm9) (hst9) (hsw9) (by omega) (by rw [hI3, hI4]; exact ⟨by omega, rfl⟩) (fun k => hzr.2.2.1 k) (by rw [hI3, hI4]; exact hpl9) (by rw [hI3, hI4]) ⟨Nat.le_of_ble_eq_true rfl, Nat.le_of_ble_eq_true rfl⟩ (Nat.le_of_ble_eq_true rfl) dX8_base_82 ?_
            refine ga_aload_n (pc := 85) dX8_base_85 rfl ?_
            refine mm_g30 (pc := 86) (z := I51 30) rfl dX8_base_86 ?_
            refine ga_topl (pc := 89) (b := (mKd I A e).2.2.2.1) (hst9.2.1.2.2) ?_
            refine ga_iload (pc := 89) dX8_base_89 rfl ?_
            have hzs := zShs_r (m := I 3) (n := I 4) (kind := A 11 e) (S := mKd I A e) (W := (tCnt (A 11 e) (I 3) (I 4))) (i := i) (j := j) (c := u) (by omega) hzr.2.2.2.1 hzr.2.2.2.2.2 (fun k => by have g := hzr.2.2.1 k; have g1 := hzr.1; exact ⟨g.1, Int.lt_of_lt_of_le g.2 g1.2.2⟩) (by omega)
            have hzd := hzr.2.2.2.2
            change (mKd I A e).2.2.2.1 ≠ 0 ∧ z40 (mKd I A e).2.2.2.1 at hzd
            refine k_X8_partOf (pc := 91) (a := (zShs (I 3) (I 4) (A 11 e) (mKd I A e) (tCnt (A 11 e) (I 3) (I 4)) i j u)) (b := ((mKd I A e).2.2.2.1)) (part := part) (by omega) (by omega) (by omega) (rfl) ⟨Nat.le_of_ble_eq_true rfl, Nat.le_of_ble_eq_true rfl⟩ ⟨Nat.le_of_ble_eq_true rfl, Nat.le_of_ble_eq_true rfl⟩ (Nat.le_of_ble_eq_true rfl) dX8_base_91 ?_
            refine ga_goto (pc := 94) (tgt := 102) dX8_base_94 rfl ?_
            exact mm_lret hE dX8_base_102 (⟨_, rfl, by dsimp only; exact ⟨by unfold mBas; (repeat' split) <;> first | (exfalso; omega) | rfl | omega | assumption, hsm51⟩⟩)
      · skip
        refine ga_bipush (pc := 43) dX8_base_43 rfl ?_
        refine k_X8_told (pc := 45) (a := (-4)) (by omega) (rfl) ⟨Nat.le_of_ble_eq_true rfl, Nat.le_of_ble_eq_true rfl⟩ ⟨Nat.le_of_ble_eq_true rfl, Nat.le_of_ble_eq_true rfl⟩ (Nat.le_of_ble_eq_true rfl) dX8_base_45 ?_
        exact mm_lret hE dX8_base_48 (⟨_, rfl, by dsimp only; exact ⟨by unfold mBas; (repeat' split) <;> first | (exfalso; omega) | rfl | omega | assumption, ((mSam.refl I A).uA (k := 22) (by decide))⟩⟩)
    · skip
      refine ga_iconst (pc := 25) dX8_base_25 ?_
      refine k_X8_told (pc := 26) (a := (-1)) (by omega) (rfl) ⟨Nat.le_of_ble_eq_true rfl, Nat.le_of_ble_eq_true rfl⟩ ⟨Nat.le_of_ble_eq_true rfl, Nat.le_of_ble_eq_true rfl⟩ (Nat.le_of_ble_eq_true rfl) dX8_base_26 ?_
      exact mm_lret hE dX8_base_29 (⟨_, rfl, by dsimp only; exact ⟨by unfold mBas; (repeat' split) <;> first | (exfalso; omega) | rfl | omega | assumption, (mSam.refl I A)⟩⟩)
