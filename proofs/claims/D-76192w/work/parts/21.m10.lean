set_option maxHeartbeats 4000000 in
set_option maxRecDepth 100000 in
theorem m_X8_of (l : Launch) (D : ga_G) (mo : Nat) (ad : Nat → Nat) (I : Nat → Int) (A : Nat → Int → Int) (e what : Int) (hm : (1 ≤ I 3 ∧ I 3 ≤ 3) ∧ 1 ≤ I 4 ∧ I 4 ≤ 3) (he5 : tEn (A 0)) (heq : mEq I A) (hsf : mSafe (I 3) (I 4) A) (h1 : (-2147483648 ≤ e ∧ e < 2147483648) ∧ (-2147483648 ≤ what ∧ what < 2147483648)) : mM l D yX8_of (ws_ yX8_of cX8_of 4 (some .int)) (gR 6) [.int (iI e), .int (iI what)] mo ad I A (mI (fun r I1 A1 => r = mOf I A e what ∧ mSam I A I1 A1)) := by
  refine mm_met 1 rfl (Nat.le_of_ble_eq_true rfl) (L0 := [some (.ref mo), some (.int (iI e)), some (.int (iI what)), none]) rfl (fun X ok hE => ?_)
  have hmn := mn_r hm
  refine ga_aload_n (pc := 0) dX8_of_0 rfl ?_
  refine ga_iload_n (pc := 1) dX8_of_1 rfl ?_
  refine k_X8_isEquation (pc := 2) (e := e) ok (by first | exact hq | omega) (by first | exact h1 | omega) (rfl) ⟨Nat.le_of_ble_eq_true rfl, Nat.le_of_ble_eq_true rfl⟩ (Nat.le_of_ble_eq_true rfl) dX8_of_2 ?_
  refine ga_ifb_eq (pc := 5) (tgt := 20) dX8_of_5 rfl (fun c5 => ?_) (fun c5 => ?_)
  · skip
    refine ga_iconst (pc := 20) dX8_of_20 ?_
    exact mm_iret hE dX8_of_21 (⟨_, rfl, by dsimp only; exact ⟨by unfold mOf; (repeat' split) <;> first | (exfalso; omega) | rfl | omega | assumption, (mSam.refl I A)⟩⟩)
  · skip
    refine ga_iload_n (pc := 8) dX8_of_8 rfl ?_
    refine ga_i2l (pc := 9) dX8_of_9 (by omega) ?_
    refine ga_lconst (pc := 10) 0 dX8_of_10 rfl ?_
    refine ga_ldc2 (pc := 11) (6) dX8_of_11 q1845 rfl ?_
    refine k_X8_in (pc := 14) (a := what) (b := 0) (c := (6)) (by omega) (rfl) ⟨Nat.le_of_ble_eq_true rfl, Nat.le_of_ble_eq_true rfl⟩ ⟨Nat.le_of_ble_eq_true rfl, Nat.le_of_ble_eq_true rfl⟩ (Nat.le_of_ble_eq_true rfl) dX8_of_14 ?_
    refine ga_ifb_ne (pc := 17) (tgt := 22) dX8_of_17 rfl (fun c17 => ?_) (fun c17 => ?_)
    · skip
      have hke := heq.2 e (by omega) (by omega)
      have hcr := tCnt_r (kind := A 11 e) hmn
      refine ga_aload_n (pc := 22) dX8_of_22 rfl ?_
      refine mm_g11 (pc := 23) dX8_of_23 ?_
      refine ga_iload_n (pc := 26) dX8_of_26 rfl ?_
      refine mm_ald11 (pc := 27) (x := A 11 e) ok (by omega) (rfl) dX8_of_27 ?_
      refine ga_istore_n (pc := 28) (L1 := [some (.ref mo), some (.int (iI e)), some (.int (iI what)), some (.int (iI (A 11 e)))]) dX8_of_28 rfl (by decide) rfl ?_
      refine ga_iload_n (pc := 29) dX8_of_29 rfl ?_
      refine ga_iconst (pc := 30) dX8_of_30 ?_
      refine ga_icmp_ge (pc := 31) (tgt := 73) dX8_of_31 rfl (by omega) (by omega) (fun c31 => ?_) (fun c31 => ?_)
      · skip
        refine ga_iload_n (pc := 73) dX8_of_73 rfl ?_
        refine ga_iconst (pc := 74) dX8_of_74 ?_
        refine ga_icmp_ne (pc := 75) (tgt := 97) dX8_of_75 rfl (by omega) (by omega) (fun c75 => ?_) (fun c75 => ?_)
        · skip
          refine ga_aload_n (pc := 97) dX8_of_97 rfl ?_
          refine ga_iload_n (pc := 98) dX8_of_98 rfl ?_
          refine k_X8_isFit (pc := 99) (kind := (A 11 e)) ok (by first | exact hm | omega) (by first | exact h1 | omega) ⟨Nat.le_of_ble_eq_true rfl, Nat.le_of_ble_eq_true rfl⟩ (Nat.le_of_ble_eq_true rfl) dX8_of_99 (fun r99 I99 A99 hp99 => ?_)
          obtain ⟨er99, eI99, f99, rfl⟩ := hp99
          rw [tCnt_e] at er99
          rw [er99, eI99]
          refine ga_ifb_ne (pc := 102) (tgt := 108) dX8_of_102 rfl (fun c102 => ?_) (fun c102 => ?_)
          · skip
            refine ga_aload_n (pc := 108) dX8_of_108 rfl ?_
            refine ga_iload_n (pc := 109) dX8_of_109 rfl ?_
            refine k_X8_setsUp (pc := 110) (e := e) ok (show (1 ≤ I 3 ∧ I 3 ≤ 3) ∧ 1 ≤ I 4 ∧ I 4 ≤ 3 from by first | exact hm | omega) (show tEn ((A 0)) from by first | exact he5 | omega) (show mEq I (uN A 22 f99) from by first | exact heq | omega) (show mSafe (I 3) (I 4) (uN A 22 f99) from by first | exact hsf | omega) (show 0 ≤ e ∧ e < I 5 from by first | exact h1 | omega) (show zFit (I 3) (I 4) ((A 11) e) from by first | exact hft | omega) ⟨Nat.le_of_ble_eq_true rfl, Nat.le_of_ble_eq_true rfl⟩ (Nat.le_of_ble_eq_true rfl) dX8_of_110 (fun I110 A110 hp110 => ?_)
            obtain ⟨hz110, hst9, hpl9⟩ : mSam I (uN A 22 f99) I110 A110 ∧ mSt I110 A110 (I 3 * I 4) (tCnt (A 11 e) (I 3) (I 4)) (mKd I A e) ∧ ∀ u : Int, 0 ≤ u → u < (tCnt (A 11 e) (I 3) (I 4)) → A110 22 u = tPlc (A 11 e) (I 3) (I 4) u := hp110
            have hsm110 : mSam I A I110 A110 := ((mSam.refl I A).uA (k := 22) (by decide)).trans hz110
            have hft : zFit (I 3) (I 4) (A 11 e) := by assumption
            have hm9 : (1 ≤ I110 3 ∧ I110 3 ≤ 3) ∧ 1 ≤ I110 4 ∧ I110 4 ≤ 3 := by rw [hsm110.1 3 (by decide), hsm110.1 4 (by decide)]; exact hm
            have hI3 : I110 3 = I 3 := hsm110.1 3 (by decide)
            have hI4 : I110 4 = I 4 := hsm110.1 4 (by decide)
            have hA11 : A110 11 = A 11 := hsm110.2 11 (by decide)
            have hI5 : I110 5 = I 5 := hsm110.1 5 (by decide)
            have hsy := hsf (A 11 e) (A 11 e) (A 12 e) 0 hke.1 (Or.inl rfl) hft.1 hke.2 (by omega) (fun z => absurd rfl z) (by rw [zW_0]; exact hft.2)
            have hzr := zSy_r hsy (by rw [zH_0]; omega) (by rw [zW_0]; omega)
            rw [zH_0, zW_0] at hzr
            have hlr9 : ∀ k : Int, -1 ≤ (mKd I A e).2.2.2.2 k ∧ (mKd I A e).2.2.2.2 k < 9 := fun k => by have g := hzr.2.2.1 k; have g1 := hzr.1; change -1 ≤ (mKd I A e).2.2.2.2 k ∧ (mKd I A e).2.2.2.2 k < (mKd I A e).2.1 at g; change 0 ≤ (mKd I A e).2.1 ∧ (mKd I A e).2.1 ≤ _ ∧ (mKd I A e).2.1 ≤ _ at g1; omega
            have hsw9 : (0 ≤ I 3 * I 4 ∧ I 3 * I 4 ≤ 9) ∧ (0 ≤ (tCnt (A 11 e) (I 3) (I 4)) ∧ (tCnt (A 11 e) (I 3) (I 4)) ≤ 7) ∧ 0 ≤ (mKd I A e).2.1 ∧ (mKd I A e).2.1 ≤ I 3 * I 4 := ⟨by omega, by omega, hzr.1.1, hzr.1.2.2⟩
            refine ga_iload_n (pc := 113) dX8_of_113 rfl ?_
            refine ga_iconst (pc := 114) dX8_of_114 ?_
            refine ga_icmp_ne (pc := 115) (tgt := 125) dX8_of_115 rfl (by omega) (by omega) (fun c115 => ?_) (fun c115 => ?_)
            · skip
              refine ga_iload_n (pc := 125) dX8_of_125 rfl ?_
              refine ga_iconst (pc := 126) dX8_of_126 ?_
              refine ga_icmp_ne (pc := 127) (tgt := 137) dX8_of_127 rfl (by omega) (by omega) (fun c127 => ?_) (fun c127 => ?_)
              · skip
                refine ga_aload_n (pc := 137) dX8_of_137 rfl ?_
                refine k_X8_isSolved (pc := 138) (H := (I 3 * I 4)) (W := (tCnt (A 11 e) (I 3) (I 4))) (S := (mKd I A e)) ok (hst9) (hsw9) (hzr.2.2.2.1) ⟨Nat.le_of_ble_eq_true rfl, Nat.le_of_ble_eq_true rfl⟩ (Nat.le_of_ble_eq_true rfl) dX8_of_138 (fun r138 I138 A138 hp138 => ?_)
                obtain ⟨⟨eI138, eA138⟩, hq138⟩ := hp138
                rw [eI138, eA138]
                have er138 := eSlv_o hsw9.2.2.2 hq138
                have hr138 : r138 = 0 ∨ r138 = 1 := by rcases hq138 with ⟨z, -⟩ | ⟨z, -⟩ <;> omega
                refine ga_if_eq (pc := 141) (tgt := 148) dX8_of_141 rfl (by omega) (fun c141 => ?_) (fun c141 => ?_)
                · skip
                  refine ga_iconst (pc := 148) dX8_of_148 ?_
                  exact mm_iret hE dX8_of_149 (⟨_, rfl, by dsimp only; exact ⟨by unfold mOf; (repeat' split) <;> first | (exfalso; omega) | rfl | omega | assumption, hsm110⟩⟩)
                · skip
                  refine ga_iconst (pc := 144) dX8_of_144 ?_
                  refine ga_goto (pc := 145) (tgt := 149) dX8_of_145 rfl ?_
                  exact mm_iret hE dX8_of_149 (⟨_, rfl, by dsimp only; exact ⟨by unfold mOf; (repeat' split) <;> first | (exfalso; omega) | rfl | omega | assumption, hsm110⟩⟩)
              · skip
                refine ga_aload_n (pc := 130) dX8_of_130 rfl ?_
                refine k_X8_freeOnes (pc := 131) (H := (I 3 * I 4)) (W := (tCnt (A 11 e) (I 3) (I 4))) (S := (mKd I A e)) (z := zFr (mKd I A e).2.2.2.2 (tCnt (A 11 e) (I 3) (I 4)).toNat) ok (hst9) (hsw9) (hlr9) (rfl) ⟨Nat.le_of_ble_eq_true rfl, Nat.le_of_ble_eq_true rfl⟩ (Nat.le_of_ble_eq_true rfl) dX8_of_131 ?_
                refine ga_goto (pc := 134) (tgt := 149) dX8_of_134 rfl ?_
                exact mm_iret hE dX8_of_149 (⟨_, rfl, by dsimp only; exact ⟨by unfold mOf; (repeat' split) <;> first | (exfalso; omega) | rfl | omega | assumption, hsm110⟩⟩)
            · skip
              refine ga_aload_n (pc := 118) dX8_of_118 rfl ?_
              refine mm_g28 (pc := 119) (z := I110 28) rfl dX8_of_119 ?_
              refine ga_goto (pc := 122) (tgt := 149) dX8_of_122 rfl ?_
              exact mm_iret hE dX8_of_149 (⟨_, rfl, by dsimp only; exact ⟨by unfold mOf; rw [hst9.2.1.1]; (repeat' split) <;> first | (exfalso; omega) | rfl | omega | assumption, hsm110⟩⟩)
          · skip
            refine ga_bipush (pc := 105) dX8_of_105 rfl ?_
            exact mm_iret hE dX8_of_107 (⟨_, rfl, by dsimp only; exact ⟨by unfold mOf; (repeat' split) <;> first | (exfalso; omega) | rfl | omega | assumption, ((mSam.refl I A).uA (k := 22) (by decide))⟩⟩)
        · skip
          refine ga_aload_n (pc := 78) dX8_of_78 rfl ?_
          refine ga_iload_n (pc := 79) dX8_of_79 rfl ?_
          refine k_X8_isLike (pc := 80) (k := (A 11 e)) ok (by first | exact hm | omega) (by first | exact h1 | omega) (rfl) ⟨Nat.le_of_ble_eq_true rfl, Nat.le_of_ble_eq_true rfl⟩ (Nat.le_of_ble_eq_true rfl) dX8_of_80 ?_
          refine ga_ifb_eq (pc := 83) (tgt := 94) dX8_of_83 rfl (fun c83 => ?_) (fun c83 => ?_)
          · skip
            refine ga_bipush (pc := 94) dX8_of_94 rfl ?_
            exact mm_iret hE dX8_of_96 (⟨_, rfl, by dsimp only; exact ⟨by unfold mOf; (repeat' split) <;> first | (exfalso; omega) | rfl | omega | assumption, (mSam.refl I A)⟩⟩)
          · skip
            refine ga_aload_n (pc := 86) dX8_of_86 rfl ?_
            refine ga_iload_n (pc := 87) dX8_of_87 rfl ?_
            refine k_X8_unknownsOf (pc := 88) (kind := (A 11 e)) (z := (tPl (A 11 e) (I 4) (A 22) (I 3 * I 4).toNat).1) (A2 := (uN A 22 ((tPl (A 11 e) (I 4) (A 22) (I 3 * I 4).toNat).2))) ok (by first | exact hm | omega) (by first | exact h1 | omega) (rfl) (rfl) ⟨Nat.le_of_ble_eq_true rfl, Nat.le_of_ble_eq_true rfl⟩ (Nat.le_of_ble_eq_true rfl) dX8_of_88 ?_
            refine ga_goto (pc := 91) (tgt := 96) dX8_of_91 rfl ?_
            exact mm_iret hE dX8_of_96 (⟨_, rfl, by dsimp only; exact ⟨by unfold mOf; rw [tCnt_e]; (repeat' split) <;> first | (exfalso; omega) | rfl | omega | assumption, ((mSam.refl I A).uA (k := 22) (by decide))⟩⟩)
      · skip
        refine ga_iload_n (pc := 34) dX8_of_34 rfl ?_
        refine ga_if_ne (pc := 35) (tgt := 42) dX8_of_35 rfl (by omega) (fun c35 => ?_) (fun c35 => ?_)
        · skip
          refine ga_iload_n (pc := 42) dX8_of_42 rfl ?_
          refine ga_iconst (pc := 43) dX8_of_43 ?_
          refine ga_icmp_ne (pc := 44) (tgt := 59) dX8_of_44 rfl (by omega) (by omega) (fun c44 => ?_) (fun c44 => ?_)
          · skip
            refine ga_aload_n (pc := 59) dX8_of_59 rfl ?_
            refine ga_iload_n (pc := 60) dX8_of_60 rfl ?_
            refine k_X8_isFit (pc := 61) (kind := (A 11 e)) ok (by first | exact hm | omega) (by first | exact h1 | omega) ⟨Nat.le_of_ble_eq_true rfl, Nat.le_of_ble_eq_true rfl⟩ (Nat.le_of_ble_eq_true rfl) dX8_of_61 (fun r61 I61 A61 hp61 => ?_)
            obtain ⟨er61, eI61, f61, rfl⟩ := hp61
            rw [tCnt_e] at er61
            rw [er61, eI61]
            refine ga_ifb_eq (pc := 64) (tgt := 71) dX8_of_64 rfl (fun c64 => ?_) (fun c64 => ?_)
            · skip
              refine ga_iconst (pc := 71) dX8_of_71 ?_
              exact mm_iret hE dX8_of_72 (⟨_, rfl, by dsimp only; exact ⟨by unfold mOf; (repeat' split) <;> first | (exfalso; omega) | rfl | omega | assumption, ((mSam.refl I A).uA (k := 22) (by decide))⟩⟩)
            · skip
              refine ga_iconst (pc := 67) dX8_of_67 ?_
              refine ga_goto (pc := 68) (tgt := 72) dX8_of_68 rfl ?_
              exact mm_iret hE dX8_of_72 (⟨_, rfl, by dsimp only; exact ⟨by unfold mOf; (repeat' split) <;> first | (exfalso; omega) | rfl | omega | assumption, ((mSam.refl I A).uA (k := 22) (by decide))⟩⟩)
          · skip
            refine ga_bipush (pc := 47) dX8_of_47 rfl ?_
            refine ga_aload_n (pc := 49) dX8_of_49 rfl ?_
            refine mm_g12 (pc := 50) dX8_of_50 ?_
            refine ga_iload_n (pc := 53) dX8_of_53 rfl ?_
            refine mm_ald12 (pc := 54) (x := A 12 e) ok (by omega) (rfl) dX8_of_54 ?_
            refine ga_iadd (pc := 55) dX8_of_55 ?_
            refine ga_goto (pc := 56) (tgt := 72) dX8_of_56 rfl ?_
            exact mm_iret hE dX8_of_72 (⟨_, rfl, by dsimp only; exact ⟨by unfold mOf; (repeat' split) <;> first | (exfalso; omega) | rfl | omega | assumption, (mSam.refl I A)⟩⟩)
        · skip
          refine ga_iload_n (pc := 38) dX8_of_38 rfl ?_
          refine ga_goto (pc := 39) (tgt := 72) dX8_of_39 rfl ?_
          exact mm_iret hE dX8_of_72 (⟨_, rfl, by dsimp only; exact ⟨by unfold mOf; (repeat' split) <;> first | (exfalso; omega) | rfl | omega | assumption, (mSam.refl I A)⟩⟩)
    · skip
      refine ga_iconst (pc := 20) dX8_of_20 ?_
      exact mm_iret hE dX8_of_21 (⟨_, rfl, by dsimp only; exact ⟨by unfold mOf; (repeat' split) <;> first | (exfalso; omega) | rfl | omega | assumption, (mSam.refl I A)⟩⟩)
