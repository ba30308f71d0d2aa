/-! THE CLASS: equation, change, many, times -/
set_option maxHeartbeats 4000000 in
set_option maxRecDepth 100000 in
theorem m_X0_equation (l : Launch) (D : ga_G) (ad : Nat → Nat) (J : Nat → Int) (B : Nat → Int → Int) (Q : Nat → Int → Option Nat) (Z : ga_H) (kd sh : Int) (h8 : 0 ≤ J 8 ∧ J 8 ≤ 6) (hri : (-2147483648 ≤ kd ∧ kd < 2147483648) ∧ (-2147483648 ≤ sh ∧ sh < 2147483648)) : kM l D yX0_equation (ws_ yX0_equation cX0_equation 3 (some .int)) (gK 6 1 2) [.ref (ad 0), .int (iI kd), .int (iI sh)] ad J B Q Z (kI (fun r ad1 J1 B1 Q1 Z1 => (((0 ≤ kd ∧ kd ≤ 6) ∧ -2 ≤ sh ∧ sh ≤ 2 ∧ J 8 ≠ 6) ∧ r = J 8 ∧ ad1 = ad ∧ J1 = uN J 8 (J 8 + 1) ∧ B1 = B ∧ ∃ b : Nat, Z b = none ∧ Q1 = uN Q 0 (uZ (Q 0) (J 8) (some b)) ∧ Z1 = ga_u Z b (oE (9 + kd.toNat) [.int (iI (J 8)), .int (iI sh)])) ∨ (¬ ((0 ≤ kd ∧ kd ≤ 6) ∧ -2 ≤ sh ∧ sh ≤ 2 ∧ J 8 ≠ 6) ∧ r = (if (0 ≤ kd ∧ kd ≤ 6) ∧ -2 ≤ sh ∧ sh ≤ 2 then -2 else -1) ∧ ad1 = ad ∧ J1 = J ∧ B1 = B ∧ Q1 = Q ∧ Z1 = Z))) kX0 1 2 := by
  refine kc_met (own := RX0) 0 (by decide) rfl (Nat.le_of_ble_eq_true rfl) (L0 := [some (.ref (ad 0)), some (.int (iI kd)), some (.int (iI sh))]) rfl (fun X h hc hE => ?_)
  refine ga_iload_n (pc := 0) dX0_equation_0 rfl ?_
  refine k_X0_isKind (pc := 1) (a := kd) (by omega) (rfl) ⟨Nat.le_of_ble_eq_true rfl, Nat.le_of_ble_eq_true rfl⟩ ⟨Nat.le_of_ble_eq_true rfl, Nat.le_of_ble_eq_true rfl⟩ (Nat.le_of_ble_eq_true rfl) dX0_equation_1 ?_
  refine ga_ifb_eq (pc := 4) (tgt := 14) dX0_equation_4 rfl (fun c4 => ?_) (fun c4 => ?_)
  · skip
    refine ga_iconst (pc := 14) dX0_equation_14 ?_
    exact kc_iret hc hE dX0_equation_15 (by omega) (by omega) (⟨_, rfl, by (try dsimp only); exact Or.inr ⟨by omega, by rw [if_neg (by omega)], rfl, rfl, rfl, rfl, rfl⟩⟩)
  · skip
    refine ga_iload_n (pc := 7) dX0_equation_7 rfl ?_
    refine k_X0_isShift (pc := 8) (a := sh) (by omega) (rfl) ⟨Nat.le_of_ble_eq_true rfl, Nat.le_of_ble_eq_true rfl⟩ ⟨Nat.le_of_ble_eq_true rfl, Nat.le_of_ble_eq_true rfl⟩ (Nat.le_of_ble_eq_true rfl) dX0_equation_8 ?_
    refine ga_ifb_ne (pc := 11) (tgt := 16) dX0_equation_11 rfl (fun c11 => ?_) (fun c11 => ?_)
    · skip
      refine ga_aload_n (pc := 16) dX0_equation_16 rfl ?_
      refine cc_g_many (pc := 17) (z := J 8) hc rfl dX0_equation_17 ?_
      refine ga_bipush (pc := 20) dX0_equation_20 rfl ?_
      refine ga_icmp_ne (pc := 22) (tgt := 28) dX0_equation_22 rfl (by omega) (by omega) (fun c22 => ?_) (fun c22 => ?_)
      · skip
        refine ga_aload_n (pc := 28) dX0_equation_28 rfl ?_
        refine cc_g_equations (pc := 29) hc dX0_equation_29 ?_
        refine ga_aload_n (pc := 32) dX0_equation_32 rfl ?_
        refine cc_g_many (pc := 33) (z := J 8) hc rfl dX0_equation_33 ?_
        refine ga_iload_n (pc := 36) dX0_equation_36 rfl ?_
        refine ga_aload_n (pc := 37) dX0_equation_37 rfl ?_
        refine cc_g_many (pc := 38) (z := J 8) hc rfl dX0_equation_38 ?_
        refine ga_iload_n (pc := 41) dX0_equation_41 rfl ?_
        refine ga_goR (pc := 42) (ga_runS (mc := 1) (ms := 2) (m_X0_made _ _ _ kd (J 8) sh (by omega)) (lw_S q719 q720 q102 q721) (show ga_nn' yX0_made 3 from (by unfold ga_nn'; decide +kernel)) ⟨rfl, rfl⟩ ⟨by show 5 + 1 ≤ _; exact Nat.le_of_ble_eq_true rfl, by show 8 + (3 + 11) + 64 * 5 ≤ _; exact Nat.le_of_ble_eq_true rfl⟩ ⟨Nat.le_of_ble_eq_true rfl, Nat.le_of_ble_eq_true rfl⟩ (Nat.le_of_ble_eq_true rfl) dX0_equation_42 rfl) (fun rb h1 hp1 => ?_)
        obtain ⟨b, rfl, hab, rfl⟩ := hp1
        have hZb : Z b = none := (hc.n (e := (oE (9 + (Int.toNat kd)) [.int (iI (J 8)), .int (iI sh)])) hab).2
        replace hc := (hc.n (e := (oE (9 + (Int.toNat kd)) [.int (iI (J 8)), .int (iI sh)])) hab).1
        generalize ga_u h b (oE (9 + (Int.toNat kd)) [.int (iI (J 8)), .int (iI sh)]) = h at hc ⊢
        refine ga_eq (pc := 45) (st1 := [.ref b, .int (iI (J 8)), .ref (ad 25)]) rfl rfl rfl ?_
        obtain ⟨qc, hqc1, hqc2⟩ := plC (show 0 ≤ kd ∧ kd ≤ 6 by omega)
        refine ga_aast (pc := 45) (N := 6) (C := "TwoSidedTables$Plain") (f := Q 0) (hc.1 25 (by decide)) (hc.2.2 b _ (ga_us _ _ _)).1 hqc1 hqc2 (by omega) (by decide) dX0_equation_45 ?_
        replace hc := hc.u (Q1 := uN Q 0 (uZ (Q 0) (J 8) (some b))) 25 (by decide) (fun r hr hn => cE_q (by decide) r hr hn) (e := aR "TwoSidedTables$Plain" 6 (uZ (Q 0) (J 8) (some b))) rfl
        generalize ga_u h (ad 25) (aR "TwoSidedTables$Plain" 6 (uZ (Q 0) (J 8) (some b))) = h at hc ⊢
        refine ga_aload_n (pc := 46) dX0_equation_46 rfl ?_
        refine ga_dup (pc := 47) dX0_equation_47 rfl ?_
        refine cc_g_many (pc := 48) (z := J 8) hc rfl dX0_equation_48 ?_
        refine ga_iconst (pc := 51) dX0_equation_51 ?_
        refine ga_iadd (pc := 52) dX0_equation_52 ?_
        refine cc_p_many (pc := 53) (J1 := (uN J 8 ((J 8) + 1))) hc (rfl) dX0_equation_53 (fun h hc => ?_)
        refine ga_aload_n (pc := 56) dX0_equation_56 rfl ?_
        refine cc_g_many (pc := 57) (z := (J 8) + 1) hc rfl dX0_equation_57 ?_
        refine ga_iconst (pc := 60) dX0_equation_60 ?_
        refine ga_isub (pc := 61) dX0_equation_61 ?_
        exact kc_iret hc hE dX0_equation_62 (by omega) (by omega) (⟨_, rfl, by (try dsimp only); exact Or.inl ⟨by omega, by omega, rfl, rfl, rfl, b, hZb, rfl, rfl⟩⟩)
      · skip
        refine ga_bipush (pc := 25) dX0_equation_25 rfl ?_
        exact kc_iret hc hE dX0_equation_27 (by omega) (by omega) (⟨_, rfl, by (try dsimp only); exact Or.inr ⟨by omega, by rw [if_pos (by omega)], rfl, rfl, rfl, rfl, rfl⟩⟩)
    · skip
      refine ga_iconst (pc := 14) dX0_equation_14 ?_
      exact kc_iret hc hE dX0_equation_15 (by omega) (by omega) (⟨_, rfl, by (try dsimp only); exact Or.inr ⟨by omega, by rw [if_neg (by omega)], rfl, rfl, rfl, rfl, rfl⟩⟩)
set_option maxHeartbeats 4000000 in
set_option maxRecDepth 100000 in
theorem m_X0_change (l : Launch) (D : ga_G) (ad : Nat → Nat) (J : Nat → Int) (B : Nat → Int → Int) (Q : Nat → Int → Option Nat) (Z : ga_H) (e k2 sh2 : Int) (p : Nat) (kd y sh : Int) (h8 : 0 ≤ J 8 ∧ J 8 ≤ 6) (hq : 0 ≤ e → e < J 8 → Q 0 e = some p ∧ Z p = some (oE (9 + kd.toNat) [.int (iI y), .int (iI sh)]) ∧ (0 ≤ kd ∧ kd ≤ 6) ∧ -2 ≤ sh ∧ sh ≤ 2) (hri : (-2147483648 ≤ e ∧ e < 2147483648) ∧ (-2147483648 ≤ k2 ∧ k2 < 2147483648) ∧ (-2147483648 ≤ sh2 ∧ sh2 < 2147483648)) : kM l D yX0_change (ws_ yX0_change cX0_change 5 (some .int)) (gK 6 1 2) [.ref (ad 0), .int (iI e), .int (iI k2), .int (iI sh2)] ad J B Q Z (kI (fun r ad1 J1 B1 Q1 Z1 => (((0 ≤ e ∧ e < J 8) ∧ (0 ≤ k2 ∧ k2 ≤ 6) ∧ -2 ≤ sh2 ∧ sh2 ≤ 2) ∧ r = kd ∧ ad1 = ad ∧ J1 = J ∧ B1 = B ∧ ∃ b : Nat, Z b = none ∧ Q1 = uN Q 0 (uZ (Q 0) e (some b)) ∧ Z1 = ga_u Z b (oE (9 + k2.toNat) [.int (iI e), .int (iI sh2)])) ∨ (¬ ((0 ≤ e ∧ e < J 8) ∧ (0 ≤ k2 ∧ k2 ≤ 6) ∧ -2 ≤ sh2 ∧ sh2 ≤ 2) ∧ r = -1 ∧ ad1 = ad ∧ J1 = J ∧ B1 = B ∧ Q1 = Q ∧ Z1 = Z))) kX0 1 2 := by
  refine kc_met (own := RX0) 1 (by decide) rfl (Nat.le_of_ble_eq_true rfl) (L0 := [some (.ref (ad 0)), some (.int (iI e)), some (.int (iI k2)), some (.int (iI sh2)), none]) rfl (fun X h hc hE => ?_)
  refine ga_aload_n (pc := 0) dX0_change_0 rfl ?_
  refine ga_iload_n (pc := 1) dX0_change_1 rfl ?_
  refine k_X0_isEquation (pc := 2) (e := e) hc (by first | exact hq | omega) (by first | exact h1 | omega) (rfl) ⟨Nat.le_of_ble_eq_true rfl, Nat.le_of_ble_eq_true rfl⟩ ⟨Nat.le_of_ble_eq_true rfl, Nat.le_of_ble_eq_true rfl⟩ (Nat.le_of_ble_eq_true rfl) dX0_change_2 (fun h hc => ?_)
  refine ga_ifb_eq (pc := 5) (tgt := 22) dX0_change_5 rfl (fun c5 => ?_) (fun c5 => ?_)
  · skip
    refine ga_iconst (pc := 22) dX0_change_22 ?_
    exact kc_iret hc hE dX0_change_23 (by omega) (by omega) (⟨_, rfl, by (try dsimp only); exact Or.inr ⟨by omega, rfl, rfl, rfl, rfl, rfl, rfl⟩⟩)
  · skip
    refine ga_iload_n (pc := 8) dX0_change_8 rfl ?_
    refine k_X0_isKind (pc := 9) (a := k2) (by omega) (rfl) ⟨Nat.le_of_ble_eq_true rfl, Nat.le_of_ble_eq_true rfl⟩ ⟨Nat.le_of_ble_eq_true rfl, Nat.le_of_ble_eq_true rfl⟩ (Nat.le_of_ble_eq_true rfl) dX0_change_9 ?_
    refine ga_ifb_eq (pc := 12) (tgt := 22) dX0_change_12 rfl (fun c12 => ?_) (fun c12 => ?_)
    · skip
      refine ga_iconst (pc := 22) dX0_change_22 ?_
      exact kc_iret hc hE dX0_change_23 (by omega) (by omega) (⟨_, rfl, by (try dsimp only); exact Or.inr ⟨by omega, rfl, rfl, rfl, rfl, rfl, rfl⟩⟩)
    · skip
      refine ga_iload_n (pc := 15) dX0_change_15 rfl ?_
      refine k_X0_isShift (pc := 16) (a := sh2) (by omega) (rfl) ⟨Nat.le_of_ble_eq_true rfl, Nat.le_of_ble_eq_true rfl⟩ ⟨Nat.le_of_ble_eq_true rfl, Nat.le_of_ble_eq_true rfl⟩ (Nat.le_of_ble_eq_true rfl) dX0_change_16 ?_
      refine ga_ifb_ne (pc := 19) (tgt := 24) dX0_change_19 rfl (fun c19 => ?_) (fun c19 => ?_)
      · skip
        obtain ⟨hqe, hp, hkd, hsh⟩ := hq (by omega) (by omega)
        refine ga_aload_n (pc := 24) dX0_change_24 rfl ?_
        refine cc_g_equations (pc := 25) hc dX0_change_25 ?_
        refine ga_iload_n (pc := 28) dX0_change_28 rfl ?_
        refine ga_aald (pc := 29) (N := 6) (f := Q 0) (hc.1 25 (by decide)) (by omega) (by decide) dX0_change_29 ?_
        refine ga_eq (pc := 30) (st1 := [.ref p]) rfl rfl (congrArg (fun x => va_rf x :: []) (hqe)) ?_
        refine v_kind_X0 (pc := 30) (p := p) (kd := kd) (y := y) (sh := sh) (hc.2.2 p _ hp).1 hkd rfl ⟨Nat.le_of_ble_eq_true rfl, Nat.le_of_ble_eq_true rfl⟩ ⟨Nat.le_of_ble_eq_true rfl, Nat.le_of_ble_eq_true rfl⟩ (Nat.le_of_ble_eq_true rfl) dX0_change_30 ?_
        refine ga_istore (pc := 33) (L1 := [some (.ref (ad 0)), some (.int (iI e)), some (.int (iI k2)), some (.int (iI sh2)), some (.int (iI kd))]) dX0_change_33 rfl (by decide) rfl ?_
        refine ga_aload_n (pc := 35) dX0_change_35 rfl ?_
        refine cc_g_equations (pc := 36) hc dX0_change_36 ?_
        refine ga_iload_n (pc := 39) dX0_change_39 rfl ?_
        refine ga_iload_n (pc := 40) dX0_change_40 rfl ?_
        refine ga_iload_n (pc := 41) dX0_change_41 rfl ?_
        refine ga_iload_n (pc := 42) dX0_change_42 rfl ?_
        refine ga_goR (pc := 43) (ga_runS (mc := 1) (ms := 2) (m_X0_made _ _ _ k2 e sh2 (by omega)) (lw_S q719 q720 q102 q721) (show ga_nn' yX0_made 3 from (by unfold ga_nn'; decide +kernel)) ⟨rfl, rfl⟩ ⟨by show 5 + 1 ≤ _; exact Nat.le_of_ble_eq_true rfl, by show 8 + (3 + 11) + 64 * 5 ≤ _; exact Nat.le_of_ble_eq_true rfl⟩ ⟨Nat.le_of_ble_eq_true rfl, Nat.le_of_ble_eq_true rfl⟩ (Nat.le_of_ble_eq_true rfl) dX0_change_43 rfl) (fun rb h1 hp1 => ?_)
        obtain ⟨b, rfl, hab, rfl⟩ := hp1
        have hZb : Z b = none := (hc.n (e := (oE (9 + (Int.toNat k2)) [.int (iI e), .int (iI sh2)])) hab).2
        replace hc := (hc.n (e := (oE (9 + (Int.toNat k2)) [.int (iI e), .int (iI sh2)])) hab).1
        generalize ga_u h b (oE (9 + (Int.toNat k2)) [.int (iI e), .int (iI sh2)]) = h at hc ⊢
        refine ga_eq (pc := 46) (st1 := [.ref b, .int (iI e), .ref (ad 25)]) rfl rfl rfl ?_
        obtain ⟨qc, hqc1, hqc2⟩ := plC (show 0 ≤ k2 ∧ k2 ≤ 6 by omega)
        refine ga_aast (pc := 46) (N := 6) (C := "TwoSidedTables$Plain") (f := Q 0) (hc.1 25 (by decide)) (hc.2.2 b _ (ga_us _ _ _)).1 hqc1 hqc2 (by omega) (by decide) dX0_change_46 ?_
        replace hc := hc.u (Q1 := uN Q 0 (uZ (Q 0) e (some b))) 25 (by decide) (fun r hr hn => cE_q (by decide) r hr hn) (e := aR "TwoSidedTables$Plain" 6 (uZ (Q 0) e (some b))) rfl
        generalize ga_u h (ad 25) (aR "TwoSidedTables$Plain" 6 (uZ (Q 0) e (some b))) = h at hc ⊢
        refine ga_iload (pc := 47) dX0_change_47 rfl ?_
        exact kc_iret hc hE dX0_change_49 (by omega) (by omega) (⟨_, rfl, by (try dsimp only); exact Or.inl ⟨by omega, rfl, rfl, rfl, rfl, b, hZb, rfl, rfl⟩⟩)
      · skip
        refine ga_iconst (pc := 22) dX0_change_22 ?_
        exact kc_iret hc hE dX0_change_23 (by omega) (by omega) (⟨_, rfl, by (try dsimp only); exact Or.inr ⟨by omega, rfl, rfl, rfl, rfl, rfl, rfl⟩⟩)
