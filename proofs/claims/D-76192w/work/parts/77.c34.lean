/-! THE CLASS: equation, change, many, times -/
set_option maxHeartbeats 4000000 in
set_option maxRecDepth 100000 in
theorem m_X0_equation (l : Launch) (D : ga_G) (ad : Nat → Nat) (J : Nat → Int) (B : Nat → Int → Int) (Q : Nat → Int → Option Nat) (Z : ga_H) (kd sh : Int) (h8 : 0 ≤ J 8 ∧ J 8 ≤ 6) (hri : (-2147483648 ≤ kd ∧ kd < 2147483648) ∧ (-2147483648 ≤ sh ∧ sh < 2147483648)) : kM l D yX0_equation (ws_ yX0_equation cX0_equation 3 (some .int)) (gK 6 1 2) [.ref (ad 0), .int (iI kd), .int (iI sh)] ad J B Q Z (kI (fun r ad1 J1 B1 Q1 Z1 => (((0 ≤ kd ∧ kd ≤ 6) ∧ -2 ≤ sh ∧ sh ≤ 2 ∧ J 8 ≠ 6) ∧ r = J 8 ∧ ad1 = ad ∧ J1 = uN J 8 (J 8 + 1) ∧ B1 = B ∧ ∃ b : Nat, Z b = none ∧ Q1 = uN Q 0 (uZ (Q 0) (J 8) (some b)) ∧ Z1 = ga_u Z b (oE (9 + kd.toNat) [.int (iI (J 8)), .int (iI sh)])) ∨ (¬ ((0 ≤ kd ∧ kd ≤ 6) ∧ -2 ≤ sh ∧ sh ≤ 2 ∧ J 8 ≠ 6) ∧ r = (if (0 ≤ kd ∧ kd ≤ 6) ∧ -2 ≤ sh ∧ sh ≤ 2 then -2 else -1) ∧ ad1 = ad ∧ J1 = J ∧ B1 = B ∧ Q1 = Q ∧ Z1 = Z))) kX0 1 2 := by
  refine kc_met (own := RX0) 0 (by decide) rfl (Nat.le_of_ble_eq_true rfl) (L0 := [some (.ref (ad 0)), some (.int (iI kd)), some (.int (iI sh))]) rfl (fun X h hc hE => ?_)
  refine ga_iload_n (pc := 0) dX0_equation_0 rfl ?_
  refine k_X0_isKind (pc := 1) (a := kd) (by omega) (rfl) ⟨Nat.le_of_ble_eq_true rfl, Nat.le_of_ble_eq_true rfl⟩ ⟨Nat.le_of_ble_eq_true rfl, Nat.le_of_ble_eq_true rfl⟩ (Nat.le_of_ble_eq_true rfl) dX0_equation_1 ?_
  refine ga_ifb_eq (pc := 4) (tgt := 14) dX0_equation_4 rfl (fun c4 => ?_) (fun c4 => ?_)
  · skip
    refine ga_iconst (pc := 14) dX0_equation_14 ?_
    exact kc_iret hc hE dX0_equation_15 (by omega) (by omega) (⟨_, rfl, by (try dsimp only); exact Or.inr ⟨by omega, by rw [if_neg (by omega)], rfl, rfl, rfl, rfl, rfl⟩⟩)
  · skip
    refine ga_iload_n (pc := 7) dX0_equation_7 rfl ?_
    refine k_X0_isShift (pc := 8) (a := sh) (by omega) (rfl) ⟨Nat.le_of_ble_eq_true rfl, Nat.le_of_ble_eq_true rfl⟩ ⟨Nat.le_of_ble_eq_true rfl, Nat.le_of_ble_eq_true rfl⟩ (Nat.le_of_ble_eq_true rfl) dX0_equation_8 ?_
    refine ga_ifb_ne (pc := 11) (tgt := 16) dX0_equation_11 rfl (fun c11 => ?_) (fun c11 => ?_)
    · skip
      refine ga_aload_n (pc := 16) dX0_equation_16 rfl ?_
      refine cc_g_many (pc := 17) (z := J 8) hc rfl dX0_equation_17 ?_
      refine ga_bipush (pc := 20) dX0_equation_20 rfl ?_
      refine ga_icmp_ne (pc := 22) (tgt := 28) dX0_equation_22 rfl (by omega) (by omega) (fun c22 => ?_) (fun c22 => ?_)
      · skip
        refine ga_aload_n (pc := 28) dX0_equation_28 rfl ?_
        refine cc_g_equations (pc := 29) hc dX0_equation_29 ?_
        refine ga_aload_n (pc := 32) dX0_equation_32 rfl ?_
        refine cc_g_many (pc := 33) (z := J 8) hc rfl dX0_equation_33 ?_
        refine ga_iload_n (pc := 36) dX0_equation_36 rfl ?_
        refine ga_aload_n (pc := 37) dX0_equation_37 rfl ?_
        refine cc_g_many (pc := 38) (z := J 8) hc rfl dX0_equation_38 ?_
        refine ga_iload_n (pc := 41) dX0_equation_41 rfl ?_
        refine ga_goR (pc := 42) (ga_runS (mc := 1) (ms := 2) (m_X0_made _ _ _ kd (J 8) sh (by omega)) (lw_S q719 q720 q102 q721) (show ga_nn' yX0_made 3 from (by unfold ga_nn'; decide +kernel)) ⟨rfl, rfl⟩ ⟨by show 5 + 1 ≤ _; exact Nat.le_of_ble_eq_true rfl, by show 8 + (3 + 11) + 64 * 5 ≤ _; exact Nat.le_of_ble_eq_true rfl⟩ ⟨Nat.le_of_ble_eq_true rfl, Nat.le_of_ble_eq_true rfl⟩ (Nat.le_of_ble_eq_true rfl) dX0_equation_42 rfl) (fun rb h1 hp1 => ?_)
        obtain ⟨b, rfl, hab, rfl⟩ := hp1
        have hZb : Z b = none := (hc.n (e := (oE (9 + (Int.toNat kd)) [.int (iI (J 8)), .int (iI sh)])) hab).2
        replace hc := (hc.n (e := (oE (9 + (Int.toNat kd)) [.int (iI (J 8)), .int (iI sh)])) hab).1
        generalize ga_u h b (oE (9 + (Int.toNat kd)) [.int (iI (J 8)), .int (iI sh)]) = h at hc ⊢
        refine ga_eq (pc := 45) (st1 := [.ref b, .int (iI (J 8)), .ref (ad 25)]) rfl rfl rfl ?_
        obtain ⟨qc, hqc1, hqc2⟩ := plC (show 0 ≤ kd ∧ kd ≤ 6 by omega)
        refine ga_aast (pc := 45) (N := 6) (C := "TwoSidedTables$Plain") (f := Q 0) (hc.1 25 (by decide)) (hc.2.2 b _ (ga_us _ _ _)).1 hqc1 hqc2 (by omega) (by decide) dX0_equation_45 ?_
        replace hc := hc.u (Q1 := uN Q 0 (uZ (Q 0) (J 8) (some b))) 25 (by decide) (fun r hr hn => cE_q (by decide) r hr hn) (e := aR "TwoSidedTables$Plain" 6 (uZ (Q 0) (J 8) (some b))) rfl
        generalize ga_u h (ad 25) (aR "TwoSidedTables$Plain" 6 (uZ (Q 0) (J 8) (some b))) = h at hc ⊢
        refine ga_aload_n (pc := 46) dX0_equation_46 rfl ?_
        refine ga_dup (pc := 47) dX0_equation_47 rfl ?_
        refine cc_g_many (pc := 48) (z := J 8) hc rfl dX0_equation_48 ?_
        refine ga_iconst (pc := 51) dX0_equation_51 ?_
        refine ga_iadd (pc := 52) dX0_equation_52 ?_
        refine cc_p_many (pc := 53) (J1 := (uN J 8 ((J 8) + 1))) hc (rfl) dX0_equation_53 (fun h hc => ?_)
        refine ga_aload_n (pc := 56) dX0_equation_56 rfl ?_
        refine cc_g_many (pc := 57) (z := (J 8) + 1) hc rfl dX0_equation_57 ?_
        refine ga_iconst (pc := 60) dX0_equation_60 ?_
        refine ga_isub (pc := 61) dX0_equation_61 ?_
        exact kc_iret hc hE dX0_equation_62 (by omega) (by omega) (⟨_, rfl, by (try dsimp only); exact Or.inl ⟨by omega, by omega, rfl, rfl, rfl, b, hZb, rfl, rfl⟩⟩)
      · skip
        refine ga_bipush (pc := 25) dX0_equation_25 rfl ?_
        exact kc_iret hc hE dX0_equation_27 (by omega) (by omega) (⟨_, rfl, by (try dsimp only); exact Or.inr ⟨by omega, by rw [if_pos (by omega)], rfl, rfl, rfl, rfl, rfl⟩⟩)
    · skip
      refine ga_iconst (pc := 14) dX0_equation_14 ?_
      exact kc_iret hc hE dX0_equation_15 (by omega) (by omega) (⟨_, rfl, by (try dsimp only); exact Or.inr ⟨by omega, by rw [if_neg (by omega)], rfl, rfl, rfl, rfl, rfl⟩⟩)
set_option maxHeartbeats 4000000 in
set_option maxRecDepth 100000 in
theorem m_X0_change (l : Launch) (D : ga_G) (ad : Nat → Nat) (J : Nat → Int) (B : Nat → Int → Int) (Q : Nat → Int → Option Nat) (Z : ga_H) (e k2 sh2 : Int) (p : Nat) (kd y sh : Int) (h8 : 0 ≤ J 8 ∧ J 8 ≤ 6) (hq : 0 ≤ e → e < J 8 → Q 0 e = some p ∧ Z p = some (oE (9 + kd.toNat) [.int (iI y), .int (iI sh)]) ∧ (0 ≤ kd ∧ kd ≤ 6) ∧ -2 ≤ sh ∧ sh ≤ 2) (hri : (-2147483648 ≤ e ∧ e < 2147483648) ∧ (-2147483648 ≤ k2 ∧ k2 < 2147483648) ∧ (-2147483648 ≤ sh2 ∧ sh2 < 2147483648)) : kM l D yX0_change (ws_ yX0_change cX0_change 5 (some .int)) (gK 6 1 2) [.ref (ad 0), .int (iI e), .int (iI k2), .int (iI sh2)] ad J B Q Z (kI (fun r ad1 J1 B1 Q1 Z1 => (((0 ≤ e ∧ e < J 8) ∧ (0 ≤ k2 ∧ k2 ≤ 6) ∧ -2 ≤ sh2 ∧ sh2 ≤ 2) ∧ r = kd ∧ ad1 = ad ∧ J1 = J ∧ B1 = B ∧ ∃ b : Nat, Z b = none ∧ Q1 = uN Q 0 (uZ (Q 0) e (some b)) ∧ Z1 = ga_u Z b (oE (9 + k2.toNat) [.int (iI e), .int (iI sh2)])) ∨ (¬ ((0 ≤ e ∧ e < J 8) ∧ (0 ≤ k2 ∧ k2 ≤ 6) ∧ -2 ≤ sh2 ∧ sh2 ≤ 2) ∧ r = -1 ∧ ad1 = ad ∧ J1 = J ∧ B1 = B ∧ Q1 = Q ∧ Z1 = Z))) kX0 1 2 := by
  refine kc_met (own := RX0) 1 (by decide) rfl (Nat.le_of_ble_eq_true rfl) (L0 := [some (.ref (ad 0)), some (.int (iI e)), some (.int (iI k2)), some (.int (iI sh2)), none]) rfl (fun X h hc hE => ?_)
  refine ga_aload_n (pc := 0) dX0_change_0 rfl ?_
  refine ga_iload_n (pc := 1) dX0_change_1 rfl ?_
  refine k_X0_isEquation (pc := 2) (e := e) hc (by first | exact hq | omega) (by first | exact h1 | omega) (rfl) ⟨Nat.le_of_ble_eq_true rfl, Nat.le_of_ble_eq_true rfl⟩ ⟨Nat.le_of_ble_eq_true rfl, Nat.le_of_ble_eq_true rfl⟩ (Nat.le_of_ble_eq_true rfl) dX0_change_2 (fun h hc => ?_)
  refine ga_ifb_eq (pc := 5) (tgt := 22) dX0_change_5 rfl (fun c5 => ?_) (fun c5 => ?_)
  · skip
    refine ga_iconst (pc := 22) dX0_change_22 ?_
    exact kc_iret hc hE dX0_change_23 (by omega) (by omega) (⟨_, rfl, by (try dsimp only); exact Or.inr ⟨by omega, rfl, rfl, rfl, rfl, rfl, rfl⟩⟩)
  · skip
    refine ga_iload_n (pc := 8) dX0_change_8 rfl ?_
    refine k_X0_isKind (pc := 9) (a := k2) (by omega) (rfl) ⟨Nat.le_of_ble_eq_true rfl, Nat.le_of_ble_eq_true rfl⟩ ⟨Nat.le_of_ble_eq_true rfl, Nat.le_of_ble_eq_true rfl⟩ (Nat.le_of_ble_eq_true rfl) dX0_change_9 ?_
    refine ga_ifb_eq (pc := 12) (tgt := 22) dX0_change_12 rfl (fun c12 => ?_) (fun c12 => ?_)
    · skip
      refine ga_iconst (pc := 22) dX0_change_22 ?_
      exact kc_iret hc hE dX0_change_23 (by omega) (by omega) (⟨_, rfl, by (try dsimp only); exact Or.inr ⟨by omega, rfl, rfl, rfl, rfl, rfl, rfl⟩⟩)
    · skip
      refine ga_iload_n (pc := 15) dX0_change_15 rfl ?_
      refine k_X0_isShift (pc := 16) (a := sh2) (by omega) (rfl) ⟨Nat.le_of_ble_eq_true rfl, Nat.le_of_ble_eq_true rfl⟩ ⟨Nat.le_of_ble_eq_true rfl, Nat.le_of_ble_eq_true rfl⟩ (Nat.le_of_ble_eq_true rfl) dX0_change_16 ?_
      refine ga_ifb_ne (pc := 19) (tgt := 24) dX0_change_19 rfl (fun c19 => ?_) (fun c19 => ?_)
      · skip
        obtain ⟨hqe, hp, hkd, hsh⟩ := hq (by omega) (by omega)
        refine ga_aload_n (pc := 24) dX0_change_24 rfl ?_
        refine cc_g_equations (pc := 25) hc dX0_change_25 ?_
        refine ga_iload_n (pc := 28) dX0_change_28 rfl ?_
        refine ga_aald (pc := 29) (N := 6) (f := Q 0) (hc.1 25 (by decide)) (by omega) (by decide) dX0_change_29 ?_
        refine ga_eq (pc := 30) (st1 := [.ref p]) rfl rfl (congrArg (fun x => va_rf x :: []) (hqe)) ?_
        refine v_kind_X0 (pc := 30) (p := p) (kd := kd) (y := y) (sh := sh) (hc.2.2 p _ hp).1 hkd rfl ⟨Nat.le_of_ble_eq_true rfl, Nat.le_of_ble_eq_true rfl⟩ ⟨Nat.le_of_ble_eq_true rfl, Nat.le_of_ble_eq_true rfl⟩ (Nat.le_of_ble_eq_true rfl) dX0_change_30 ?_
        refine ga_istore (pc := 33) (L1 := [some (.ref (ad 0)), some (.int (iI e)), some (.int (iI k2)), some (.int (iI sh2)), some (.int (iI kd))]) dX0_change_33 rfl (by decide) rfl ?_
        refine ga_aload_n (pc := 35) dX0_change_35 rfl ?_
        refine cc_g_equations (pc := 36) hc dX0_change_36 ?_
        refine ga_iload_n (pc := 39) dX0_change_39 rfl ?_
        refine ga_iload_n (pc := 40) dX0_change_40 rfl ?_
        refine ga_iload_n (pc := 41) dX0_change_41 rfl ?_
        refine ga_iload_n (pc := 42) dX0_change_42 rfl ?_
        refine ga_goR (pc := 43) (ga_runS (mc := 1) (ms := 2) (m_X0_made _ _ _ k2 e sh2 (by omega)) (lw_S q719 q720 q102 q721) (show ga_nn' yX0_made 3 from (by unfold ga_nn'; decide +kernel)) ⟨rfl, rfl⟩ ⟨by show 5 + 1 ≤ _; exact Nat.le_of_ble_eq_true rfl, by show 8 + (3 + 11) + 64 * 5 ≤ _; exact Nat.le_of_ble_eq_true rfl⟩ ⟨Nat.le_of_ble_eq_true rfl, Nat.le_of_ble_eq_true rfl⟩ (Nat.le_of_ble_eq_true rfl) dX0_change_43 rfl) (fun rb h1 hp1 => ?_)
        obtain ⟨b, rfl, hab, rfl⟩ := hp1
        have hZb : Z b = none := (hc.n (e := (oE (9 + (Int.toNat k2)) [.int (iI e), .int (iI sh2)])) hab).2
        replace hc := (hc.n (e := (oE (9 + (Int.toNat k2)) [.int (iI e), .int (iI sh2)])) hab).1
        generalize ga_u h b (oE (9 + (Int.toNat k2)) [.int (iI e), .int (iI sh2)]) = h at hc ⊢
        refine ga_eq (pc := 46) (st1 := [.ref b, .int (iI e), .ref (ad 25)]) rfl rfl rfl ?_
        obtain ⟨qc, hqc1, hqc2⟩ := plC (show 0 ≤ k2 ∧ k2 ≤ 6 by omega)
        refine ga_aast (pc := 46) (N := 6) (C := "TwoSidedTables$Plain") (f := Q 0) (hc.1 25 (by decide)) (hc.2.2 b _ (ga_us _ _ _)).1 hqc1 hqc2 (by omega) (by decide) dX0_change_46 ?_
        replace hc := hc.u (Q1 := uN Q 0 (uZ (Q 0) e (some b))) 25 (by decide) (fun r hr hn => cE_q (by decide) r hr hn) (e := aR "TwoSidedTables$Plain" 6 (uZ (Q 0) e (some b))) rfl
        generalize ga_u h (ad 25) (aR "TwoSidedTables$Plain" 6 (uZ (Q 0) e (some b))) = h at hc ⊢
        refine ga_iload (pc := 47) dX0_change_47 rfl ?_
        exact kc_iret hc hE dX0_change_49 (by omega) (by omega) (⟨_, rfl, by (try dsimp only); exact Or.inl ⟨by omega, rfl, rfl, rfl, rfl, b, hZb, rfl, rfl⟩⟩)
      · skip
        refine ga_iconst (pc := 22) dX0_change_22 ?_
        exact kc_iret hc hE dX0_change_23 (by omega) (by omega) (⟨_, rfl, by (try dsimp only); exact Or.inr ⟨by omega, rfl, rfl, rfl, rfl, rfl, rfl⟩⟩)
def cFts (m n : Int) (kf : Int → Int) : Nat → Int
  | 0 => 0
  | k + 1 => zor (cFts m n kf k) (if zFit m n (kf k) then zshl 1 k else 0)
theorem cFts_s {m n : Int} {kf : Int → Int} {k : Int} (h : 0 ≤ k) : cFts m n kf (k + 1).toNat = zor (cFts m n kf k.toNat) (if zFit m n (kf k) then zshl 1 k else 0) := by
  rw [show (k + 1).toNat = k.toNat + 1 by omega]
  show zor (cFts m n kf k.toNat) (if zFit m n (kf (k.toNat : Nat)) then zshl 1 (k.toNat : Nat) else 0) = _
  rw [show ((k.toNat : Nat) : Int) = k by omega]
/-- the equations that there are: their kinds, their shifts -/
def qAll (q : Int → Option Nat) (Z : ga_H) (many : Int) (kf sf : Int → Int) : Prop := ∀ e : Int, 0 ≤ e → e < many → ∃ p : Nat, q e = some p ∧ Z p = some (oE (9 + (kf e).toNat) [.int (iI e), .int (iI (sf e))]) ∧ (0 ≤ kf e ∧ kf e ≤ 6) ∧ -2 ≤ sf e ∧ sf e ≤ 2
set_option maxHeartbeats 4000000 in
set_option maxRecDepth 100000 in
theorem m_X0_fittingSet (l : Launch) (D : ga_G) (ad : Nat → Nat) (J : Nat → Int) (B : Nat → Int → Int) (Q : Nat → Int → Option Nat) (Z : ga_H) (kf sf : Int → Int) (hm : (1 ≤ J 30 ∧ J 30 ≤ 3) ∧ 1 ≤ J 31 ∧ J 31 ≤ 3) (h8 : 0 ≤ J 8 ∧ J 8 ≤ 6) (hQa : qAll (Q 0) Z (J 8) kf sf) : cM l D yX0_fittingSet (ws_ yX0_fittingSet cX0_fittingSet 3 (some .int)) (gR 6) [.ref (ad 0)] ad J B Q Z (mI (fun r J1 B1 => r = (cFts (J 30) (J 31) kf (J 8).toNat) ∧ J1 = J ∧ B1 = B)) := by
  refine cc_met (own := RX0) 2 (by decide) rfl (Nat.le_of_ble_eq_true rfl) (L0 := [some (.ref (ad 0)), none, none]) rfl (fun X h hc hE => ?_)
  refine ga_iconst (pc := 0) dX0_fittingSet_0 ?_
  refine ga_istore_n (pc := 1) (L1 := [some (.ref (ad 0)), some (.int (iI 0)), none]) dX0_fittingSet_1 rfl (by decide) rfl ?_
  refine ga_iconst (pc := 2) dX0_fittingSet_2 ?_
  refine ga_istore_n (pc := 3) (L1 := [some (.ref (ad 0)), some (.int (iI 0)), some (.int (iI 0))]) dX0_fittingSet_3 rfl (by decide) rfl ?_
  have lp4 : ∀ (N4 : Nat) (set e : Int), ∀ h : ga_H, cOn h ad J B Q Z → (0 ≤ e ∧ e ≤ J 8) → (set = cFts (J 30) (J 31) kf (Int.toNat e)) → (J 8 - e).toNat < N4 → G X (gR 6) RX0 3 cX0_fittingSet h 0 0 4 [some (.ref (ad 0)), some (.int (iI set)), some (.int (iI e))] [] := by
    intro N4
    induction N4 with
    | zero => intro set e h hc he hset hN4; exact absurd hN4 (Nat.not_lt_zero _)
    | succ N4 ih4 =>
      intro set e h hc he hset hN4
      refine ga_iload_n (pc := 4) dX0_fittingSet_4 rfl ?_
      refine ga_aload_n (pc := 5) dX0_fittingSet_5 rfl ?_
      refine cc_g_many (pc := 6) (z := J 8) hc rfl dX0_fittingSet_6 ?_
      refine ga_icmp_ge (pc := 9) (tgt := 41) dX0_fittingSet_9 rfl (by omega) (by omega) (fun c9 => ?_) (fun c9 => ?_)
      · skip
        refine ga_iload_n (pc := 41) dX0_fittingSet_41 rfl ?_
        exact cc_iret hc hE dX0_fittingSet_42 (⟨_, rfl, by rw [hset, show e = J 8 by omega], rfl, rfl⟩)
      · skip
        obtain ⟨p, hqe, hp, hkd, hsh⟩ := hQa e he.1 (by omega)
        refine ga_iload_n (pc := 12) dX0_fittingSet_12 rfl ?_
        refine ga_aload_n (pc := 13) dX0_fittingSet_13 rfl ?_
        refine ga_aload_n (pc := 14) dX0_fittingSet_14 rfl ?_
        refine cc_g_equations (pc := 15) hc dX0_fittingSet_15 ?_
        refine ga_iload_n (pc := 18) dX0_fittingSet_18 rfl ?_
        refine ga_aald (pc := 19) (N := 6) (f := Q 0) (hc.1 25 (by decide)) (by omega) (by decide) dX0_fittingSet_19 ?_
        refine ga_eq (pc := 20) (st1 := [.ref p, .ref (ad 0), .int (iI set)]) rfl rfl (congrArg (fun x => va_rf x :: [.ref (ad 0), .int (iI set)]) (hqe)) ?_
        refine k_X0_fits (pc := 20) (p := p) (kd := (kf e)) (y := e) (sh := (sf e)) hc (by first | exact hm | omega) (by first | exact hp | omega) (by first | exact hkd | omega) (rfl) ⟨Nat.le_of_ble_eq_true rfl, Nat.le_of_ble_eq_true rfl⟩ ⟨Nat.le_of_ble_eq_true rfl, Nat.le_of_ble_eq_true rfl⟩ (Nat.le_of_ble_eq_true rfl) dX0_fittingSet_20 (fun h hc => ?_)
        refine ga_ifb_eq (pc := 23) (tgt := 32) dX0_fittingSet_23 rfl (fun c23 => ?_) (fun c23 => ?_)
        · skip
          refine ga_iconst (pc := 32) dX0_fittingSet_32 ?_
          refine ga_ior (pc := 33) dX0_fittingSet_33 ?_
          refine ga_istore_n (pc := 34) (L1 := [some (.ref (ad 0)), some (.int (iI (zor set 0))), some (.int (iI e))]) dX0_fittingSet_34 rfl (by decide) rfl ?_
          refine ga_iinc (pc := 35) (L1 := [some (.ref (ad 0)), some (.int (iI (zor set 0))), some (.int (iI (e + 1)))]) dX0_fittingSet_35 rfl rfl (by decide) rfl ?_
          refine ga_goto (pc := 38) (tgt := 4) dX0_fittingSet_38 rfl ?_
          exact ih4 (zor set 0) (e + 1) h hc (by omega) (by rw [cFts_s he.1, ← hset, if_neg (fun z => by have := (zFit_i hm hkd).mp z; omega)]) (by omega)
        · skip
          refine ga_iconst (pc := 26) dX0_fittingSet_26 ?_
          refine ga_iload_n (pc := 27) dX0_fittingSet_27 rfl ?_
          refine ga_ishl (pc := 28) dX0_fittingSet_28 ?_
          refine ga_goto (pc := 29) (tgt := 33) dX0_fittingSet_29 rfl ?_
          refine ga_ior (pc := 33) dX0_fittingSet_33 ?_
          refine ga_istore_n (pc := 34) (L1 := [some (.ref (ad 0)), some (.int (iI (zor set (zshl 1 e)))), some (.int (iI e))]) dX0_fittingSet_34 rfl (by decide) rfl ?_
          refine ga_iinc (pc := 35) (L1 := [some (.ref (ad 0)), some (.int (iI (zor set (zshl 1 e)))), some (.int (iI (e + 1)))]) dX0_fittingSet_35 rfl rfl (by decide) rfl ?_
          refine ga_goto (pc := 38) (tgt := 4) dX0_fittingSet_38 rfl ?_
          exact ih4 (zor set (zshl 1 e)) (e + 1) h hc (by omega) (by rw [cFts_s he.1, ← hset, if_pos ((zFit_i hm hkd).mpr (by omega))]) (by omega)
  exact lp4 _ 0 0 h hc (by omega) (rfl) (Nat.lt_succ_self _)
theorem k_X0_fittingSet {X : ga_X} {R : Room} {nL : Nat} {cc : ByteArray} {h : ga_H} {ad : Nat → Nat} {J : Nat → Int} {B : Nat → Int → Int} {Q : Nat → Int → Option Nat} {Z : ga_H} {k n pc : Nat} {L : List (Option Value)} {st : List Value} {kf sf : Int → Int} {z : Int} (hc : cOn h ad J B Q Z) (hm : (1 ≤ J 30 ∧ J 30 ≤ 3) ∧ 1 ≤ J 31 ∧ J 31 ≤ 3) (h8 : 0 ≤ J 8 ∧ J 8 ≤ 6) (hQa : qAll (Q 0) Z (J 8) kf sf) (hz : (cFts (J 30) (J 31) kf (J 8).toNat) = z) (hR : 6 + 1 ≤ R.frames ∧ 19 + 3 + 64 * 6 ≤ R.locals) (hk : k ≤ R.cells ∧ n ≤ R.slots) (hs : (st.map fun v => v.category).sum ≤ 8) (dd : decode cc pc = .ok (.invokevirtual 591, 3)) (kk : ∀ h : ga_H, cOn h ad J B Q Z → G X R RX0 nL cc h k n (pc + 3) L (.int (iI z) :: st)) : G X R RX0 nL cc h k n pc L (.ref (ad 0) :: st) :=
  cc_run hc (m_X0_fittingSet _ _ ad J B Q Z kf sf hm h8 hQa) (lw_V q1567 q1569 qs46 q102 q1570) rfl (show ga_nn' yX0_fittingSet 0 from (by unfold ga_nn'; decide +kernel)) hR hk hs dd rfl (fun v hX J1 B1 hcX hp => by
    obtain ⟨r, rfl, hp⟩ := hp
    obtain ⟨e1, rfl, rfl⟩ := hp
    subst hz
    rw [e1]
    exact kk hX hcX)
set_option maxHeartbeats 4000000 in
set_option maxRecDepth 100000 in
theorem m_X0_many (l : Launch) (D : ga_G) (ad : Nat → Nat) (J : Nat → Int) (B : Nat → Int → Int) (Q : Nat → Int → Option Nat) (Z : ga_H) (w : Int) (kf sf : Int → Int) (E : Nat → Int → Int) (hm : (1 ≤ J 30 ∧ J 30 ≤ 3) ∧ 1 ≤ J 31 ∧ J 31 ≤ 3) (h8 : 0 ≤ J 8 ∧ J 8 ≤ 6) (hQa : qAll (Q 0) Z (J 8) kf sf) (he0 : ∀ k : Int, -50 ≤ B 0 k ∧ B 0 k ≤ 50) (he1 : ∀ k : Int, -50 ≤ B 1 k ∧ B 1 k ≤ 50) (he2 : ∀ k : Int, -50 ≤ B 2 k ∧ B 2 k ≤ 50) (hRl : tRel (J 30) (J 31) B E) (hri : (-2147483648 ≤ w ∧ w < 2147483648)) : cM l D yX0_many (ws_ yX0_many cX0_many 2 (some .int)) (gR 7) [.ref (ad 0), .int (iI w)] ad J B Q Z (mI (fun r J1 B1 => r = (if w = 0 then J 30 else if w = 1 then J 31 else if w = 2 then J 8 else if w = 3 then J 15 else if w = 4 then J 36 else if w = 5 then cFts (J 30) (J 31) kf (J 8).toNat else if w = 6 then zSps E (J 30) (J 30 - 1).toNat else -1) ∧ J1 = J ∧ B1 = B)) := by
  refine cc_met (own := RX0) 0 (by decide) rfl (Nat.le_of_ble_eq_true rfl) (L0 := [some (.ref (ad 0)), some (.int (iI w))]) rfl (fun X h hc hE => ?_)
  refine ga_iload_n (pc := 0) dX0_many_0 rfl ?_
  by_cases c1_0 : w = 0
  · refine ga_tabIn (pc := 1) (tgt := 44) 0 dX0_many_1 (by omega) (by omega) (by decide) rfl rfl ?_
    refine ga_aload_n (pc := 44) dX0_many_44 rfl ?_
    refine cc_g_now (pc := 45) hc dX0_many_45 ?_
    refine ga_getN (pc := 48) (C := RX4) (T := TX4) (N := 5) (v := .int (iI (J 30))) in_X4 rfl (hc.1 4 (by decide)) 0 (by decide) (ga_nt q307 rfl) rfl rfl dX0_many_48 ?_
    exact cc_iret hc hE dX0_many_51 (⟨_, rfl, by rw [c1_0]; rfl, rfl, rfl⟩)
  by_cases c1_1 : w = 1
  · refine ga_tabIn (pc := 1) (tgt := 52) 1 dX0_many_1 (by omega) (by omega) (by decide) rfl rfl ?_
    refine ga_aload_n (pc := 52) dX0_many_52 rfl ?_
    refine cc_g_now (pc := 53) hc dX0_many_53 ?_
    refine ga_getN (pc := 56) (C := RX4) (T := TX4) (N := 5) (v := .int (iI (J 31))) in_X4 rfl (hc.1 4 (by decide)) 1 (by decide) (ga_nt q309 rfl) rfl rfl dX0_many_56 ?_
    exact cc_iret hc hE dX0_many_59 (⟨_, rfl, by rw [c1_1]; rfl, rfl, rfl⟩)
  by_cases c1_2 : w = 2
  · refine ga_tabIn (pc := 1) (tgt := 60) 2 dX0_many_1 (by omega) (by omega) (by decide) rfl rfl ?_
    refine ga_aload_n (pc := 60) dX0_many_60 rfl ?_
    refine cc_g_many (pc := 61) (z := J 8) hc rfl dX0_many_61 ?_
    exact cc_iret hc hE dX0_many_64 (⟨_, rfl, by rw [c1_2]; rfl, rfl, rfl⟩)
  by_cases c1_3 : w = 3
  · refine ga_tabIn (pc := 1) (tgt := 65) 3 dX0_many_1 (by omega) (by omega) (by decide) rfl rfl ?_
    refine ga_aload_n (pc := 65) dX0_many_65 rfl ?_
    refine cc_g_tapeMany (pc := 66) (z := J 15) hc rfl dX0_many_66 ?_
    exact cc_iret hc hE dX0_many_69 (⟨_, rfl, by rw [c1_3]; rfl, rfl, rfl⟩)
  by_cases c1_4 : w = 4
  · refine ga_tabIn (pc := 1) (tgt := 70) 4 dX0_many_1 (by omega) (by omega) (by decide) rfl rfl ?_
    refine ga_aload_n (pc := 70) dX0_many_70 rfl ?_
    refine cc_g_trace (pc := 71) hc dX0_many_71 ?_
    refine ga_getN (pc := 74) (C := RX6) (T := TX6) (N := 2) (v := .int (iI (J 36))) in_X6 rfl (hc.1 42 (by decide)) 1 (by decide) (ga_nt q348 rfl) rfl rfl dX0_many_74 ?_
    exact cc_iret hc hE dX0_many_77 (⟨_, rfl, by rw [c1_4]; rfl, rfl, rfl⟩)
  by_cases c1_5 : w = 5
  · refine ga_tabIn (pc := 1) (tgt := 78) 5 dX0_many_1 (by omega) (by omega) (by decide) rfl rfl ?_
    refine ga_aload_n (pc := 78) dX0_many_78 rfl ?_
    refine k_X0_fittingSet (pc := 79) (kf := kf) (sf := sf) (z := cFts (J 30) (J 31) kf (J 8).toNat) hc (by first | exact hm | omega) (by first | exact h8 | omega) (by first | exact hQa | omega) (rfl) ⟨Nat.le_of_ble_eq_true rfl, Nat.le_of_ble_eq_true rfl⟩ ⟨Nat.le_of_ble_eq_true rfl, Nat.le_of_ble_eq_true rfl⟩ (Nat.le_of_ble_eq_true rfl) dX0_many_79 (fun h hc => ?_)
    exact cc_iret hc hE dX0_many_82 (⟨_, rfl, by rw [c1_5]; rfl, rfl, rfl⟩)
  by_cases c1_6 : w = 6
  · refine ga_tabIn (pc := 1) (tgt := 83) 6 dX0_many_1 (by omega) (by omega) (by decide) rfl rfl ?_
    refine ga_aload_n (pc := 83) dX0_many_83 rfl ?_
    refine k_X0_splitSet (pc := 84) (E := E) (z := zSps E (J 30) (J 30 - 1).toNat) hc (by first | exact hm | omega) (by first | exact he0 | omega) (by first | exact he1 | omega) (by first | exact he2 | omega) (by first | exact hRl | omega) (rfl) ⟨Nat.le_of_ble_eq_true rfl, Nat.le_of_ble_eq_true rfl⟩ ⟨Nat.le_of_ble_eq_true rfl, Nat.le_of_ble_eq_true rfl⟩ (Nat.le_of_ble_eq_true rfl) dX0_many_84 (fun h hc => ?_)
    exact cc_iret hc hE dX0_many_87 (⟨_, rfl, by rw [c1_6]; rfl, rfl, rfl⟩)
  refine ga_tabOut (pc := 1) (tgt := 88) dX0_many_1 (by omega) (by omega) rfl ?_
  refine ga_iconst (pc := 88) dX0_many_88 ?_
  exact cc_iret hc hE dX0_many_89 (⟨_, rfl, by rw [if_neg (by omega), if_neg (by omega), if_neg (by omega), if_neg (by omega), if_neg (by omega), if_neg (by omega), if_neg (by omega)], rfl, rfl⟩)
