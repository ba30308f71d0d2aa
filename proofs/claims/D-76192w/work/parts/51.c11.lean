/-! THE CLASS: whether an equation may stand, fits -/
theorem zUn_r {kd m w : Int} (h : (1 ≤ m ∧ m ≤ 3) ∧ 1 ≤ w ∧ w ≤ 3) : 0 ≤ zUn kd m w ∧ zUn kd m w ≤ 9 := by
  unfold zUn
  obtain ⟨⟨h1, h2⟩, h3, h4⟩ := h
  rcases (by omega : m = 1 ∨ m = 2 ∨ m = 3) with rfl | rfl | rfl <;> (simp only [show ((1 : Int) * (1 + 1)).tdiv 2 = 1 by decide, show ((2 : Int) * (2 + 1)).tdiv 2 = 3 by decide, show ((3 : Int) * (3 + 1)).tdiv 2 = 6 by decide]; (repeat' split) <;> omega)
set_option maxHeartbeats 4000000 in
set_option maxRecDepth 100000 in
theorem m_X0_mayStand (l : Launch) (D : ga_G) (ad : Nat → Nat) (J : Nat → Int) (B : Nat → Int → Int) (Q : Nat → Int → Option Nat) (Z : ga_H) (p : Nat) (kd y sh : Int) (hm : (1 ≤ J 30 ∧ J 30 ≤ 3) ∧ 1 ≤ J 31 ∧ J 31 ≤ 3) (hp : Z p = some (oE (9 + kd.toNat) [.int (iI y), .int (iI sh)])) (hkd : 0 ≤ kd ∧ kd ≤ 6) : cM l D yX0_mayStand (ws_ yX0_mayStand cX0_mayStand 2 (some .boolean)) (gR 4) [.ref (ad 0), .ref p] ad J B Q Z (mI (fun r J1 B1 => r = (bI (J 30 = J 31 ∨ kd < 2)) ∧ J1 = J ∧ B1 = B)) := by
  refine cc_met (own := RX0) 0 (by decide) rfl (Nat.le_of_ble_eq_true rfl) (L0 := [some (.ref (ad 0)), some (.ref p)]) rfl (fun X h hc hE => ?_)
  refine ga_aload_n (pc := 0) dX0_mayStand_0 rfl ?_
  refine k_X0_isSquare (pc := 1)  hc (by first | exact hm | omega) (rfl) ⟨Nat.le_of_ble_eq_true rfl, Nat.le_of_ble_eq_true rfl⟩ ⟨Nat.le_of_ble_eq_true rfl, Nat.le_of_ble_eq_true rfl⟩ (Nat.le_of_ble_eq_true rfl) dX0_mayStand_1 (fun h hc => ?_)
  refine ga_ifb_ne (pc := 4) (tgt := 14) dX0_mayStand_4 rfl (fun c4 => ?_) (fun c4 => ?_)
  · skip
    refine ga_iconst (pc := 14) dX0_mayStand_14 ?_
    refine ga_goto (pc := 15) (tgt := 19) dX0_mayStand_15 rfl ?_
    exact cc_zret hc hE dX0_mayStand_19 (by first | exact Or.inl rfl | exact Or.inr rfl) (⟨_, rfl, (bI_t (by omega)).symm, rfl, rfl⟩)
  · skip
    refine ga_aload_n (pc := 7) dX0_mayStand_7 rfl ?_
    refine v_needsSquare_X0 (pc := 8) (p := p) (kd := kd) (y := y) (sh := sh)   (hc.2.2 p _ hp).1 hkd  (rfl) ⟨Nat.le_of_ble_eq_true rfl, Nat.le_of_ble_eq_true rfl⟩ ⟨Nat.le_of_ble_eq_true rfl, Nat.le_of_ble_eq_true rfl⟩ (Nat.le_of_ble_eq_true rfl) dX0_mayStand_8 ?_
    refine ga_ifb_ne (pc := 11) (tgt := 18) dX0_mayStand_11 rfl (fun c11 => ?_) (fun c11 => ?_)
    · skip
      refine ga_iconst (pc := 18) dX0_mayStand_18 ?_
      exact cc_zret hc hE dX0_mayStand_19 (by first | exact Or.inl rfl | exact Or.inr rfl) (⟨_, rfl, (bI_f (by omega)).symm, rfl, rfl⟩)
    · skip
      refine ga_iconst (pc := 14) dX0_mayStand_14 ?_
      refine ga_goto (pc := 15) (tgt := 19) dX0_mayStand_15 rfl ?_
      exact cc_zret hc hE dX0_mayStand_19 (by first | exact Or.inl rfl | exact Or.inr rfl) (⟨_, rfl, (bI_t (by omega)).symm, rfl, rfl⟩)
theorem k_X0_mayStand {X : ga_X} {R : Room} {nL : Nat} {cc : ByteArray} {h : ga_H} {ad : Nat → Nat} {J : Nat → Int} {B : Nat → Int → Int} {Q : Nat → Int → Option Nat} {Z : ga_H} {k n pc : Nat} {L : List (Option Value)} {st : List Value} {p : Nat} {kd y sh : Int} {z : Int} (hc : cOn h ad J B Q Z) (hm : (1 ≤ J 30 ∧ J 30 ≤ 3) ∧ 1 ≤ J 31 ∧ J 31 ≤ 3) (hp : Z p = some (oE (9 + kd.toNat) [.int (iI y), .int (iI sh)])) (hkd : 0 ≤ kd ∧ kd ≤ 6) (hz : (bI (J 30 = J 31 ∨ kd < 2)) = z) (hR : 4 + 1 ≤ R.frames ∧ 19 + 2 + 64 * 4 ≤ R.locals) (hk : k ≤ R.cells ∧ n ≤ R.slots) (hs : (st.map fun v => v.category).sum ≤ 8) (dd : decode cc pc = .ok (.invokevirtual 147, 3)) (kk : ∀ h : ga_H, cOn h ad J B Q Z → G X R RX0 nL cc h k n (pc + 3) L (.int (iI z) :: st)) : G X R RX0 nL cc h k n pc L (.ref p :: .ref (ad 0) :: st) :=
  cc_run hc (m_X0_mayStand _ _ ad J B Q Z p kd y sh hm hp hkd) (lw_V q796 q798 qs13 q102 q799) rfl (show ga_nn' yX0_mayStand 1 from (by unfold ga_nn'; decide +kernel)) hR hk hs dd rfl (fun v hX J1 B1 hcX hp => by
    obtain ⟨r, rfl, hp⟩ := hp
    obtain ⟨e1, rfl, rfl⟩ := hp
    subst hz
    rw [e1]
    exact kk hX hcX)
set_option maxHeartbeats 4000000 in
set_option maxRecDepth 100000 in
theorem m_X0_fits (l : Launch) (D : ga_G) (ad : Nat → Nat) (J : Nat → Int) (B : Nat → Int → Int) (Q : Nat → Int → Option Nat) (Z : ga_H) (p : Nat) (kd y sh : Int) (hm : (1 ≤ J 30 ∧ J 30 ≤ 3) ∧ 1 ≤ J 31 ∧ J 31 ≤ 3) (hp : Z p = some (oE (9 + kd.toNat) [.int (iI y), .int (iI sh)])) (hkd : 0 ≤ kd ∧ kd ≤ 6) : cM l D yX0_fits (ws_ yX0_fits cX0_fits 2 (some .boolean)) (gR 5) [.ref (ad 0), .ref p] ad J B Q Z (mI (fun r J1 B1 => r = (bI ((J 30 = J 31 ∨ kd < 2) ∧ zUn kd (J 30) (J 31) ≤ 6)) ∧ J1 = J ∧ B1 = B)) := by
  refine cc_met (own := RX0) 0 (by decide) rfl (Nat.le_of_ble_eq_true rfl) (L0 := [some (.ref (ad 0)), some (.ref p)]) rfl (fun X h hc hE => ?_)
  have hur := zUn_r (kd := kd) hm
  refine ga_aload_n (pc := 0) dX0_fits_0 rfl ?_
  refine ga_aload_n (pc := 1) dX0_fits_1 rfl ?_
  refine k_X0_mayStand (pc := 2) (p := p) (kd := kd) (y := y) (sh := sh) hc (by first | exact hm | omega) (by first | exact hp | omega) (by first | exact hkd | omega) (rfl) ⟨Nat.le_of_ble_eq_true rfl, Nat.le_of_ble_eq_true rfl⟩ ⟨Nat.le_of_ble_eq_true rfl, Nat.le_of_ble_eq_true rfl⟩ (Nat.le_of_ble_eq_true rfl) dX0_fits_2 (fun h hc => ?_)
  refine ga_ifb_eq (pc := 5) (tgt := 35) dX0_fits_5 rfl (fun c5 => ?_) (fun c5 => ?_)
  · skip
    refine ga_iconst (pc := 35) dX0_fits_35 ?_
    exact cc_zret hc hE dX0_fits_36 (by first | exact Or.inl rfl | exact Or.inr rfl) (⟨_, rfl, (bI_f (by omega)).symm, rfl, rfl⟩)
  · skip
    refine ga_aload_n (pc := 8) dX0_fits_8 rfl ?_
    refine ga_aload_n (pc := 9) dX0_fits_9 rfl ?_
    refine cc_g_now (pc := 10) hc dX0_fits_10 ?_
    refine ga_getN (pc := 13) (C := RX4) (T := TX4) (N := 5) (v := .int (iI (J 30))) in_X4 rfl (hc.1 4 (by decide)) 0 (by decide) (ga_nt q307 rfl) rfl rfl dX0_fits_13 ?_
    refine ga_aload_n (pc := 16) dX0_fits_16 rfl ?_
    refine cc_g_now (pc := 17) hc dX0_fits_17 ?_
    refine ga_getN (pc := 20) (C := RX4) (T := TX4) (N := 5) (v := .int (iI (J 31))) in_X4 rfl (hc.1 4 (by decide)) 1 (by decide) (ga_nt q309 rfl) rfl rfl dX0_fits_20 ?_
    refine v_unknowns_X0 (pc := 23) (p := p) (kd := kd) (y := y) (sh := sh) (m := (J 30)) (w := (J 31))  (hc.2.2 p _ hp).1 hkd (by omega) (rfl) ⟨Nat.le_of_ble_eq_true rfl, Nat.le_of_ble_eq_true rfl⟩ ⟨Nat.le_of_ble_eq_true rfl, Nat.le_of_ble_eq_true rfl⟩ (Nat.le_of_ble_eq_true rfl) dX0_fits_23 ?_
    refine ga_bipush (pc := 26) dX0_fits_26 rfl ?_
    refine ga_icmp_gt (pc := 28) (tgt := 35) dX0_fits_28 rfl (by omega) (by omega) (fun c28 => ?_) (fun c28 => ?_)
    · skip
      refine ga_iconst (pc := 35) dX0_fits_35 ?_
      exact cc_zret hc hE dX0_fits_36 (by first | exact Or.inl rfl | exact Or.inr rfl) (⟨_, rfl, (bI_f (by omega)).symm, rfl, rfl⟩)
    · skip
      refine ga_iconst (pc := 31) dX0_fits_31 ?_
      refine ga_goto (pc := 32) (tgt := 36) dX0_fits_32 rfl ?_
      exact cc_zret hc hE dX0_fits_36 (by first | exact Or.inl rfl | exact Or.inr rfl) (⟨_, rfl, (bI_t (by omega)).symm, rfl, rfl⟩)
theorem k_X0_fits {X : ga_X} {R : Room} {nL : Nat} {cc : ByteArray} {h : ga_H} {ad : Nat → Nat} {J : Nat → Int} {B : Nat → Int → Int} {Q : Nat → Int → Option Nat} {Z : ga_H} {k n pc : Nat} {L : List (Option Value)} {st : List Value} {p : Nat} {kd y sh : Int} {z : Int} (hc : cOn h ad J B Q Z) (hm : (1 ≤ J 30 ∧ J 30 ≤ 3) ∧ 1 ≤ J 31 ∧ J 31 ≤ 3) (hp : Z p = some (oE (9 + kd.toNat) [.int (iI y), .int (iI sh)])) (hkd : 0 ≤ kd ∧ kd ≤ 6) (hz : (bI ((J 30 = J 31 ∨ kd < 2) ∧ zUn kd (J 30) (J 31) ≤ 6)) = z) (hR : 5 + 1 ≤ R.frames ∧ 19 + 2 + 64 * 5 ≤ R.locals) (hk : k ≤ R.cells ∧ n ≤ R.slots) (hs : (st.map fun v => v.category).sum ≤ 8) (dd : decode cc pc = .ok (.invokevirtual 407, 3)) (kk : ∀ h : ga_H, cOn h ad J B Q Z → G X R RX0 nL cc h k n (pc + 3) L (.int (iI z) :: st)) : G X R RX0 nL cc h k n pc L (.ref p :: .ref (ad 0) :: st) :=
  cc_run hc (m_X0_fits _ _ ad J B Q Z p kd y sh hm hp hkd) (lw_V q817 q819 qs14 q102 q820) rfl (show ga_nn' yX0_fits 1 from (by unfold ga_nn'; decide +kernel)) hR hk hs dd rfl (fun v hX J1 B1 hcX hp => by
    obtain ⟨r, rfl, hp⟩ := hp
    obtain ⟨e1, rfl, rfl⟩ := hp
    subst hz
    rw [e1]
    exact kk hX hcX)
