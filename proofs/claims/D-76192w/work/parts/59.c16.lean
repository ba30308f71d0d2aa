/-! THE CLASS: a part of what an unknown is; which unknowns are free; the witness's system -/
def cBn (pv gr : Int → Int) (d code col less part : Int) : Int := if code = 0 then part else if pv ((code.natAbs : Int) - 1) < 0 ∨ gr (10 * pv ((code.natAbs : Int) - 1) + col) = 0 then part else zPart (if (code < 0 ↔ less = 1) then gr (10 * pv ((code.natAbs : Int) - 1) + col) else -gr (10 * pv ((code.natAbs : Int) - 1) + col)) d part
set_option maxHeartbeats 4000000 in
set_option maxRecDepth 100000 in
theorem m_X0_bound (l : Launch) (D : ga_G) (ad : Nat → Nat) (J : Nat → Int) (B : Nat → Int → Int) (Q : Nat → Int → Option Nat) (Z : ga_H) (code col less part : Int) (h1 : (-10 ≤ code ∧ code ≤ 10) ∧ (0 ≤ col ∧ col ≤ 9) ∧ (less = 0 ∨ less = 1) ∧ (part = 0 ∨ part = 1)) (hpv : code ≠ 0 → -1 ≤ B 11 ((code.natAbs : Int) - 1) ∧ B 11 ((code.natAbs : Int) - 1) ≤ 9) (hen : code ≠ 0 → 0 ≤ B 11 ((code.natAbs : Int) - 1) → z40 (B 10 (10 * B 11 ((code.natAbs : Int) - 1) + col))) (hd : z40 (J 24) ∧ J 24 ≠ 0) : cM l D yX0_bound (ws_ yX0_bound cX0_bound 8 (some .long)) (gR 2) [.ref (ad 0), .int (iI code), .int (iI col), .int (iI less), .int (iI part)] ad J B Q Z (mL (fun r J1 B1 => r = (cBn (B 11) (B 10) (J 24) code col less part) ∧ J1 = J ∧ B1 = B)) := by
  refine cc_met (own := RX0) 3 (by decide) rfl (Nat.le_of_ble_eq_true rfl) (L0 := [some (.ref (ad 0)), some (.int (iI code)), some (.int (iI col)), some (.int (iI less)), some (.int (iI part)), none, none, none]) rfl (fun X h hc hE => ?_)
  refine ga_iload_n (pc := 0) dX0_bound_0 rfl ?_
  refine ga_if_ne (pc := 1) (tgt := 8) dX0_bound_1 rfl (by omega) (fun c1 => ?_) (fun c1 => ?_)
  · skip
    have hpv := hpv (by omega)
    have hen := hen (by omega)
    obtain ⟨kn, hkn⟩ : ∃ x : Int, x = (code.natAbs : Int) - 1 := ⟨_, rfl⟩
    rw [← hkn] at hpv hen
    obtain ⟨pv, hpn⟩ : ∃ x, x = B 11 kn := ⟨_, rfl⟩
    rw [← hpn] at hpv hen
    refine ga_iload_n (pc := 8) dX0_bound_8 rfl ?_
    refine k_J3_abs_X0 (pc := 9) (a := code) (by omega) (rfl) ⟨Nat.le_of_ble_eq_true rfl, Nat.le_of_ble_eq_true rfl⟩ ⟨Nat.le_of_ble_eq_true rfl, Nat.le_of_ble_eq_true rfl⟩ (Nat.le_of_ble_eq_true rfl) dX0_bound_9 ?_
    refine ga_iconst (pc := 12) dX0_bound_12 ?_
    refine ga_isub (pc := 13) dX0_bound_13 ?_
    refine ga_topi (pc := 14) (b := kn) (hkn.symm) ?_
    refine ga_istore (pc := 14) (L1 := [some (.ref (ad 0)), some (.int (iI code)), some (.int (iI col)), some (.int (iI less)), some (.int (iI part)), some (.int (iI kn)), none, none]) dX0_bound_14 rfl (by decide) rfl ?_
    refine ga_aload_n (pc := 16) dX0_bound_16 rfl ?_
    refine cc_g_pivotAt (pc := 17) hc dX0_bound_17 ?_
    refine ga_iload (pc := 20) dX0_bound_20 rfl ?_
    refine cc_ald11 (pc := 22) (x := pv) hc (by omega) (hpn.symm) dX0_bound_22 ?_
    refine ga_if_lt (pc := 23) (tgt := 43) dX0_bound_23 rfl (by omega) (fun c23 => ?_) (fun c23 => ?_)
    · skip
      refine ga_iload (pc := 43) dX0_bound_43 rfl ?_
      refine ga_i2l (pc := 45) dX0_bound_45 (by omega) ?_
      exact cc_lret hc hE dX0_bound_46 (⟨_, rfl, by unfold cBn; rw [if_neg (by omega), ← hkn, ← hpn, if_pos (by omega)], rfl, rfl⟩)
    · skip
      obtain ⟨en, hen0⟩ : ∃ x, x = B 10 (10 * pv + col) := ⟨_, rfl⟩
      have hen := hen (by omega)
      rw [← hen0] at hen
      refine ga_aload_n (pc := 26) dX0_bound_26 rfl ?_
      refine ga_aload_n (pc := 27) dX0_bound_27 rfl ?_
      refine cc_g_pivotAt (pc := 28) hc dX0_bound_28 ?_
      refine ga_iload (pc := 31) dX0_bound_31 rfl ?_
      refine cc_ald11 (pc := 33) (x := pv) hc (by omega) (hpn.symm) dX0_bound_33 ?_
      refine ga_iload_n (pc := 34) dX0_bound_34 rfl ?_
      refine k_X0_cell (pc := 35) (i := pv) (j := col) (z := en) hc (by first | exact h1 | omega) (hen0.symm) ⟨Nat.le_of_ble_eq_true rfl, Nat.le_of_ble_eq_true rfl⟩ ⟨Nat.le_of_ble_eq_true rfl, Nat.le_of_ble_eq_true rfl⟩ (Nat.le_of_ble_eq_true rfl) dX0_bound_35 (fun h hc => ?_)
      refine ga_lconst (pc := 38) 0 dX0_bound_38 rfl ?_
      refine ga_lcmp (pc := 39) dX0_bound_39 (by omega) (by omega) ?_
      refine ga_ifc_ne (pc := 40) (tgt := 47) dX0_bound_40 rfl (fun c40 => ?_) (fun c40 => ?_)
      · skip
        refine ga_aload_n (pc := 47) dX0_bound_47 rfl ?_
        refine ga_aload_n (pc := 48) dX0_bound_48 rfl ?_
        refine cc_g_pivotAt (pc := 49) hc dX0_bound_49 ?_
        refine ga_iload (pc := 52) dX0_bound_52 rfl ?_
        refine cc_ald11 (pc := 54) (x := pv) hc (by omega) (hpn.symm) dX0_bound_54 ?_
        refine ga_iload_n (pc := 55) dX0_bound_55 rfl ?_
        refine k_X0_cell (pc := 56) (i := pv) (j := col) (z := en) hc (by first | exact h1 | omega) (hen0.symm) ⟨Nat.le_of_ble_eq_true rfl, Nat.le_of_ble_eq_true rfl⟩ ⟨Nat.le_of_ble_eq_true rfl, Nat.le_of_ble_eq_true rfl⟩ (Nat.le_of_ble_eq_true rfl) dX0_bound_56 (fun h hc => ?_)
        refine ga_lstore (pc := 59) (L1 := [some (.ref (ad 0)), some (.int (iI code)), some (.int (iI col)), some (.int (iI less)), some (.int (iI part)), some (.int (iI kn)), some (.long (lI en)), none]) dX0_bound_59 rfl (by decide) rfl ?_
        refine ga_iload_n (pc := 61) dX0_bound_61 rfl ?_
        refine ga_if_ge (pc := 62) (tgt := 69) dX0_bound_62 rfl (by omega) (fun c62 => ?_) (fun c62 => ?_)
        · skip
          refine ga_iconst (pc := 69) dX0_bound_69 ?_
          refine ga_iload_n (pc := 70) dX0_bound_70 rfl ?_
          refine ga_icmp_ne (pc := 71) (tgt := 79) dX0_bound_71 rfl (by omega) (by omega) (fun c71 => ?_) (fun c71 => ?_)
          · skip
            refine ga_lload (pc := 79) dX0_bound_79 rfl ?_
            refine ga_lneg (pc := 81) dX0_bound_81 ?_
            refine ga_aload_n (pc := 82) dX0_bound_82 rfl ?_
            refine cc_g_pivot (pc := 83) (z := J 24) hc rfl dX0_bound_83 ?_
            refine ga_iload (pc := 86) dX0_bound_86 rfl ?_
            refine k_X0_partOf (pc := 88) (a := (-en)) (b := (J 24)) (part := part) (by omega) (by omega) (by omega) (rfl) ⟨Nat.le_of_ble_eq_true rfl, Nat.le_of_ble_eq_true rfl⟩ ⟨Nat.le_of_ble_eq_true rfl, Nat.le_of_ble_eq_true rfl⟩ (Nat.le_of_ble_eq_true rfl) dX0_bound_88 ?_
            exact cc_lret hc hE dX0_bound_91 (⟨_, rfl, by unfold cBn; rw [if_neg (by omega), ← hkn, ← hpn, ← hen0, if_neg (by omega)]; first | (rw [if_pos (by omega)]; done) | rw [if_neg (by omega)], rfl, rfl⟩)
          · skip
            refine ga_lload (pc := 74) dX0_bound_74 rfl ?_
            refine ga_goto (pc := 76) (tgt := 82) dX0_bound_76 rfl ?_
            refine ga_aload_n (pc := 82) dX0_bound_82 rfl ?_
            refine cc_g_pivot (pc := 83) (z := J 24) hc rfl dX0_bound_83 ?_
            refine ga_iload (pc := 86) dX0_bound_86 rfl ?_
            refine k_X0_partOf (pc := 88) (a := en) (b := (J 24)) (part := part) (by omega) (by omega) (by omega) (rfl) ⟨Nat.le_of_ble_eq_true rfl, Nat.le_of_ble_eq_true rfl⟩ ⟨Nat.le_of_ble_eq_true rfl, Nat.le_of_ble_eq_true rfl⟩ (Nat.le_of_ble_eq_true rfl) dX0_bound_88 ?_
            exact cc_lret hc hE dX0_bound_91 (⟨_, rfl, by unfold cBn; rw [if_neg (by omega), ← hkn, ← hpn, ← hen0, if_neg (by omega)]; first | (rw [if_pos (by omega)]; done) | rw [if_neg (by omega)], rfl, rfl⟩)
        · skip
          refine ga_iconst (pc := 65) dX0_bound_65 ?_
          refine ga_goto (pc := 66) (tgt := 70) dX0_bound_66 rfl ?_
          refine ga_iload_n (pc := 70) dX0_bound_70 rfl ?_
          refine ga_icmp_ne (pc := 71) (tgt := 79) dX0_bound_71 rfl (by omega) (by omega) (fun c71 => ?_) (fun c71 => ?_)
          · skip
            refine ga_lload (pc := 79) dX0_bound_79 rfl ?_
            refine ga_lneg (pc := 81) dX0_bound_81 ?_
            refine ga_aload_n (pc := 82) dX0_bound_82 rfl ?_
            refine cc_g_pivot (pc := 83) (z := J 24) hc rfl dX0_bound_83 ?_
            refine ga_iload (pc := 86) dX0_bound_86 rfl ?_
            refine k_X0_partOf (pc := 88) (a := (-en)) (b := (J 24)) (part := part) (by omega) (by omega) (by omega) (rfl) ⟨Nat.le_of_ble_eq_true rfl, Nat.le_of_ble_eq_true rfl⟩ ⟨Nat.le_of_ble_eq_true rfl, Nat.le_of_ble_eq_true rfl⟩ (Nat.le_of_ble_eq_true rfl) dX0_bound_88 ?_
            exact cc_lret hc hE dX0_bound_91 (⟨_, rfl, by unfold cBn; rw [if_neg (by omega), ← hkn, ← hpn, ← hen0, if_neg (by omega)]; first | (rw [if_pos (by omega)]; done) | rw [if_neg (by omega)], rfl, rfl⟩)
          · skip
            refine ga_lload (pc := 74) dX0_bound_74 rfl ?_
            refine ga_goto (pc := 76) (tgt := 82) dX0_bound_76 rfl ?_
            refine ga_aload_n (pc := 82) dX0_bound_82 rfl ?_
            refine cc_g_pivot (pc := 83) (z := J 24) hc rfl dX0_bound_83 ?_
            refine ga_iload (pc := 86) dX0_bound_86 rfl ?_
            refine k_X0_partOf (pc := 88) (a := en) (b := (J 24)) (part := part) (by omega) (by omega) (by omega) (rfl) ⟨Nat.le_of_ble_eq_true rfl, Nat.le_of_ble_eq_true rfl⟩ ⟨Nat.le_of_ble_eq_true rfl, Nat.le_of_ble_eq_true rfl⟩ (Nat.le_of_ble_eq_true rfl) dX0_bound_88 ?_
            exact cc_lret hc hE dX0_bound_91 (⟨_, rfl, by unfold cBn; rw [if_neg (by omega), ← hkn, ← hpn, ← hen0, if_neg (by omega)]; first | (rw [if_pos (by omega)]; done) | rw [if_neg (by omega)], rfl, rfl⟩)
      · skip
        refine ga_iload (pc := 43) dX0_bound_43 rfl ?_
        refine ga_i2l (pc := 45) dX0_bound_45 (by omega) ?_
        exact cc_lret hc hE dX0_bound_46 (⟨_, rfl, by unfold cBn; rw [if_neg (by omega), ← hkn, ← hpn, if_pos (by omega)], rfl, rfl⟩)
  · skip
    refine ga_iload (pc := 4) dX0_bound_4 rfl ?_
    refine ga_i2l (pc := 6) dX0_bound_6 (by omega) ?_
    exact cc_lret hc hE dX0_bound_7 (⟨_, rfl, by unfold cBn; rw [if_pos (by omega)], rfl, rfl⟩)
theorem k_X0_bound {X : ga_X} {R : Room} {nL : Nat} {cc : ByteArray} {h : ga_H} {ad : Nat → Nat} {J : Nat → Int} {B : Nat → Int → Int} {Q : Nat → Int → Option Nat} {Z : ga_H} {k n pc : Nat} {L : List (Option Value)} {st : List Value} {code col less part : Int} {z : Int} (hc : cOn h ad J B Q Z) (h1 : (-10 ≤ code ∧ code ≤ 10) ∧ (0 ≤ col ∧ col ≤ 9) ∧ (less = 0 ∨ less = 1) ∧ (part = 0 ∨ part = 1)) (hpv : code ≠ 0 → -1 ≤ B 11 ((code.natAbs : Int) - 1) ∧ B 11 ((code.natAbs : Int) - 1) ≤ 9) (hen : code ≠ 0 → 0 ≤ B 11 ((code.natAbs : Int) - 1) → z40 (B 10 (10 * B 11 ((code.natAbs : Int) - 1) + col))) (hd : z40 (J 24) ∧ J 24 ≠ 0) (hz : (cBn (B 11) (B 10) (J 24) code col less part) = z) (hR : 2 + 1 ≤ R.frames ∧ 19 + 8 + 64 * 2 ≤ R.locals) (hk : k ≤ R.cells ∧ n ≤ R.slots) (hs : (st.map fun v => v.category).sum ≤ 8) (dd : decode cc pc = .ok (.invokevirtual 427, 3)) (kk : ∀ h : ga_H, cOn h ad J B Q Z → G X R RX0 nL cc h k n (pc + 3) L (.long (lI z) :: st)) : G X R RX0 nL cc h k n pc L (.int (iI part) :: .int (iI less) :: .int (iI col) :: .int (iI code) :: .ref (ad 0) :: st) :=
  cc_run hc (m_X0_bound _ _ ad J B Q Z code col less part h1 hpv hen hd) (lw_V q1023 q1025 qs28 q102 q1026) rfl (show ga_nn' yX0_bound 4 from (by unfold ga_nn'; decide +kernel)) hR hk hs dd rfl (fun v hX J1 B1 hcX hp => by
    obtain ⟨r, rfl, hp⟩ := hp
    obtain ⟨e1, rfl, rfl⟩ := hp
    subst hz
    rw [e1]
    exact kk hX hcX)
