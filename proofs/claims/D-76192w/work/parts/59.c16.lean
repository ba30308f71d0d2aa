/-! THE CLASS: a part of what an unknown is; which unknowns are free; the witness's system -/
def cBn (pv gr : Int → Int) (d code col less part : Int) : Int := if code = 0 then part else if pv ((code.natAbs : Int) - 1) < 0 ∨ gr (10 * pv ((code.natAbs : Int) - 1) + col) = 0 then part else zPart (if (code < 0 ↔ less = 1) then gr (10 * pv ((code.natAbs : Int) - 1) + col) else -gr (10 * pv ((code.natAbs : Int) - 1) + col)) d part
set_option maxHeartbeats 4000000 in
set_option maxRecDepth 100000 in
theorem m_X0_bound (l : Launch) (D : ga_G) (ad : Nat → Nat) (J : Nat → Int) (B : Nat → Int → Int) (Q : Nat → Int → Option Nat) (Z : ga_H) (code col less part : Int) (h1 : (-10 ≤ code ∧ code ≤ 10) ∧ (0 ≤ col ∧ col ≤ 9) ∧ (less = 0 ∨ less = 1) ∧ (part = 0 ∨ part = 1)) (hpv : code ≠ 0 → -1 ≤ B 11 ((code.natAbs : Int) - 1) ∧ B 11 ((code.natAbs : Int) - 1) ≤ 9) (hen : code ≠ 0 → 0 ≤ B 11 ((code.natAbs : Int) - 1) → z40 (B 10 (10 * B 11 ((code.natAbs : Int) - 1) + col))) (hd : z40 (J 24) ∧ J 24 ≠ 0) : cM l D yX0_bound (ws_ yX0_bound cX0_bound 8 (some .long)) (gR 2) [.ref (ad 0), .int (iI code), .int (iI col), .int (iI less), .int (iI part)] ad J B Q Z (mL (fun r J1 B1 => r = (cBn (B 11) (B 10) (J 24) code col less part) ∧ J1 = J ∧ B1 = B)) := by
  refine cc_met (own := RX0) 3 (by decide) rfl (Nat.le_of_ble_eq_true rfl) (L0 := [some (.ref (ad 0)), some (.int (iI code)), some (.int (iI col)), some (.int (iI less)), some (.int (iI part)), none, none, none]) rfl (fun X h hc hE => ?_)
  refine ga_iload_n (pc := 0) dX0_bound_0 rfl ?_
  refine ga_if_ne (pc := 1) (tgt := 8) dX0_bound_1 rfl (by omega) (fun c1 => ?_) (fun c1 => ?_)
  · skip
    have hpv := hpv (by omega)
    have hen := hen (by omega)
    obtain ⟨kn, hkn⟩ : ∃ x : Int, x = (code.natAbs : Int) - 1 := ⟨_, rfl⟩
    rw [← hkn] at hpv hen
    obtain ⟨pv, hpn⟩ : ∃ x, x = B 11 kn := ⟨_, rfl⟩
    rw [← hpn] at hpv hen
    refine ga_iload_n (pc := 8) dX0_bound_8 rfl ?_
    refine k_J3_abs_X0 (pc := 9) (a := code) (by omega) (rfl) ⟨Nat.le_of_ble_eq_true rfl, Nat.le_of_ble_eq_true rfl⟩ ⟨Nat.le_of_ble_eq_true rfl, Nat.le_of_ble_eq_true rfl⟩ (Nat.le_of_ble_eq_true rfl) dX0_bound_9 ?_
    refine ga_iconst (pc := 12) dX0_bound_12 ?_
    refine ga_isub (pc := 13) dX0_bound_13 ?_
    refine ga_topi (pc := 14) (b := kn) (hkn.symm) ?_
    refine ga_istore (pc := 14) (L1 := [some (.ref (ad 0)), some (.int (iI code)), some (.int (iI col)), some (.int (iI less)), some (.int (iI part)), some (.int (iI kn)), none, none]) dX0_bound_14 rfl (by decide) rfl ?_
    refine ga_aload_n (pc := 16) dX0_bound_16 rfl ?_
    refine cc_g_pivotAt (pc := 17) hc dX0_bound_17 ?_
    refine ga_iload (pc := 20) dX0_bound_20 rfl ?_
    refine cc_ald11 (pc := 22) (x := pv) hc (by omega) (hpn.symm) dX0_bound_22 ?_
    refine ga_if_lt (pc := 23) (tgt := 43) dX0_bound_23 rfl (by omega) (fun c23 => ?_) (fun c23 => ?_)
    · skip
      refine ga_iload (pc := 43) dX0_bound_43 rfl ?_
      refine ga_i2l (pc := 45) dX0_bound_45 (by omega) ?_
      exact cc_lret hc hE dX0_bound_46 (⟨_, rfl, by unfold cBn; rw [if_neg (by omega), ← hkn, ← hpn, if_pos (by omega)], rfl, rfl⟩)
    · skip
      obtain ⟨en, hen0⟩ : ∃ x, x = B 10 (10 * pv + col) := ⟨_, rfl⟩
      have hen := hen (by omega)
      rw [← hen0] at hen
      refine ga_aload_n (pc := 26) dX0_bound_26 rfl ?_
      refine ga_aload_n (pc := 27) dX0_bound_27 rfl ?_
      refine cc_g_pivotAt (pc := 28) hc dX0_bound_28 ?_
      refine ga_iload (pc := 31) dX0_bound_31 rfl ?_
      refine cc_ald11 (pc := 33) (x := pv) hc (by omega) (hpn.symm) dX0_bound_33 ?_
      refine ga_iload_n (pc := 34) dX0_bound_34 rfl ?_
      refine k_X0_cell (pc := 35) (i := pv) (j := col) (z := en) hc (by first | exact h1 | omega) (hen0.symm) ⟨Nat.le_of_ble_eq_true rfl, Nat.le_of_ble_eq_true rfl⟩ ⟨Nat.le_of_ble_eq_true rfl, Nat.le_of_ble_eq_true rfl⟩ (Nat.le_of_ble_eq_true rfl) dX0_bound_35 (fun h hc => ?_)
      refine ga_lconst (pc := 38) 0 dX0_bound_38 rfl ?_
      refine ga_lcmp (pc := 39) dX0_bound_39 (by omega) (by omega) ?_
      refine ga_ifc_ne (pc := 40) (tgt := 47) dX0_bound_40 rfl (fun c40 => ?_) (fun c40 => ?_)
      · skip
        refine ga_aload_n (pc := 47) dX0_bound_47 rfl ?_
        refine ga_aload_n (pc := 48) dX0_bound_48 rfl ?_
        refine cc_g_pivotAt (pc := 49) hc dX0_bound_49 ?_
        refine ga_iload (pc := 52) dX0_bound_52 rfl ?_
        refine cc_ald11 (pc := 54) (x := pv) hc (by omega) (hpn.symm) dX0_bound_54 ?_
        refine ga_iload_n (pc := 55) dX0_bound_55 rfl ?_
        refine k_X0_cell (pc := 56) (i := pv) (j := col) (z := en) hc (by first | exact h1 | omega) (hen0.symm) ⟨Nat.le_of_ble_eq_true rfl, Nat.le_of_ble_eq_true rfl⟩ ⟨Nat.le_of_ble_eq_true rfl, Nat.le_of_ble_eq_true rfl⟩ (Nat.le_of_ble_eq_true rfl) dX0_bound_56 (fun h hc => ?_)
        refine ga_lstore (pc := 59) (L1 := [some (.ref (ad 0)), some (.int (iI code)), some (.int (iI col)), some (.int (iI less)), some (.int (iI part)), some (.int (iI kn)), some (.long (lI en)), none]) dX0_bound_59 rfl (by decide) rfl ?_
        refine ga_iload_n (pc := 61) dX0_bound_61 rfl ?_
        refine ga_if_ge (pc := 62) (tgt := 69) dX0_bound_62 rfl (by omega) (fun c62 => ?_) (fun c62 => ?_)
        · skip
          refine ga_iconst (pc := 69) dX0_bound_69 ?_
          refine ga_iload_n (pc := 70) dX0_bound_70 rfl ?_
          refine ga_icmp_ne (pc := 71) (tgt := 79) dX0_bound_71 rfl (by omega) (by omega) (fun c71 => ?_) (fun c71 => ?_)
          · skip
            refine ga_lload (pc := 79) dX0_bound_79 rfl ?_
            refine ga_lneg (pc := 81) dX0_bound_81 ?_
            refine ga_aload_n (pc := 82) dX0_bound_82 rfl ?_
            refine cc_g_pivot (pc := 83) (z := J 24) hc rfl dX0_bound_83 ?_
            refine ga_iload (pc := 86) dX0_bound_86 rfl ?_
            refine k_X0_partOf (pc := 88) (a := (-en)) (b := (J 24)) (part := part) (by omega) (by omega) (by omega) (rfl) ⟨Nat.le_of_ble_eq_true rfl, Nat.le_of_ble_eq_true rfl⟩ ⟨Nat.le_of_ble_eq_true rfl, Nat.le_of_ble_eq_true rfl⟩ (Nat.le_of_ble_eq_true rfl) dX0_bound_88 ?_
            exact cc_lret hc hE dX0_bound_91 (⟨_, rfl, by unfold cBn; rw [if_neg (by omega), ← hkn, ← hpn, ← hen0, if_neg (by omega)]; first | (rw [if_pos (by omega)]; done) | rw [if_neg (by omega)], rfl, rfl⟩)
          · skip
            refine ga_lload (pc := 74) dX0_bound_74 rfl ?_
            refine ga_goto (pc := 76) (tgt := 82) dX0_bound_76 rfl ?_
            refine ga_aload_n (pc := 82) dX0_bound_82 rfl ?_
            refine cc_g_pivot (pc := 83) (z := J 24) hc rfl dX0_bound_83 ?_
            refine ga_iload (pc := 86) dX0_bound_86 rfl ?_
            refine k_X0_partOf (pc := 88) (a := en) (b := (J 24)) (part := part) (by omega) (by omega) (by omega) (rfl) ⟨Nat.le_of_ble_eq_true rfl, Nat.le_of_ble_eq_true rfl⟩ ⟨Nat.le_of_ble_eq_true rfl, Nat.le_of_ble_eq_true rfl⟩ (Nat.le_of_ble_eq_true rfl) dX0_bound_88 ?_
            exact cc_lret hc hE dX0_bound_91 (⟨_, rfl, by unfold cBn; rw [if_neg (by omega), ← hkn, ← hpn, ← hen0, if_neg (by omega)]; first | (rw [if_pos (by omega)]; done) | rw [if_neg (by omega)], rfl, rfl⟩)
        · skip
          refine ga_iconst (pc := 65) dX0_bound_65 ?_
          refine ga_goto (pc := 66) (tgt := 70) dX0_bound_66 rfl ?_
          refine ga_iload_n (pc := 70) dX0_bound_70 rfl ?_
          refine ga_icmp_ne (pc := 71) (tgt := 79) dX0_bound_71 rfl (by omega) (by omega) (fun c71 => ?_) (fun c71 => ?_)
          · skip
            refine ga_lload (pc := 79) dX0_bound_79 rfl ?_
            refine ga_lneg (pc := 81) dX0_bound_81 ?_
            refine ga_aload_n (pc := 82) dX0_bound_82 rfl ?_
            refine cc_g_pivot (pc := 83) (z := J 24) hc rfl dX0_bound_83 ?_
            refine ga_iload (pc := 86) dX0_bound_86 rfl ?_
            refine k_X0_partOf (pc := 88) (a := (-en)) (b := (J 24)) (part := part) (by omega) (by omega) (by omega) (rfl) ⟨Nat.le_of_ble_eq_true rfl, Nat.le_of_ble_eq_true rfl⟩ ⟨Nat.le_of_ble_eq_true rfl, Nat.le_of_ble_eq_true rfl⟩ (Nat.le_of_ble_eq_true rfl) dX0_bound_88 ?_
            exact cc_lret hc hE dX0_bound_91 (⟨_, rfl, by unfold cBn; rw [if_neg (by omega), ← hkn, ← hpn, ← hen0, if_neg (by omega)]; first | (rw [if_pos (by omega)]; done) | rw [if_neg (by omega)], rfl, rfl⟩)
          · skip
            refine ga_lload (pc := 74) dX0_bound_74 rfl ?_
            refine ga_goto (pc := 76) (tgt := 82) dX0_bound_76 rfl ?_
            refine ga_aload_n (pc := 82) dX0_bound_82 rfl ?_
            refine cc_g_pivot (pc := 83) (z := J 24) hc rfl dX0_bound_83 ?_
            refine ga_iload (pc := 86) dX0_bound_86 rfl ?_
            refine k_X0_partOf (pc := 88) (a := en) (b := (J 24)) (part := part) (by omega) (by omega) (by omega) (rfl) ⟨Nat.le_of_ble_eq_true rfl, Nat.le_of_ble_eq_true rfl⟩ ⟨Nat.le_of_ble_eq_true rfl, Nat.le_of_ble_eq_true rfl⟩ (Nat.le_of_ble_eq_true rfl) dX0_bound_88 ?_
            exact cc_lret hc hE dX0_bound_91 (⟨_, rfl, by unfold cBn; rw [if_neg (by omega), ← hkn, ← hpn, ← hen0, if_neg (by omega)]; first | (rw [if_pos (by omega)]; done) | rw [if_neg (by omega)], rfl, rfl⟩)
      · skip
        refine ga_iload (pc := 43) dX0_bound_43 rfl ?_
        refine ga_i2l (pc := 45) dX0_bound_45 (by omega) ?_
        exact cc_lret hc hE dX0_bound_46 (⟨_, rfl, by unfold cBn; rw [if_neg (by omega), ← hkn, ← hpn, if_pos (by omega)], rfl, rfl⟩)
  · skip
    refine ga_iload (pc := 4) dX0_bound_4 rfl ?_
    refine ga_i2l (pc := 6) dX0_bound_6 (by omega) ?_
    exact cc_lret hc hE dX0_bound_7 (⟨_, rfl, by unfold cBn; rw [if_pos (by omega)], rfl, rfl⟩)
theorem k_X0_bound {X : ga_X} {R : Room} {nL : Nat} {cc : ByteArray} {h : ga_H} {ad : Nat → Nat} {J : Nat → Int} {B : Nat → Int → Int} {Q : Nat → Int → Option Nat} {Z : ga_H} {k n pc : Nat} {L : List (Option Value)} {st : List Value} {code col less part : Int} {z : Int} (hc : cOn h ad J B Q Z) (h1 : (-10 ≤ code ∧ code ≤ 10) ∧ (0 ≤ col ∧ col ≤ 9) ∧ (less = 0 ∨ less = 1) ∧ (part = 0 ∨ part = 1)) (hpv : code ≠ 0 → -1 ≤ B 11 ((code.natAbs : Int) - 1) ∧ B 11 ((code.natAbs : Int) - 1) ≤ 9) (hen : code ≠ 0 → 0 ≤ B 11 ((code.natAbs : Int) - 1) → z40 (B 10 (10 * B 11 ((code.natAbs : Int) - 1) + col))) (hd : z40 (J 24) ∧ J 24 ≠ 0) (hz : (cBn (B 11) (B 10) (J 24) code col less part) = z) (hR : 2 + 1 ≤ R.frames ∧ 19 + 8 + 64 * 2 ≤ R.locals) (hk : k ≤ R.cells ∧ n ≤ R.slots) (hs : (st.map fun v => v.category).sum ≤ 8) (dd : decode cc pc = .ok (.invokevirtual 427, 3)) (kk : ∀ h : ga_H, cOn h ad J B Q Z → G X R RX0 nL cc h k n (pc + 3) L (.long (lI z) :: st)) : G X R RX0 nL cc h k n pc L (.int (iI part) :: .int (iI less) :: .int (iI col) :: .int (iI code) :: .ref (ad 0) :: st) :=
  cc_run hc (m_X0_bound _ _ ad J B Q Z code col less part h1 hpv hen hd) (lw_V q1023 q1025 qs28 q102 q1026) rfl (show ga_nn' yX0_bound 4 from (by unfold ga_nn'; decide +kernel)) hR hk hs dd rfl (fun v hX J1 B1 hcX hp => by
    obtain ⟨r, rfl, hp⟩ := hp
    obtain ⟨e1, rfl, rfl⟩ := hp
    subst hz
    rw [e1]
    exact kk hX hcX)
set_option maxHeartbeats 4000000 in
set_option maxRecDepth 100000 in
theorem m_X0_freeSet (l : Launch) (D : ga_G) (ad : Nat → Nat) (J : Nat → Int) (B : Nat → Int → Int) (Q : Nat → Int → Option Nat) (Z : ga_H) (p q : Nat) (kx kd y sh fr : Int) (T : Int → Int → Int) (hm : (1 ≤ J 30 ∧ J 30 ≤ 3) ∧ 1 ≤ J 31 ∧ J 31 ≤ 3) (hp : pOn Z p kx kd y sh q fr) (hfr : 0 ≤ fr ∧ fr ≤ 3) (he0 : ∀ k : Int, -50 ≤ B 0 k ∧ B 0 k ≤ 50) (he1 : ∀ k : Int, -50 ≤ B 1 k ∧ B 1 k ≤ 50) (he2 : ∀ k : Int, -50 ≤ B 2 k ∧ B 2 k ≤ 50) (hsh : -2 ≤ sh ∧ sh ≤ 2) (hkl : kd < 2 ∨ J 30 = J 31) (hun : 0 ≤ (xUn kx fr (J 30) (J 31)) ∧ (xUn kx fr (J 30) (J 31)) ≤ 9) (hT : ∀ p q : Int, 0 ≤ p → p < J 30 * J 31 → 0 ≤ q → q ≤ (xUn kx fr (J 30) (J 31)) → cTs kx kd fr sh (J 30) (J 31) (xUn kx fr (J 30) (J 31)) 0 (B 0) (B 1) (B 2) p q = T p q) (hsf : eSafe (J 30 * J 31) (xUn kx fr (J 30) (J 31)) T) : cM l D yX0_freeSet (ws_ yX0_freeSet cX0_freeSet 4 (some .int)) (gR 8) [.ref (ad 0), .ref p] ad J B Q Z (mI (fun r J1 B1 => cSt (J 30 * J 31) (xUn kx fr (J 30) (J 31)) (eRed (J 30 * J 31) T (xUn kx fr (J 30) (J 31)).toNat) J B J1 B1 ∧ r = zFr (eRed (J 30 * J 31) T (xUn kx fr (J 30) (J 31)).toNat).2.2.2.2 (xUn kx fr (J 30) (J 31)).toNat)) := by
  refine cc_met (own := RX0) 2 (by decide) rfl (Nat.le_of_ble_eq_true rfl) (L0 := [some (.ref (ad 0)), some (.ref p), none, none]) rfl (fun X h hc hE => ?_)
  refine ga_aload_n (pc := 0) dX0_freeSet_0 rfl ?_
  refine ga_aload_n (pc := 1) dX0_freeSet_1 rfl ?_
  refine k_X0_laysOut (pc := 2) (p := p) (q := q) (kx := kx) (kd := kd) (y := y) (sh := sh) (fr := fr) hc (by first | exact hm | omega) (by first | exact hp | omega) (by first | exact hfr | omega) (by first | exact he0 | omega) (by first | exact he1 | omega) (by first | exact he2 | omega) (by first | exact hsh | omega) (by first | exact hkl | omega) (by first | exact hun | omega) ⟨Nat.le_of_ble_eq_true rfl, Nat.le_of_ble_eq_true rfl⟩ ⟨Nat.le_of_ble_eq_true rfl, Nat.le_of_ble_eq_true rfl⟩ (Nat.le_of_ble_eq_true rfl) dX0_freeSet_2 (fun J2 B2 hp2 h hc => ?_)
  obtain ⟨eJ2, g2, eB2, hg2⟩ := hp2
  subst eJ2
  subst eB2
  have hmn := mn_r hm
  have hon : eOn (J 30 * J 31) (xUn kx fr (J 30) (J 31)) 10 g2 T := cGr_on ⟨by rw [Int.mul_comm]; exact Int.le_refl _, by omega, hun.2⟩ hg2 hT
  replace hc : cOn h ad (uN (uN J 20 (J 30 * J 31)) 21 (xUn kx fr (J 30) (J 31))) (uN B 10 g2) Q Z := hc
  refine ga_aload_n (pc := 5) dX0_freeSet_5 rfl ?_
  refine k_X0_reduce (pc := 6) (T := T) hc (show (0 ≤ (J 30 * J 31) ∧ (J 30 * J 31) ≤ 10) ∧ 0 ≤ (xUn kx fr (J 30) (J 31)) ∧ (xUn kx fr (J 30) (J 31)) ≤ 9 from by omega) (show eOn ((J 30 * J 31)) ((xUn kx fr (J 30) (J 31))) 10 (g2) T from hon) (show eSafe ((J 30 * J 31)) ((xUn kx fr (J 30) (J 31))) T from hsf) ⟨Nat.le_of_ble_eq_true rfl, Nat.le_of_ble_eq_true rfl⟩ ⟨Nat.le_of_ble_eq_true rfl, Nat.le_of_ble_eq_true rfl⟩ (Nat.le_of_ble_eq_true rfl) dX0_freeSet_6 (fun J6 B6 hp6 h hc => ?_)
  obtain ⟨eJ6, f6, g6, eB6, hf6, hg6⟩ := hp6
  replace hf6 : eOn (J 30 * J 31) (xUn kx fr (J 30) (J 31)) 10 f6 (eRed (J 30 * J 31) T (xUn kx fr (J 30) (J 31)).toNat).1 := hf6
  replace hg6 : ∀ k : Int, 0 ≤ k → k < (xUn kx fr (J 30) (J 31)) → g6 k = (eRed (J 30 * J 31) T (xUn kx fr (J 30) (J 31)).toNat).2.2.2.2 k := hg6
  subst eJ6
  subst eB6
  have hrr := eRed_r (J 30 * J 31) T (by omega) (xUn kx fr (J 30) (J 31)).toNat
  have hs9 := hsf (xUn kx fr (J 30) (J 31)) (by omega) (Int.le_refl _)
  replace hc : cOn h ad (uN (uN (uN (uN (uN J 20 (J 30 * J 31)) 21 (xUn kx fr (J 30) (J 31))) 22 ((eRed (J 30 * J 31) T (xUn kx fr (J 30) (J 31)).toNat).2.1)) 23 (zSg (eRed (J 30 * J 31) T (xUn kx fr (J 30) (J 31)).toNat).2.2.1)) 24 ((eRed (J 30 * J 31) T (xUn kx fr (J 30) (J 31)).toNat).2.2.2.1)) (uN (uN B 10 f6) 11 g6) Q Z := hc
  refine ga_iconst (pc := 9) dX0_freeSet_9 ?_
  refine ga_istore_n (pc := 10) (L1 := [some (.ref (ad 0)), some (.ref p), some (.int (iI 0)), none]) dX0_freeSet_10 rfl (by decide) rfl ?_
  refine ga_iconst (pc := 11) dX0_freeSet_11 ?_
  refine ga_istore_n (pc := 12) (L1 := [some (.ref (ad 0)), some (.ref p), some (.int (iI 0)), some (.int (iI 0))]) dX0_freeSet_12 rfl (by decide) rfl ?_
  have lp13 : ∀ (N13 : Nat) (set k : Int), ∀ h : ga_H, cOn h ad (uN (uN (uN (uN (uN J 20 (J 30 * J 31)) 21 (xUn kx fr (J 30) (J 31))) 22 ((eRed (J 30 * J 31) T (xUn kx fr (J 30) (J 31)).toNat).2.1)) 23 (zSg (eRed (J 30 * J 31) T (xUn kx fr (J 30) (J 31)).toNat).2.2.1)) 24 ((eRed (J 30 * J 31) T (xUn kx fr (J 30) (J 31)).toNat).2.2.2.1)) (uN (uN B 10 f6) 11 g6) Q Z → (0 ≤ k ∧ k ≤ (xUn kx fr (J 30) (J 31))) → (set = zFr g6 (Int.toNat k)) → ((xUn kx fr (J 30) (J 31)) - k).toNat < N13 → G X (gR 8) RX0 4 cX0_freeSet h 0 0 13 [some (.ref (ad 0)), some (.ref p), some (.int (iI set)), some (.int (iI k))] [] := by
    intro N13
    induction N13 with
    | zero => intro set k h hc hk9 hset hN13; exact absurd hN13 (Nat.not_lt_zero _)
    | succ N13 ih13 =>
      intro set k h hc hk9 hset hN13
      refine ga_iload_n (pc := 13) dX0_freeSet_13 rfl ?_
      refine ga_aload_n (pc := 14) dX0_freeSet_14 rfl ?_
      refine cc_g_gridUnknowns (pc := 15) (z := (xUn kx fr (J 30) (J 31))) hc rfl dX0_freeSet_15 ?_
      refine ga_icmp_ge (pc := 18) (tgt := 46) dX0_freeSet_18 rfl (by omega) (by omega) (fun c18 => ?_) (fun c18 => ?_)
      · skip
        refine ga_iload_n (pc := 46) dX0_freeSet_46 rfl ?_
        exact cc_iret hc hE dX0_freeSet_47 (⟨_, rfl, by dsimp only; exact ⟨⟨rfl, f6, g6, rfl, hf6, hg6⟩, by rw [hset, show k = (xUn kx fr (J 30) (J 31)) by omega]; exact zFr_c _ (fun u u0 u1 => hg6 u u0 (by omega))⟩⟩)
      · skip
        refine ga_iload_n (pc := 21) dX0_freeSet_21 rfl ?_
        refine ga_aload_n (pc := 22) dX0_freeSet_22 rfl ?_
        refine cc_g_pivotAt (pc := 23) hc dX0_freeSet_23 ?_
        refine ga_iload_n (pc := 26) dX0_freeSet_26 rfl ?_
        have hgk := hg6 k (by omega) (by omega)
        have hlk := hrr.2.2 k
        refine cc_ald11 (pc := 27) (x := g6 k) hc (by omega) (rfl) dX0_freeSet_27 ?_
        refine ga_if_ge (pc := 28) (tgt := 37) dX0_freeSet_28 rfl (by omega) (fun c28 => ?_) (fun c28 => ?_)
        · skip
          refine ga_iconst (pc := 37) dX0_freeSet_37 ?_
          refine ga_ior (pc := 38) dX0_freeSet_38 ?_
          refine ga_istore_n (pc := 39) (L1 := [some (.ref (ad 0)), some (.ref p), some (.int (iI (zor set 0))), some (.int (iI k))]) dX0_freeSet_39 rfl (by decide) rfl ?_
          refine ga_iinc (pc := 40) (L1 := [some (.ref (ad 0)), some (.ref p), some (.int (iI (zor set 0))), some (.int (iI (k + 1)))]) dX0_freeSet_40 rfl rfl (by decide) rfl ?_
          refine ga_goto (pc := 43) (tgt := 13) dX0_freeSet_43 rfl ?_
          exact ih13 (zor set 0) (k + 1) h hc (by omega) (by rw [zFr_s _ hk9.1, ← hset]; first | rw [if_pos (by omega)] | rw [if_neg (by omega)]) (by omega)
        · skip
          refine ga_iconst (pc := 31) dX0_freeSet_31 ?_
          refine ga_iload_n (pc := 32) dX0_freeSet_32 rfl ?_
          refine ga_ishl (pc := 33) dX0_freeSet_33 ?_
          refine ga_goto (pc := 34) (tgt := 38) dX0_freeSet_34 rfl ?_
          refine ga_ior (pc := 38) dX0_freeSet_38 ?_
          refine ga_istore_n (pc := 39) (L1 := [some (.ref (ad 0)), some (.ref p), some (.int (iI (zor set (zshl 1 k)))), some (.int (iI k))]) dX0_freeSet_39 rfl (by decide) rfl ?_
          refine ga_iinc (pc := 40) (L1 := [some (.ref (ad 0)), some (.ref p), some (.int (iI (zor set (zshl 1 k)))), some (.int (iI (k + 1)))]) dX0_freeSet_40 rfl rfl (by decide) rfl ?_
          refine ga_goto (pc := 43) (tgt := 13) dX0_freeSet_43 rfl ?_
          exact ih13 (zor set (zshl 1 k)) (k + 1) h hc (by omega) (by rw [zFr_s _ hk9.1, ← hset]; first | rw [if_pos (by omega)] | rw [if_neg (by omega)]) (by omega)
  exact lp13 _ 0 0 h hc (by omega) (rfl) (Nat.lt_succ_self _)
theorem k_X0_freeSet {X : ga_X} {R : Room} {nL : Nat} {cc : ByteArray} {h : ga_H} {ad : Nat → Nat} {J : Nat → Int} {B : Nat → Int → Int} {Q : Nat → Int → Option Nat} {Z : ga_H} {k n pc : Nat} {L : List (Option Value)} {st : List Value} {p q : Nat} {kx kd y sh fr : Int} {T : Int → Int → Int}  (hc : cOn h ad J B Q Z) (hm : (1 ≤ J 30 ∧ J 30 ≤ 3) ∧ 1 ≤ J 31 ∧ J 31 ≤ 3) (hp : pOn Z p kx kd y sh q fr) (hfr : 0 ≤ fr ∧ fr ≤ 3) (he0 : ∀ k : Int, -50 ≤ B 0 k ∧ B 0 k ≤ 50) (he1 : ∀ k : Int, -50 ≤ B 1 k ∧ B 1 k ≤ 50) (he2 : ∀ k : Int, -50 ≤ B 2 k ∧ B 2 k ≤ 50) (hsh : -2 ≤ sh ∧ sh ≤ 2) (hkl : kd < 2 ∨ J 30 = J 31) (hun : 0 ≤ (xUn kx fr (J 30) (J 31)) ∧ (xUn kx fr (J 30) (J 31)) ≤ 9) (hT : ∀ p q : Int, 0 ≤ p → p < J 30 * J 31 → 0 ≤ q → q ≤ (xUn kx fr (J 30) (J 31)) → cTs kx kd fr sh (J 30) (J 31) (xUn kx fr (J 30) (J 31)) 0 (B 0) (B 1) (B 2) p q = T p q) (hsf : eSafe (J 30 * J 31) (xUn kx fr (J 30) (J 31)) T)  (hR : 8 + 1 ≤ R.frames ∧ 19 + 4 + 64 * 8 ≤ R.locals) (hk : k ≤ R.cells ∧ n ≤ R.slots) (hs : (st.map fun v => v.category).sum ≤ 8) (dd : decode cc pc = .ok (.invokevirtual 413, 3)) (kk : ∀ (r : Int) (J1 : Nat → Int) (B1 : Nat → Int → Int), (cSt (J 30 * J 31) (xUn kx fr (J 30) (J 31)) (eRed (J 30 * J 31) T (xUn kx fr (J 30) (J 31)).toNat) J B J1 B1 ∧ r = zFr (eRed (J 30 * J 31) T (xUn kx fr (J 30) (J 31)).toNat).2.2.2.2 (xUn kx fr (J 30) (J 31)).toNat) → ∀ h : ga_H, cOn h ad J1 B1 Q Z → G X R RX0 nL cc h k n (pc + 3) L (.int (iI r) :: st)) : G X R RX0 nL cc h k n pc L (.ref p :: .ref (ad 0) :: st) :=
  cc_run hc (m_X0_freeSet _ _ ad J B Q Z p q kx kd y sh fr T hm hp hfr he0 he1 he2 hsh hkl hun hT hsf) (lw_V q886 q888 qs15 q102 q889) rfl (show ga_nn' yX0_freeSet 1 from (by unfold ga_nn'; decide +kernel)) hR hk hs dd rfl (fun v hX J1 B1 hcX hp => by
    obtain ⟨r, rfl, hp⟩ := hp
    exact kk r J1 B1 hp hX hcX)
def cTp (R K x y : Int) : Prop := (x < R ∨ y < R) ∨ (x = R ∧ R < y ∧ y < K) ∨ (y = R ∧ R < x ∧ x < K)
def cTg (G0 : Int → Int) (R K : Int) (g : Int → Int) : Prop := ∀ x y : Int, 0 ≤ x → x ≤ 9 → 0 ≤ y → y ≤ 9 → (cTp R K x y → g (10 * x + y) = G0 (10 * y + x)) ∧ (¬ cTp R K x y → g (10 * x + y) = G0 (10 * x + y))
theorem cTg_0 (G0 : Int → Int) : cTg G0 0 0 G0 := fun x y x0 x1 y0 y1 => ⟨fun h => by unfold cTp at h; omega, fun _ => rfl⟩
theorem cTg_i {G0 g : Int → Int} {R : Int} (h : cTg G0 R R g) : cTg G0 R (R + 1) g := fun x y x0 x1 y0 y1 => by
  have z := h x y x0 x1 y0 y1
  have e : cTp R (R + 1) x y ↔ cTp R R x y := by unfold cTp; omega
  rw [e]; exact z
theorem cTg_o {G0 g : Int → Int} {R K : Int} (hK : 10 ≤ K) (h : cTg G0 R K g) : cTg G0 (R + 1) (R + 1) g := fun x y x0 x1 y0 y1 => by
  have z := h x y x0 x1 y0 y1
  by_cases e : x = y
  · subst e
    by_cases p : cTp R K x x
    · exact ⟨fun _ => z.1 p, fun _ => z.1 p⟩
    · exact ⟨fun _ => z.2 p, fun _ => z.2 p⟩
  · have e : cTp (R + 1) (R + 1) x y ↔ cTp R K x y := by unfold cTp; omega
    rw [e]; exact z
theorem cTg_s {G0 g : Int → Int} {R K : Int} (hR : 0 ≤ R ∧ R < K ∧ K ≤ 9) (h : cTg G0 R K g) : cTg G0 R (K + 1) (uZ (uZ g (10 * R + K) (g (10 * K + R))) (10 * K + R) (g (10 * R + K))) := fun x y x0 x1 y0 y1 => by
  have z := h x y x0 x1 y0 y1
  have a := (h R K hR.1 (by omega) (by omega) hR.2.2).2 (by unfold cTp; omega)
  have b := (h K R (by omega) hR.2.2 hR.1 (by omega)).2 (by unfold cTp; omega)
  by_cases e1 : x = K ∧ y = R
  · rw [e1.1, e1.2, uZ_s]
    exact ⟨fun _ => a, fun q => absurd (show cTp R (K + 1) K R by unfold cTp; omega) q⟩
  · rw [uZ_n _ _ (show 10 * x + y ≠ 10 * K + R by omega)]
    by_cases e2 : x = R ∧ y = K
    · rw [e2.1, e2.2, uZ_s]
      exact ⟨fun _ => b, fun q => absurd (show cTp R (K + 1) R K by unfold cTp; omega) q⟩
    · rw [uZ_n _ _ (show 10 * x + y ≠ 10 * R + K by omega)]
      have e : cTp R (K + 1) x y ↔ cTp R K x y := by unfold cTp; omega
      rw [e]; exact z
set_option maxHeartbeats 4000000 in
set_option maxRecDepth 100000 in
theorem m_X0_laysWitness (l : Launch) (D : ga_G) (ad : Nat → Nat) (J : Nat → Int) (B : Nat → Int → Int) (Q : Nat → Int → Option Nat) (Z : ga_H) (p q : Nat) (kx kd y sh fr : Int) (hm : (1 ≤ J 30 ∧ J 30 ≤ 3) ∧ 1 ≤ J 31 ∧ J 31 ≤ 3) (hp : pOn Z p kx kd y sh q fr) (hfr : 0 ≤ fr ∧ fr ≤ 3) (he0 : ∀ k : Int, -50 ≤ B 0 k ∧ B 0 k ≤ 50) (he1 : ∀ k : Int, -50 ≤ B 1 k ∧ B 1 k ≤ 50) (he2 : ∀ k : Int, -50 ≤ B 2 k ∧ B 2 k ≤ 50) (hsh : -2 ≤ sh ∧ sh ≤ 2) (hkl : kd < 2 ∨ J 30 = J 31) (hun : 0 ≤ (xUn kx fr (J 30) (J 31)) ∧ (xUn kx fr (J 30) (J 31)) ≤ 9) : cM l D yX0_laysWitness (ws_ yX0_laysWitness cX0_laysWitness 8 none) (gR 8) [.ref (ad 0), .ref p] ad J B Q Z (mV (fun J1 B1 => J1 = uN (uN J 20 ((xUn kx fr (J 30) (J 31)) + 1)) 21 (J 30 * J 31) ∧ ∃ g, B1 = uN B 10 g ∧ ∀ r k : Int, 0 ≤ r → r ≤ 9 → 0 ≤ k → k ≤ 9 → g (10 * r + k) = if r = (xUn kx fr (J 30) (J 31)) ∧ k = J 30 * J 31 then 1 else cGr kx kd fr sh (J 30) (J 31) (xUn kx fr (J 30) (J 31)) 0 (B 0) (B 1) (B 2) (J 31 * J 30) k r)) := by
  refine cc_met (own := RX0) 6 (by decide) rfl (Nat.le_of_ble_eq_true rfl) (L0 := [some (.ref (ad 0)), some (.ref p), none, none, none, none, none, none]) rfl (fun X h hc hE => ?_)
  refine ga_aload_n (pc := 0) dX0_laysWitness_0 rfl ?_
  refine ga_aload_n (pc := 1) dX0_laysWitness_1 rfl ?_
  refine k_X0_laysOut (pc := 2) (p := p) (q := q) (kx := kx) (kd := kd) (y := y) (sh := sh) (fr := fr) hc (by first | exact hm | omega) (by first | exact hp | omega) (by first | exact hfr | omega) (by first | exact he0 | omega) (by first | exact he1 | omega) (by first | exact he2 | omega) (by first | exact hsh | omega) (by first | exact hkl | omega) (by first | exact hun | omega) ⟨Nat.le_of_ble_eq_true rfl, Nat.le_of_ble_eq_true rfl⟩ ⟨Nat.le_of_ble_eq_true rfl, Nat.le_of_ble_eq_true rfl⟩ (Nat.le_of_ble_eq_true rfl) dX0_laysWitness_2 (fun J2 B2 hp2 h hc => ?_)
  obtain ⟨eJ2, g2, eB2, hg2⟩ := hp2
  subst eJ2
  subst eB2
  have hmn := mn_r hm
  replace hc : cOn h ad (uN (uN J 20 (J 30 * J 31)) 21 (xUn kx fr (J 30) (J 31))) (uN B 10 g2) Q Z := hc
  refine ga_aload_n (pc := 5) dX0_laysWitness_5 rfl ?_
  refine cc_g_gridUnknowns (pc := 6) (z := (xUn kx fr (J 30) (J 31))) hc rfl dX0_laysWitness_6 ?_
  refine ga_istore_n (pc := 9) (L1 := [some (.ref (ad 0)), some (.ref p), some (.int (iI (xUn kx fr (J 30) (J 31)))), none, none, none, none, none]) dX0_laysWitness_9 rfl (by decide) rfl ?_
  refine ga_aload_n (pc := 10) dX0_laysWitness_10 rfl ?_
  refine cc_g_gridRows (pc := 11) (z := J 30 * J 31) hc rfl dX0_laysWitness_11 ?_
  refine ga_istore_n (pc := 14) (L1 := [some (.ref (ad 0)), some (.ref p), some (.int (iI (xUn kx fr (J 30) (J 31)))), some (.int (iI (J 30 * J 31))), none, none, none, none]) dX0_laysWitness_14 rfl (by decide) rfl ?_
  refine ga_iconst (pc := 15) dX0_laysWitness_15 ?_
  refine ga_istore (pc := 16) (L1 := [some (.ref (ad 0)), some (.ref p), some (.int (iI (xUn kx fr (J 30) (J 31)))), some (.int (iI (J 30 * J 31))), some (.int (iI 0)), none, none, none]) dX0_laysWitness_16 rfl (by decide) rfl ?_
  have lp18 : ∀ (N18 : Nat) (R : Int) (g : Int → Int), ∀ h : ga_H, cOn h ad (uN (uN J 20 (J 30 * J 31)) 21 (xUn kx fr (J 30) (J 31))) (uN B 10 g) Q Z → (0 ≤ R ∧ R ≤ 10) → (cTg g2 R R g) → (10 - R).toNat < N18 → G X (gR 8) RX0 8 cX0_laysWitness h 0 0 18 [some (.ref (ad 0)), some (.ref p), some (.int (iI (xUn kx fr (J 30) (J 31)))), some (.int (iI (J 30 * J 31))), some (.int (iI R)), none, none, none] [] := by
    intro N18
    induction N18 with
    | zero => intro R g h hc hR hg hN18; exact absurd hN18 (Nat.not_lt_zero _)
    | succ N18 ih18 =>
      intro R g h hc hR hg hN18
      refine ga_iload (pc := 18) dX0_laysWitness_18 rfl ?_
      refine ga_bipush (pc := 20) dX0_laysWitness_20 rfl ?_
      refine ga_icmp_ge (pc := 22) (tgt := 106) dX0_laysWitness_22 rfl (by omega) (by omega) (fun c22 => ?_) (fun c22 => ?_)
      · skip
        refine ga_aload_n (pc := 106) dX0_laysWitness_106 rfl ?_
        refine ga_iload_n (pc := 107) dX0_laysWitness_107 rfl ?_
        refine ga_iconst (pc := 108) dX0_laysWitness_108 ?_
        refine ga_iadd (pc := 109) dX0_laysWitness_109 ?_
        refine cc_p_gridRows (pc := 110) (J1 := (uN (uN J 20 ((xUn kx fr (J 30) (J 31)) + 1)) 21 (xUn kx fr (J 30) (J 31)))) hc (by funext j; by_cases e0 : j = 20; (subst e0; rfl); simp only [uN, if_neg e0]) dX0_laysWitness_110 (fun h hc => ?_)
        refine ga_aload_n (pc := 113) dX0_laysWitness_113 rfl ?_
        refine ga_iload_n (pc := 114) dX0_laysWitness_114 rfl ?_
        refine cc_p_gridUnknowns (pc := 115) (J1 := (uN (uN J 20 ((xUn kx fr (J 30) (J 31)) + 1)) 21 (J 30 * J 31))) hc (by funext j; by_cases e0 : j = 21; (subst e0; rfl); simp only [uN, if_neg e0]) dX0_laysWitness_115 (fun h hc => ?_)
        refine ga_aload_n (pc := 118) dX0_laysWitness_118 rfl ?_
        refine cc_g_grid (pc := 119) hc dX0_laysWitness_119 ?_
        refine ga_bipush (pc := 122) dX0_laysWitness_122 rfl ?_
        refine ga_iload_n (pc := 124) dX0_laysWitness_124 rfl ?_
        refine ga_imul (pc := 125) dX0_laysWitness_125 ?_
        refine ga_iload_n (pc := 126) dX0_laysWitness_126 rfl ?_
        refine ga_iadd (pc := 127) dX0_laysWitness_127 ?_
        refine ga_lconst (pc := 128) 1 dX0_laysWitness_128 rfl ?_
        refine cc_ast10 (pc := 129) (B1 := (uN B 10 (uZ g ((10 * (xUn kx fr (J 30) (J 31))) + (J 30 * J 31)) 1))) hc (by omega) (by funext j; by_cases e0 : j = 10; (subst e0; rfl); simp only [uN, if_neg e0]) dX0_laysWitness_129 (fun h hc => ?_)
        exact cc_vret hc hE dX0_laysWitness_130 (⟨rfl, by dsimp only; refine ⟨by funext j; by_cases e0 : j = 20; (subst e0; rfl); by_cases e1 : j = 21; (subst e1; rfl); simp only [uN, if_neg e0, if_neg e1], _, rfl, fun r k r0 r1 k0 k1 => ?_⟩; have z := (hg r k r0 r1 k0 k1).1 (by unfold cTp; omega); by_cases e : r = (xUn kx fr (J 30) (J 31)) ∧ k = J 30 * J 31; (rw [if_pos e, e.1, e.2, uZ_s]); rw [if_neg e, uZ_n _ _ (by omega), z]; exact hg2 k r k0 k1 r0 r1⟩)
      · skip
        refine ga_iload (pc := 25) dX0_laysWitness_25 rfl ?_
        refine ga_iconst (pc := 27) dX0_laysWitness_27 ?_
        refine ga_iadd (pc := 28) dX0_laysWitness_28 ?_
        refine ga_istore (pc := 29) (L1 := [some (.ref (ad 0)), some (.ref p), some (.int (iI (xUn kx fr (J 30) (J 31)))), some (.int (iI (J 30 * J 31))), some (.int (iI R)), some (.int (iI (R + 1))), none, none]) dX0_laysWitness_29 rfl (by decide) rfl ?_
        have lp31 : ∀ (N31 : Nat) (K : Int) (g3 : Int → Int), ∀ h : ga_H, cOn h ad (uN (uN J 20 (J 30 * J 31)) 21 (xUn kx fr (J 30) (J 31))) (uN B 10 g3) Q Z → (R + 1 ≤ K ∧ K ≤ 10) → (cTg g2 R K g3) → (10 - K).toNat < N31 → G X (gR 8) RX0 8 cX0_laysWitness h 0 0 31 [some (.ref (ad 0)), some (.ref p), some (.int (iI (xUn kx fr (J 30) (J 31)))), some (.int (iI (J 30 * J 31))), some (.int (iI R)), some (.int (iI K)), none, none] [] := by
          intro N31
          induction N31 with
          | zero => intro K g3 h hc hK hg3 hN31; exact absurd hN31 (Nat.not_lt_zero _)
          | succ N31 ih31 =>
            intro K g3 h hc hK hg3 hN31
            refine ga_iload (pc := 31) dX0_laysWitness_31 rfl ?_
            refine ga_bipush (pc := 33) dX0_laysWitness_33 rfl ?_
            refine ga_icmp_ge (pc := 35) (tgt := 100) dX0_laysWitness_35 rfl (by omega) (by omega) (fun c35 => ?_) (fun c35 => ?_)
            · skip
              refine ga_iinc (pc := 100) (L1 := [some (.ref (ad 0)), some (.ref p), some (.int (iI (xUn kx fr (J 30) (J 31)))), some (.int (iI (J 30 * J 31))), some (.int (iI (R + 1))), some (.int (iI K)), none, none]) dX0_laysWitness_100 rfl rfl (by decide) rfl ?_
              refine ga_goto (pc := 103) (tgt := 18) dX0_laysWitness_103 rfl ?_
              refine ga_kill (pc := 18) 5 (L1 := [some (.ref (ad 0)), some (.ref p), some (.int (iI (xUn kx fr (J 30) (J 31)))), some (.int (iI (J 30 * J 31))), some (.int (iI (R + 1))), none, none, none]) rfl ?_
              exact ih18 (R + 1) g3 h hc (by omega) (cTg_o (by omega) hg3) (by omega)
            · skip
              refine ga_aload_n (pc := 38) dX0_laysWitness_38 rfl ?_
              refine cc_g_grid (pc := 39) hc dX0_laysWitness_39 ?_
              refine ga_bipush (pc := 42) dX0_laysWitness_42 rfl ?_
              refine ga_iload (pc := 44) dX0_laysWitness_44 rfl ?_
              refine ga_imul (pc := 46) dX0_laysWitness_46 ?_
              refine ga_iload (pc := 47) dX0_laysWitness_47 rfl ?_
              refine ga_iadd (pc := 49) dX0_laysWitness_49 ?_
              refine cc_ald10 (pc := 50) (x := g3 ((10 * R) + K)) hc (by omega) (rfl) dX0_laysWitness_50 ?_
              refine ga_lstore (pc := 51) (L1 := [some (.ref (ad 0)), some (.ref p), some (.int (iI (xUn kx fr (J 30) (J 31)))), some (.int (iI (J 30 * J 31))), some (.int (iI R)), some (.int (iI K)), some (.long (lI (g3 ((10 * R) + K)))), none]) dX0_laysWitness_51 rfl (by decide) rfl ?_
              refine ga_aload_n (pc := 53) dX0_laysWitness_53 rfl ?_
              refine cc_g_grid (pc := 54) hc dX0_laysWitness_54 ?_
              refine ga_bipush (pc := 57) dX0_laysWitness_57 rfl ?_
              refine ga_iload (pc := 59) dX0_laysWitness_59 rfl ?_
              refine ga_imul (pc := 61) dX0_laysWitness_61 ?_
              refine ga_iload (pc := 62) dX0_laysWitness_62 rfl ?_
              refine ga_iadd (pc := 64) dX0_laysWitness_64 ?_
              refine ga_aload_n (pc := 65) dX0_laysWitness_65 rfl ?_
              refine cc_g_grid (pc := 66) hc dX0_laysWitness_66 ?_
              refine ga_bipush (pc := 69) dX0_laysWitness_69 rfl ?_
              refine ga_iload (pc := 71) dX0_laysWitness_71 rfl ?_
              refine ga_imul (pc := 73) dX0_laysWitness_73 ?_
              refine ga_iload (pc := 74) dX0_laysWitness_74 rfl ?_
              refine ga_iadd (pc := 76) dX0_laysWitness_76 ?_
              refine cc_ald10 (pc := 77) (x := g3 ((10 * K) + R)) hc (by omega) (rfl) dX0_laysWitness_77 ?_
              refine cc_ast10 (pc := 78) (B1 := (uN B 10 (uZ g3 ((10 * R) + K) (g3 ((10 * K) + R))))) hc (by omega) (by funext j; by_cases e0 : j = 10; (subst e0; rfl); simp only [uN, if_neg e0]) dX0_laysWitness_78 (fun h hc => ?_)
              refine ga_aload_n (pc := 79) dX0_laysWitness_79 rfl ?_
              refine cc_g_grid (pc := 80) hc dX0_laysWitness_80 ?_
              refine ga_bipush (pc := 83) dX0_laysWitness_83 rfl ?_
              refine ga_iload (pc := 85) dX0_laysWitness_85 rfl ?_
              refine ga_imul (pc := 87) dX0_laysWitness_87 ?_
              refine ga_iload (pc := 88) dX0_laysWitness_88 rfl ?_
              refine ga_iadd (pc := 90) dX0_laysWitness_90 ?_
              refine ga_lload (pc := 91) dX0_laysWitness_91 rfl ?_
              refine cc_ast10 (pc := 93) (B1 := (uN B 10 (uZ (uZ g3 ((10 * R) + K) (g3 ((10 * K) + R))) ((10 * K) + R) (g3 ((10 * R) + K))))) hc (by omega) (by funext j; by_cases e0 : j = 10; (subst e0; rfl); simp only [uN, if_neg e0]) dX0_laysWitness_93 (fun h hc => ?_)
              refine ga_iinc (pc := 94) (L1 := [some (.ref (ad 0)), some (.ref p), some (.int (iI (xUn kx fr (J 30) (J 31)))), some (.int (iI (J 30 * J 31))), some (.int (iI R)), some (.int (iI (K + 1))), some (.long (lI (g3 ((10 * R) + K)))), none]) dX0_laysWitness_94 rfl rfl (by decide) rfl ?_
              refine ga_goto (pc := 97) (tgt := 31) dX0_laysWitness_97 rfl ?_
              refine ga_kill (pc := 31) 6 (L1 := [some (.ref (ad 0)), some (.ref p), some (.int (iI (xUn kx fr (J 30) (J 31)))), some (.int (iI (J 30 * J 31))), some (.int (iI R)), some (.int (iI (K + 1))), none, none]) rfl ?_
              exact ih31 (K + 1) (uZ (uZ g3 ((10 * R) + K) (g3 ((10 * K) + R))) ((10 * K) + R) (g3 ((10 * R) + K))) h hc (by omega) (by have z := cTg_s ⟨hR.1, by omega, by omega⟩ hg3; exact z) (by omega)
        exact lp31 _ (R + 1) g h hc (by omega) (cTg_i hg) (Nat.lt_succ_self _)
  exact lp18 _ 0 g2 h hc (by omega) (cTg_0 _) (Nat.lt_succ_self _)
theorem k_X0_laysWitness {X : ga_X} {R : Room} {nL : Nat} {cc : ByteArray} {h : ga_H} {ad : Nat → Nat} {J : Nat → Int} {B : Nat → Int → Int} {Q : Nat → Int → Option Nat} {Z : ga_H} {k n pc : Nat} {L : List (Option Value)} {st : List Value} {p q : Nat} {kx kd y sh fr : Int}  (hc : cOn h ad J B Q Z) (hm : (1 ≤ J 30 ∧ J 30 ≤ 3) ∧ 1 ≤ J 31 ∧ J 31 ≤ 3) (hp : pOn Z p kx kd y sh q fr) (hfr : 0 ≤ fr ∧ fr ≤ 3) (he0 : ∀ k : Int, -50 ≤ B 0 k ∧ B 0 k ≤ 50) (he1 : ∀ k : Int, -50 ≤ B 1 k ∧ B 1 k ≤ 50) (he2 : ∀ k : Int, -50 ≤ B 2 k ∧ B 2 k ≤ 50) (hsh : -2 ≤ sh ∧ sh ≤ 2) (hkl : kd < 2 ∨ J 30 = J 31) (hun : 0 ≤ (xUn kx fr (J 30) (J 31)) ∧ (xUn kx fr (J 30) (J 31)) ≤ 9)  (hR : 8 + 1 ≤ R.frames ∧ 19 + 8 + 64 * 8 ≤ R.locals) (hk : k ≤ R.cells ∧ n ≤ R.slots) (hs : (st.map fun v => v.category).sum ≤ 8) (dd : decode cc pc = .ok (.invokevirtual 431, 3)) (kk : ∀ (J1 : Nat → Int) (B1 : Nat → Int → Int), (J1 = uN (uN J 20 ((xUn kx fr (J 30) (J 31)) + 1)) 21 (J 30 * J 31) ∧ ∃ g, B1 = uN B 10 g ∧ ∀ r k : Int, 0 ≤ r → r ≤ 9 → 0 ≤ k → k ≤ 9 → g (10 * r + k) = if r = (xUn kx fr (J 30) (J 31)) ∧ k = J 30 * J 31 then 1 else cGr kx kd fr sh (J 30) (J 31) (xUn kx fr (J 30) (J 31)) 0 (B 0) (B 1) (B 2) (J 31 * J 30) k r) → ∀ h : ga_H, cOn h ad J1 B1 Q Z → G X R RX0 nL cc h k n (pc + 3) L st) : G X R RX0 nL cc h k n pc L (.ref p :: .ref (ad 0) :: st) :=
  cc_run hc (m_X0_laysWitness _ _ ad J B Q Z p q kx kd y sh fr hm hp hfr he0 he1 he2 hsh hkl hun) (lw_V q1035 q1037 qs29 q102 q1038) rfl (show ga_nn' yX0_laysWitness 1 from (by unfold ga_nn'; decide +kernel)) hR hk hs dd rfl (fun v hX J1 B1 hcX hp => by
    obtain ⟨rfl, hp⟩ := hp
    exact kk J1 B1 hp hX hcX)
