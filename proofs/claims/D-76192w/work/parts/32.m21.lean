set_option maxHeartbeats 4000000 in
set_option maxRecDepth 100000 in
theorem m_X8_parts (l : Launch) (D : ga_G) (mo : Nat) (ad : Nat → Nat) (I : Nat → Int) (A : Nat → Int → Int) (x : Int) (t : zRs) (htt : I 42 = t.1 ∧ A 41 = t.2) (ht : 0 ≤ t.1 ∧ t.1 ≤ 30) (hkd : (0 ≤ I 43 ∧ I 43 ≤ 6) ∧ (0 ≤ I 44 ∧ I 44 ≤ 5) ∧ -2 ≤ I 45 ∧ I 45 ≤ 2) (hx0 : zI32 x) (hpd : I 46 = 0) : mM l D yX8_parts (ws_ yX8_parts cX8_parts 4 (some .int)) (gR 4) [.int (iI x)] mo ad I A (mI (fun r I1 A1 => r = (zPa (I 43) (I 44) (I 45) x) ∧ I1 = (uN (uN I 42 ((zQr (I 43) (I 44) (I 45) t).1)) 46 (if I 44 = I 45 then 1 else 0)) ∧ A1 = (uN A 41 ((zQr (I 43) (I 44) (I 45) t).2)))) := by
  refine mm_met 2 rfl (Nat.le_of_ble_eq_true rfl) (L0 := [some (.ref mo), some (.int (iI x)), none, none]) rfl (fun X ok hE => ?_)
  have hp46 := hpd
  have jn21 : ∀ (ow : Int), (ow = if zOw (I 43) then 1 else 0) → (0 ≤ ow ∧ ow ≤ 1) → G X (gR 4) RX8 4 cX8_parts (mH mo ad I A) 0 0 21 [some (.ref mo), some (.int (iI x)), none, none] [.int (iI ow)] := by
    intro ow how hor
    refine ga_istore_n (pc := 21) (L1 := [some (.ref mo), some (.int (iI x)), some (.int (iI ow)), none]) dX8_parts_21 rfl (by decide) rfl ?_
    have jn32 : ∀ (t2 : zRs), (t2 = (if zOw (I 43) then zRan 41 t else t)) → (0 ≤ t2.1 ∧ t2.1 ≤ 30) → G X (gR 4) RX8 4 cX8_parts (mH mo ad (uN I 42 t2.1) (uN A 41 t2.2)) 0 0 32 [some (.ref mo), some (.int (iI x)), some (.int (iI ow)), none] [] := by
      intro t2 ht2e ht2
      refine ga_aload_n (pc := 32) dX8_parts_32 rfl ?_
      refine ga_bipush (pc := 33) dX8_parts_33 rfl ?_
      refine k_X8_ran (pc := 35) (b := 12) (t := t2) (I2 := (uN I 42 ((zRan 12 t2).1))) (A2 := (uN A 41 ((zRan 12 t2).2))) ok (show t2.1 = t2.1 ∧ t2.2 = t2.2 from ⟨rfl, rfl⟩) (show 0 ≤ t2.1 ∧ t2.1 ≤ 30 from ht2) (by funext j; by_cases e0 : j = 42; (subst e0; rfl); simp only [uN, if_neg e0]) (by funext j; by_cases e0 : j = 41; (subst e0; rfl); simp only [uN, if_neg e0]) ⟨Nat.le_of_ble_eq_true rfl, Nat.le_of_ble_eq_true rfl⟩ (Nat.le_of_ble_eq_true rfl) dX8_parts_35 ?_
      have jn62 : ∀ (pd : Int), (pd = if I 44 = I 45 then 1 else 0) → (0 ≤ pd ∧ pd ≤ 1) → G X (gR 4) RX8 4 cX8_parts (mH mo ad (uN I 42 ((zRan 12 t2).1)) (uN A 41 ((zRan 12 t2).2))) 0 0 62 [some (.ref mo), some (.int (iI x)), some (.int (iI ow)), none] [.int (iI pd), .ref mo] := by
        intro pd hpdx hpr
        refine mm_p46 (pc := 62) (I1 := (uN (uN I 42 ((zRan 12 t2).1)) 46 pd)) (by omega) (rfl) dX8_parts_62 ?_
        refine ga_aload_n (pc := 65) dX8_parts_65 rfl ?_
        refine mm_g46 (pc := 66) (z := pd) rfl dX8_parts_66 ?_
        refine ga_if_eq (pc := 69) (tgt := 74) dX8_parts_69 rfl (by omega) (fun c69 => ?_) (fun c69 => ?_)
        · skip
          have jn104 : ∀ (v : Int), (zM v = zDv (I 44) (I 45) x) → G X (gR 4) RX8 4 cX8_parts (mH mo ad (uN (uN I 42 ((zRan 12 t2).1)) 46 pd) (uN A 41 ((zRan 12 t2).2))) 0 0 104 [some (.ref mo), some (.int (iI x)), some (.int (iI ow)), none] [.int (iI v)] := by
            intro v hv
            refine ga_wi (pc := 104) (b := zDv (I 44) (I 45) x) (by rw [← hv]; exact iI_m _) ?_
            refine ga_istore_n (pc := 104) (L1 := [some (.ref mo), some (.int (iI x)), some (.int (iI ow)), some (.int (iI (zDv (I 44) (I 45) x)))]) dX8_parts_104 rfl (by decide) rfl ?_
            refine ga_iload_n (pc := 105) dX8_parts_105 rfl ?_
            refine ga_if_eq (pc := 106) (tgt := 122) dX8_parts_106 rfl (by omega) (fun c106 => ?_) (fun c106 => ?_)
            · skip
              refine ga_iload_n (pc := 122) dX8_parts_122 rfl ?_
              exact mm_iret hE dX8_parts_123 (⟨_, rfl, by unfold zPa; rw [if_neg (by omega)]; first | (rw [if_pos (by omega)]; done) | (rw [if_neg (by omega)]), by funext j; by_cases e0 : j = 42; (subst e0; exact (show ((zRan 12 t2).1) = ((zQr (I 43) (I 44) (I 45) t).1) from by rw [ht2e]; unfold zQr; have hne : ¬ I 44 = I 45 := (by omega); first | (have ho : zOw (I 43) := (by omega); simp only [if_neg hne, if_pos ho]) | (have ho : ¬ zOw (I 43) := (by omega); simp only [if_neg hne, if_neg ho]))); by_cases e1 : j = 46; (subst e1; exact (show pd = (if I 44 = I 45 then 1 else 0) from hpdx)); simp only [uN, if_neg e0, if_neg e1], by funext j; by_cases e0 : j = 41; (subst e0; exact (show ((zRan 12 t2).2) = ((zQr (I 43) (I 44) (I 45) t).2) from by rw [ht2e]; unfold zQr; have hne : ¬ I 44 = I 45 := (by omega); first | (have ho : zOw (I 43) := (by omega); simp only [if_neg hne, if_pos ho]) | (have ho : ¬ zOw (I 43) := (by omega); simp only [if_neg hne, if_neg ho]))); simp only [uN, if_neg e0]⟩)
            · skip
              refine ga_iload_n (pc := 109) dX8_parts_109 rfl ?_
              refine ga_aload_n (pc := 110) dX8_parts_110 rfl ?_
              refine ga_aload_n (pc := 111) dX8_parts_111 rfl ?_
              refine mm_g44 (pc := 112) (z := I 44) rfl dX8_parts_112 ?_
              refine k_X8_weighs (pc := 115) (x := (I 44)) (t := (zRan 12 t2)) (z := zWe ((I 43)) ((I 44)) ((I 45)) (I 44)) (I2 := (uN (uN I 42 ((zWr ((I 43)) (zRan 12 t2)).1)) 46 pd)) (A2 := (uN A 41 ((zWr ((I 43)) (zRan 12 t2)).2))) ok (show ((zRan 12 t2).1) = (zRan 12 t2).1 ∧ ((zRan 12 t2).2) = (zRan 12 t2).2 from ⟨rfl, rfl⟩) (show 0 ≤ (zRan 12 t2).1 ∧ (zRan 12 t2).1 ≤ 30 from zRan_r _ ht2) (show (0 ≤ (I 43) ∧ (I 43) ≤ 6) ∧ (0 ≤ (I 44) ∧ (I 44) ≤ 5) ∧ -2 ≤ (I 45) ∧ (I 45) ≤ 2 from by first | exact hkd | omega) (rfl) (by funext j; by_cases e0 : j = 42; (subst e0; rfl); by_cases e1 : j = 46; (subst e1; rfl); simp only [uN, if_neg e0, if_neg e1]) (by funext j; by_cases e0 : j = 41; (subst e0; rfl); simp only [uN, if_neg e0]) ⟨Nat.le_of_ble_eq_true rfl, Nat.le_of_ble_eq_true rfl⟩ (Nat.le_of_ble_eq_true rfl) dX8_parts_115 ?_
              refine ga_isub (pc := 118) dX8_parts_118 ?_
              refine ga_wi (pc := 119) (b := zM ((zDv (I 44) (I 45) x) - (zWe ((I 43)) ((I 44)) ((I 45)) (I 44)))) (iI_m _) ?_
              refine ga_goto (pc := 119) (tgt := 123) dX8_parts_119 rfl ?_
              exact mm_iret hE dX8_parts_123 (⟨_, rfl, by unfold zPa; rw [if_neg (by omega)]; first | (rw [if_pos (by omega)]; done) | (rw [if_neg (by omega)]), by funext j; by_cases e0 : j = 42; (subst e0; exact (show ((zWr ((I 43)) (zRan 12 t2)).1) = ((zQr (I 43) (I 44) (I 45) t).1) from by rw [ht2e]; unfold zQr; have hne : ¬ I 44 = I 45 := (by omega); first | (have ho : zOw (I 43) := (by omega); simp only [if_neg hne, if_pos ho]) | (have ho : ¬ zOw (I 43) := (by omega); simp only [if_neg hne, if_neg ho]))); by_cases e1 : j = 46; (subst e1; exact (show pd = (if I 44 = I 45 then 1 else 0) from hpdx)); simp only [uN, if_neg e0, if_neg e1], by funext j; by_cases e0 : j = 41; (subst e0; exact (show ((zWr ((I 43)) (zRan 12 t2)).2) = ((zQr (I 43) (I 44) (I 45) t).2) from by rw [ht2e]; unfold zQr; have hne : ¬ I 44 = I 45 := (by omega); first | (have ho : zOw (I 43) := (by omega); simp only [if_neg hne, if_pos ho]) | (have ho : ¬ zOw (I 43) := (by omega); simp only [if_neg hne, if_neg ho]))); simp only [uN, if_neg e0]⟩)
          refine ga_aload_n (pc := 74) dX8_parts_74 rfl ?_
          refine mm_g44 (pc := 75) (z := I 44) rfl dX8_parts_75 ?_
          refine ga_aload_n (pc := 78) dX8_parts_78 rfl ?_
          refine mm_g45 (pc := 79) (z := I 45) rfl dX8_parts_79 ?_
          refine ga_isub (pc := 82) dX8_parts_82 ?_
          refine ga_iconst (pc := 83) dX8_parts_83 ?_
          refine ga_icmp_ne (pc := 84) (tgt := 93) dX8_parts_84 rfl (by omega) (by omega) (fun c84 => ?_) (fun c84 => ?_)
          · skip
            refine ga_iload_n (pc := 93) dX8_parts_93 rfl ?_
            refine ga_aload_n (pc := 94) dX8_parts_94 rfl ?_
            refine mm_g44 (pc := 95) (z := I 44) rfl dX8_parts_95 ?_
            refine ga_aload_n (pc := 98) dX8_parts_98 rfl ?_
            refine mm_g45 (pc := 99) (z := I 45) rfl dX8_parts_99 ?_
            refine ga_isub (pc := 102) dX8_parts_102 ?_
            refine ga_idiv (pc := 103) dX8_parts_103 (by omega) (by omega) (by omega) ?_
            exact jn104 (x.tdiv ((I 44) - (I 45))) (by unfold zDv; first | (rw [if_pos (by omega)]; done) | rw [if_neg (by omega)])
          · skip
            refine ga_iconst (pc := 87) dX8_parts_87 ?_
            refine ga_iload_n (pc := 88) dX8_parts_88 rfl ?_
            refine ga_isub (pc := 89) dX8_parts_89 ?_
            refine ga_goto (pc := 90) (tgt := 104) dX8_parts_90 rfl ?_
            exact jn104 (0 - x) (by unfold zDv; first | (rw [if_pos (by omega)]; done) | rw [if_neg (by omega)])
        · skip
          refine ga_iconst (pc := 72) dX8_parts_72 ?_
          exact mm_iret hE dX8_parts_73 (⟨_, rfl, by unfold zPa; rw [if_pos (by omega)], by funext j; by_cases e0 : j = 42; (subst e0; exact (show ((zRan 12 t2).1) = ((zQr (I 43) (I 44) (I 45) t).1) from by unfold zQr; rw [if_pos (by omega), ht2e])); by_cases e1 : j = 46; (subst e1; exact (show pd = (if I 44 = I 45 then 1 else 0) from hpdx)); simp only [uN, if_neg e0, if_neg e1], by funext j; by_cases e0 : j = 41; (subst e0; exact (show ((zRan 12 t2).2) = ((zQr (I 43) (I 44) (I 45) t).2) from by unfold zQr; rw [if_pos (by omega), ht2e])); simp only [uN, if_neg e0]⟩)
      refine ga_aload_n (pc := 38) dX8_parts_38 rfl ?_
      refine ga_aload_n (pc := 39) dX8_parts_39 rfl ?_
      refine mm_g46 (pc := 40) (z := I 46) rfl dX8_parts_40 ?_
      refine ga_if_ne (pc := 43) (tgt := 57) dX8_parts_43 rfl (by omega) (fun c43 => ?_) (fun c43 => ?_)
      · skip
        refine ga_iconst (pc := 57) dX8_parts_57 ?_
        refine ga_goto (pc := 58) (tgt := 62) dX8_parts_58 rfl ?_
        exact jn62 1 (by first | (rw [if_pos (by omega)]; done) | rw [if_neg (by omega)]) (by omega)
      · skip
        refine ga_aload_n (pc := 46) dX8_parts_46 rfl ?_
        refine mm_g44 (pc := 47) (z := I 44) rfl dX8_parts_47 ?_
        refine ga_aload_n (pc := 50) dX8_parts_50 rfl ?_
        refine mm_g45 (pc := 51) (z := I 45) rfl dX8_parts_51 ?_
        refine ga_icmp_ne (pc := 54) (tgt := 61) dX8_parts_54 rfl (by omega) (by omega) (fun c54 => ?_) (fun c54 => ?_)
        · skip
          refine ga_iconst (pc := 61) dX8_parts_61 ?_
          exact jn62 0 (by first | (rw [if_pos (by omega)]; done) | rw [if_neg (by omega)]) (by omega)
        · skip
          refine ga_iconst (pc := 57) dX8_parts_57 ?_
          refine ga_goto (pc := 58) (tgt := 62) dX8_parts_58 rfl ?_
          exact jn62 1 (by first | (rw [if_pos (by omega)]; done) | rw [if_neg (by omega)]) (by omega)
    refine ga_iload_n (pc := 22) dX8_parts_22 rfl ?_
    refine ga_if_eq (pc := 23) (tgt := 32) dX8_parts_23 rfl (by omega) (fun c23 => ?_) (fun c23 => ?_)
    · skip
      refine ga_heq (pc := 32) (h1 := mH mo ad (uN I 42 t.1) (uN A 41 t.2)) (congr (congrArg (mH mo ad) (by funext j; by_cases e0 : j = 42; (subst e0; exact (show (I 42) = t.1 from htt.1)); simp only [uN, if_neg e0])) (by funext j; by_cases e0 : j = 41; (subst e0; exact (show (A 41) = t.2 from htt.2)); simp only [uN, if_neg e0])) ?_
      exact jn32 t (by first | (rw [if_pos (by omega)]; done) | (rw [if_neg (by omega)])) (by first | exact ht | exact zRan_r _ ht)
    · skip
      refine ga_aload_n (pc := 26) dX8_parts_26 rfl ?_
      refine ga_bipush (pc := 27) dX8_parts_27 rfl ?_
      refine k_X8_ran (pc := 29) (b := 41) (t := t) (I2 := (uN I 42 ((zRan 41 t).1))) (A2 := (uN A 41 ((zRan 41 t).2))) ok (htt) (ht) (rfl) (rfl) ⟨Nat.le_of_ble_eq_true rfl, Nat.le_of_ble_eq_true rfl⟩ (Nat.le_of_ble_eq_true rfl) dX8_parts_29 ?_
      exact jn32 (zRan 41 t) (by first | (rw [if_pos (by omega)]; done) | (rw [if_neg (by omega)])) (by first | exact ht | exact zRan_r _ ht)
  refine ga_aload_n (pc := 0) dX8_parts_0 rfl ?_
  refine mm_g43 (pc := 1) (z := I 43) rfl dX8_parts_1 ?_
  refine ga_iconst (pc := 4) dX8_parts_4 ?_
  refine ga_icmp_eq (pc := 5) (tgt := 16) dX8_parts_5 rfl (by omega) (by omega) (fun c5 => ?_) (fun c5 => ?_)
  · skip
    refine ga_iconst (pc := 16) dX8_parts_16 ?_
    refine ga_goto (pc := 17) (tgt := 21) dX8_parts_17 rfl ?_
    exact jn21 1 (by first | (rw [if_pos (by omega)]; done) | rw [if_neg (by omega)]) (by omega)
  · skip
    refine ga_aload_n (pc := 8) dX8_parts_8 rfl ?_
    refine mm_g43 (pc := 9) (z := I 43) rfl dX8_parts_9 ?_
    refine ga_iconst (pc := 12) dX8_parts_12 ?_
    refine ga_icmp_lt (pc := 13) (tgt := 20) dX8_parts_13 rfl (by omega) (by omega) (fun c13 => ?_) (fun c13 => ?_)
    · skip
      refine ga_iconst (pc := 20) dX8_parts_20 ?_
      exact jn21 0 (by first | (rw [if_pos (by omega)]; done) | rw [if_neg (by omega)]) (by omega)
    · skip
      refine ga_iconst (pc := 16) dX8_parts_16 ?_
      refine ga_goto (pc := 17) (tgt := 21) dX8_parts_17 rfl ?_
      exact jn21 1 (by first | (rw [if_pos (by omega)]; done) | rw [if_neg (by omega)]) (by omega)
theorem k_X8_parts {X : ga_X} {nL : Nat} {cc : ByteArray} {mo : Nat} {ad : Nat → Nat} {I : Nat → Int} {A : Nat → Int → Int} {d pc : Nat} {L : List (Option Value)} {st : List Value} {x : Int} {t : zRs} {z : Int} {I2 : Nat → Int} {A2 : Nat → Int → Int} (ok : mOk mo ad) (htt : I 42 = t.1 ∧ A 41 = t.2) (ht : 0 ≤ t.1 ∧ t.1 ≤ 30) (hkd : (0 ≤ I 43 ∧ I 43 ≤ 6) ∧ (0 ≤ I 44 ∧ I 44 ≤ 5) ∧ -2 ≤ I 45 ∧ I 45 ≤ 2) (hx0 : zI32 x) (hpd : I 46 = 0) (hz : (zPa (I 43) (I 44) (I 45) x) = z) (hI2 : (uN (uN I 42 ((zQr (I 43) (I 44) (I 45) t).1)) 46 (if I 44 = I 45 then 1 else 0)) = I2) (hA2 : (uN A 41 ((zQr (I 43) (I 44) (I 45) t).2)) = A2) (hR : 4 + 1 ≤ d ∧ 19 + 4 + 64 * 4 ≤ 64 * d) (hs : (st.map fun v => v.category).sum ≤ 8) (dd : decode cc pc = .ok (.invokevirtual 385, 3)) (kk : G X (gR d) RX8 nL cc (mH mo ad I2 A2) 0 0 (pc + 3) L (.int (iI z) :: st)) : G X (gR d) RX8 nL cc (mH mo ad I A) 0 0 pc L (.int (iI x) :: .ref mo :: st) :=
  mm_run ok (m_X8_parts _ _ mo ad I A x t htt ht hkd hx0 hpd) (lw_V q2113 q2115 qs95 q113 q2116) rfl (show ga_nn' yX8_parts 1 from (by unfold ga_nn'; decide +kernel)) hR hs dd rfl (fun v I1 A1 hp => by
    obtain ⟨r, rfl, hp⟩ := hp
    obtain ⟨e1, rfl, rfl⟩ := hp
    subst hz
    subst hI2
    subst hA2
    rw [e1]
    exact kk)
set_option maxHeartbeats 4000000 in
set_option maxRecDepth 100000 in
theorem m_X8_plainCloses (l : Launch) (D : ga_G) (mo : Nat) (ad : Nat → Nat) (I : Nat → Int) (A : Nat → Int → Int) (x : Int) (t : zRs) (htt : I 42 = t.1 ∧ A 41 = t.2) (ht : 0 ≤ t.1 ∧ t.1 ≤ 30) (hkd : (0 ≤ I 43 ∧ I 43 ≤ 6) ∧ (0 ≤ I 44 ∧ I 44 ≤ 5) ∧ -2 ≤ I 45 ∧ I 45 ≤ 2) (hpd : I 46 = 0) : mM l D yX8_plainCloses (ws_ yX8_plainCloses cX8_plainCloses 3 (some .int)) (gR 7) [.int (iI x)] mo ad I A (mI (fun r I1 A1 => r = (zPc (I 43) (I 44) (I 45) x) ∧ I1 = (uN (uN I 42 ((zPcr (I 43) (I 44) (I 45) t).1)) 46 (if I 44 = I 45 then 1 else 0)) ∧ A1 = (uN A 41 ((zPcr (I 43) (I 44) (I 45) t).2)))) := by
  refine mm_met 1 rfl (Nat.le_of_ble_eq_true rfl) (L0 := [some (.ref mo), some (.int (iI x)), none]) rfl (fun X ok hE => ?_)
  refine ga_aload_n (pc := 0) dX8_plainCloses_0 rfl ?_
  refine ga_bipush (pc := 1) dX8_plainCloses_1 rfl ?_
  refine k_X8_ran (pc := 3) (b := 13) (t := t) (I2 := (uN I 42 ((zRan 13 t).1))) (A2 := (uN A 41 ((zRan 13 t).2))) ok (htt) (ht) (rfl) (rfl) ⟨Nat.le_of_ble_eq_true rfl, Nat.le_of_ble_eq_true rfl⟩ (Nat.le_of_ble_eq_true rfl) dX8_plainCloses_3 ?_
  refine ga_aload_n (pc := 6) dX8_plainCloses_6 rfl ?_
  refine ga_iload_n (pc := 7) dX8_plainCloses_7 rfl ?_
  refine k_X8_turns (pc := 8) (x := x) (t := (zRan 13 t)) (z := zTu ((I 43)) ((I 44)) ((I 45)) x) (I2 := (uN I 42 ((zTr ((I 43)) (zRan 13 t)).1))) (A2 := (uN A 41 ((zTr ((I 43)) (zRan 13 t)).2))) ok (show ((zRan 13 t).1) = (zRan 13 t).1 ∧ ((zRan 13 t).2) = (zRan 13 t).2 from ⟨rfl, rfl⟩) (show 0 ≤ (zRan 13 t).1 ∧ (zRan 13 t).1 ≤ 30 from zRan_r _ ht) (show (0 ≤ (I 43) ∧ (I 43) ≤ 6) ∧ (0 ≤ (I 44) ∧ (I 44) ≤ 5) ∧ -2 ≤ (I 45) ∧ (I 45) ≤ 2 from by first | exact hkd | omega) (rfl) (by funext j; by_cases e0 : j = 42; (subst e0; rfl); simp only [uN, if_neg e0]) (by funext j; by_cases e0 : j = 41; (subst e0; rfl); simp only [uN, if_neg e0]) ⟨Nat.le_of_ble_eq_true rfl, Nat.le_of_ble_eq_true rfl⟩ (Nat.le_of_ble_eq_true rfl) dX8_plainCloses_8 ?_
  refine ga_istore_n (pc := 11) (L1 := [some (.ref mo), some (.int (iI x)), some (.int (iI (zTu ((I 43)) ((I 44)) ((I 45)) x)))]) dX8_plainCloses_11 rfl (by decide) rfl ?_
  refine ga_iload_n (pc := 12) dX8_plainCloses_12 rfl ?_
  refine ga_aload_n (pc := 13) dX8_plainCloses_13 rfl ?_
  refine ga_iload_n (pc := 14) dX8_plainCloses_14 rfl ?_
  refine ga_iconst (pc := 15) dX8_plainCloses_15 ?_
  refine ga_iadd (pc := 16) dX8_plainCloses_16 ?_
  refine ga_wi (pc := 17) (b := zM (x + 2)) (iI_m _) ?_
  refine k_X8_parts (pc := 17) (x := (zM (x + 2))) (t := (zTr (I 43) (zRan 13 t))) (z := zPa ((I 43)) ((I 44)) ((I 45)) (zM (x + 2))) (I2 := (uN (uN I 42 ((zQr ((I 43)) ((I 44)) ((I 45)) (zTr (I 43) (zRan 13 t))).1)) 46 (if (I 44) = (I 45) then 1 else 0))) (A2 := (uN A 41 ((zQr ((I 43)) ((I 44)) ((I 45)) (zTr (I 43) (zRan 13 t))).2))) ok (show ((zTr ((I 43)) (zRan 13 t)).1) = (zTr (I 43) (zRan 13 t)).1 ∧ ((zTr ((I 43)) (zRan 13 t)).2) = (zTr (I 43) (zRan 13 t)).2 from ⟨rfl, rfl⟩) (show 0 ≤ (zTr (I 43) (zRan 13 t)).1 ∧ (zTr (I 43) (zRan 13 t)).1 ≤ 30 from zTr_r _ (zRan_r _ ht)) (show (0 ≤ (I 43) ∧ (I 43) ≤ 6) ∧ (0 ≤ (I 44) ∧ (I 44) ≤ 5) ∧ -2 ≤ (I 45) ∧ (I 45) ≤ 2 from by first | exact hkd | omega) (show zI32 (zM (x + 2)) from zM_r _) (show (I 46) = 0 from by first | exact hpd | omega) (rfl) (by funext j; by_cases e0 : j = 42; (subst e0; rfl); by_cases e1 : j = 46; (subst e1; rfl); simp only [uN, if_neg e0, if_neg e1]) (by funext j; by_cases e0 : j = 41; (subst e0; rfl); simp only [uN, if_neg e0]) ⟨Nat.le_of_ble_eq_true rfl, Nat.le_of_ble_eq_true rfl⟩ (Nat.le_of_ble_eq_true rfl) dX8_plainCloses_17 ?_
  refine ga_ixor (pc := 20) dX8_plainCloses_20 ?_
  exact mm_iret hE dX8_plainCloses_21 (⟨_, rfl, rfl, by funext j; by_cases e0 : j = 42; (subst e0; rfl); by_cases e1 : j = 46; (subst e1; rfl); simp only [uN, if_neg e0, if_neg e1], by funext j; by_cases e0 : j = 41; (subst e0; rfl); simp only [uN, if_neg e0]⟩)
theorem k_X8_plainCloses {X : ga_X} {nL : Nat} {cc : ByteArray} {mo : Nat} {ad : Nat → Nat} {I : Nat → Int} {A : Nat → Int → Int} {d pc : Nat} {L : List (Option Value)} {st : List Value} {x : Int} {t : zRs} {z : Int} {I2 : Nat → Int} {A2 : Nat → Int → Int} (ok : mOk mo ad) (htt : I 42 = t.1 ∧ A 41 = t.2) (ht : 0 ≤ t.1 ∧ t.1 ≤ 30) (hkd : (0 ≤ I 43 ∧ I 43 ≤ 6) ∧ (0 ≤ I 44 ∧ I 44 ≤ 5) ∧ -2 ≤ I 45 ∧ I 45 ≤ 2) (hpd : I 46 = 0) (hz : (zPc (I 43) (I 44) (I 45) x) = z) (hI2 : (uN (uN I 42 ((zPcr (I 43) (I 44) (I 45) t).1)) 46 (if I 44 = I 45 then 1 else 0)) = I2) (hA2 : (uN A 41 ((zPcr (I 43) (I 44) (I 45) t).2)) = A2) (hR : 7 + 1 ≤ d ∧ 19 + 3 + 64 * 7 ≤ 64 * d) (hs : (st.map fun v => v.category).sum ≤ 8) (dd : decode cc pc = .ok (.invokevirtual 388, 3)) (kk : G X (gR d) RX8 nL cc (mH mo ad I2 A2) 0 0 (pc + 3) L (.int (iI z) :: st)) : G X (gR d) RX8 nL cc (mH mo ad I A) 0 0 pc L (.int (iI x) :: .ref mo :: st) :=
  mm_run ok (m_X8_plainCloses _ _ mo ad I A x t htt ht hkd hpd) (lw_V q2125 q2127 qs98 q113 q2128) rfl (show ga_nn' yX8_plainCloses 1 from (by unfold ga_nn'; decide +kernel)) hR hs dd rfl (fun v I1 A1 hp => by
    obtain ⟨r, rfl, hp⟩ := hp
    obtain ⟨e1, rfl, rfl⟩ := hp
    subst hz
    subst hI2
    subst hA2
    rw [e1]
    exact kk)
set_option maxHeartbeats 4000000 in
set_option maxRecDepth 100000 in
theorem m_X8_evenCloses (l : Launch) (D : ga_G) (mo : Nat) (ad : Nat → Nat) (I : Nat → Int) (A : Nat → Int → Int) (x : Int) (t : zRs) (htt : I 42 = t.1 ∧ A 41 = t.2) (ht : 0 ≤ t.1 ∧ t.1 ≤ 30) (hkd : (0 ≤ I 43 ∧ I 43 ≤ 6) ∧ (0 ≤ I 44 ∧ I 44 ≤ 5) ∧ -2 ≤ I 45 ∧ I 45 ≤ 2) (hpd : I 46 = 0) : mM l D yX8_evenCloses (ws_ yX8_evenCloses cX8_evenCloses 3 (some .int)) (gR 8) [.int (iI x)] mo ad I A (mI (fun r I1 A1 => r = (zEc (I 43) (I 44) (I 45) x) ∧ I1 = (uN (uN I 42 ((zEcr (I 43) (I 44) (I 45) t).1)) 46 (if I 44 = I 45 then 1 else 0)) ∧ A1 = (uN A 41 ((zEcr (I 43) (I 44) (I 45) t).2)))) := by
  refine mm_met 1 rfl (Nat.le_of_ble_eq_true rfl) (L0 := [some (.ref mo), some (.int (iI x)), none]) rfl (fun X ok hE => ?_)
  refine ga_aload_n (pc := 0) dX8_evenCloses_0 rfl ?_
  refine ga_bipush (pc := 1) dX8_evenCloses_1 rfl ?_
  refine k_X8_ran (pc := 3) (b := 60) (t := t) (I2 := (uN I 42 ((zRan 60 t).1))) (A2 := (uN A 41 ((zRan 60 t).2))) ok (htt) (ht) (rfl) (rfl) ⟨Nat.le_of_ble_eq_true rfl, Nat.le_of_ble_eq_true rfl⟩ (Nat.le_of_ble_eq_true rfl) dX8_evenCloses_3 ?_
  refine ga_aload_n (pc := 6) dX8_evenCloses_6 rfl ?_
  refine ga_iload_n (pc := 7) dX8_evenCloses_7 rfl ?_
  refine k_X8_plainCloses (pc := 8) (x := x) (t := (zRan 60 t)) (z := zPc ((I 43)) ((I 44)) ((I 45)) x) (I2 := (uN (uN I 42 ((zPcr ((I 43)) ((I 44)) ((I 45)) (zRan 60 t)).1)) 46 (if (I 44) = (I 45) then 1 else 0))) (A2 := (uN A 41 ((zPcr ((I 43)) ((I 44)) ((I 45)) (zRan 60 t)).2))) ok (show ((zRan 60 t).1) = (zRan 60 t).1 ∧ ((zRan 60 t).2) = (zRan 60 t).2 from ⟨rfl, rfl⟩) (show 0 ≤ (zRan 60 t).1 ∧ (zRan 60 t).1 ≤ 30 from zRan_r _ ht) (show (0 ≤ (I 43) ∧ (I 43) ≤ 6) ∧ (0 ≤ (I 44) ∧ (I 44) ≤ 5) ∧ -2 ≤ (I 45) ∧ (I 45) ≤ 2 from by first | exact hkd | omega) (show (I 46) = 0 from by first | exact hpd | omega) (rfl) (by funext j; by_cases e0 : j = 42; (subst e0; rfl); by_cases e1 : j = 46; (subst e1; rfl); simp only [uN, if_neg e0, if_neg e1]) (by funext j; by_cases e0 : j = 41; (subst e0; rfl); simp only [uN, if_neg e0]) ⟨Nat.le_of_ble_eq_true rfl, Nat.le_of_ble_eq_true rfl⟩ (Nat.le_of_ble_eq_true rfl) dX8_evenCloses_8 ?_
  refine ga_istore_n (pc := 11) (L1 := [some (.ref mo), some (.int (iI x)), some (.int (iI (zPc ((I 43)) ((I 44)) ((I 45)) x)))]) dX8_evenCloses_11 rfl (by decide) rfl ?_
  refine ga_aload_n (pc := 12) dX8_evenCloses_12 rfl ?_
  refine mm_g46 (pc := 13) (z := if (I 44) = (I 45) then 1 else 0) rfl dX8_evenCloses_13 ?_
  refine ga_if_eq (pc := 16) (tgt := 23) dX8_evenCloses_16 rfl (by split <;> exact ⟨by decide, by decide⟩) (fun c16 => ?_) (fun c16 => ?_)
  · skip
    have hsh9 : ¬ I 44 = I 45 := fun e => by rw [if_pos e] at c16; omega
    refine ga_iload_n (pc := 23) dX8_evenCloses_23 rfl ?_
    refine ga_aload_n (pc := 24) dX8_evenCloses_24 rfl ?_
    refine ga_iconst (pc := 25) dX8_evenCloses_25 ?_
    refine k_X8_turns (pc := 26) (x := 1) (t := (zPcr (I 43) (I 44) (I 45) (zRan 60 t))) (z := zTu ((I 43)) ((I 44)) ((I 45)) 1) (I2 := (uN (uN I 42 ((zTr ((I 43)) (zPcr (I 43) (I 44) (I 45) (zRan 60 t))).1)) 46 (if (I 44) = (I 45) then 1 else 0))) (A2 := (uN A 41 ((zTr ((I 43)) (zPcr (I 43) (I 44) (I 45) (zRan 60 t))).2))) ok (show ((zPcr ((I 43)) ((I 44)) ((I 45)) (zRan 60 t)).1) = (zPcr (I 43) (I 44) (I 45) (zRan 60 t)).1 ∧ ((zPcr ((I 43)) ((I 44)) ((I 45)) (zRan 60 t)).2) = (zPcr (I 43) (I 44) (I 45) (zRan 60 t)).2 from ⟨rfl, rfl⟩) (show 0 ≤ (zPcr (I 43) (I 44) (I 45) (zRan 60 t)).1 ∧ (zPcr (I 43) (I 44) (I 45) (zRan 60 t)).1 ≤ 30 from zPcr_r _ _ _ (zRan_r _ ht)) (show (0 ≤ (I 43) ∧ (I 43) ≤ 6) ∧ (0 ≤ (I 44) ∧ (I 44) ≤ 5) ∧ -2 ≤ (I 45) ∧ (I 45) ≤ 2 from by first | exact hkd | omega) (rfl) (by funext j; by_cases e0 : j = 42; (subst e0; rfl); by_cases e1 : j = 46; (subst e1; rfl); simp only [uN, if_neg e0, if_neg e1]) (by funext j; by_cases e0 : j = 41; (subst e0; rfl); simp only [uN, if_neg e0]) ⟨Nat.le_of_ble_eq_true rfl, Nat.le_of_ble_eq_true rfl⟩ (Nat.le_of_ble_eq_true rfl) dX8_evenCloses_26 ?_
    refine ga_iadd (pc := 29) dX8_evenCloses_29 ?_
    refine ga_wi (pc := 30) (b := zM ((zPc ((I 43)) ((I 44)) ((I 45)) x) + (zTu ((I 43)) ((I 44)) ((I 45)) 1))) (iI_m _) ?_
    exact mm_iret hE dX8_evenCloses_30 (⟨_, rfl, by unfold zEc; first | (rw [if_pos hsh9]; done) | rw [if_neg hsh9], by funext j; by_cases e0 : j = 42; (subst e0; exact (show ((zTr ((I 43)) (zPcr (I 43) (I 44) (I 45) (zRan 60 t))).1) = ((zEcr (I 43) (I 44) (I 45) t).1) from by unfold zEcr; first | (rw [if_pos hsh9]; done) | rw [if_neg hsh9])); by_cases e1 : j = 46; (subst e1; exact (show (if (I 44) = (I 45) then 1 else 0) = (if I 44 = I 45 then 1 else 0) from rfl)); simp only [uN, if_neg e0, if_neg e1], by funext j; by_cases e0 : j = 41; (subst e0; exact (show ((zTr ((I 43)) (zPcr (I 43) (I 44) (I 45) (zRan 60 t))).2) = ((zEcr (I 43) (I 44) (I 45) t).2) from by unfold zEcr; first | (rw [if_pos hsh9]; done) | rw [if_neg hsh9])); simp only [uN, if_neg e0]⟩)
  · skip
    have hsh9 : I 44 = I 45 := by (by_cases e : I 44 = I 45; exact e; rw [if_neg e] at c16; omega)
    refine ga_iconst (pc := 19) dX8_evenCloses_19 ?_
    refine ga_goto (pc := 20) (tgt := 30) dX8_evenCloses_20 rfl ?_
    exact mm_iret hE dX8_evenCloses_30 (⟨_, rfl, by unfold zEc; first | (rw [if_pos hsh9]; done) | rw [if_neg hsh9], by funext j; by_cases e0 : j = 42; (subst e0; exact (show ((zPcr ((I 43)) ((I 44)) ((I 45)) (zRan 60 t)).1) = ((zEcr (I 43) (I 44) (I 45) t).1) from by unfold zEcr; first | (rw [if_pos hsh9]; done) | rw [if_neg hsh9])); by_cases e1 : j = 46; (subst e1; exact (show (if (I 44) = (I 45) then 1 else 0) = (if I 44 = I 45 then 1 else 0) from rfl)); simp only [uN, if_neg e0, if_neg e1], by funext j; by_cases e0 : j = 41; (subst e0; exact (show ((zPcr ((I 43)) ((I 44)) ((I 45)) (zRan 60 t)).2) = ((zEcr (I 43) (I 44) (I 45) t).2) from by unfold zEcr; first | (rw [if_pos hsh9]; done) | rw [if_neg hsh9])); simp only [uN, if_neg e0]⟩)
theorem k_X8_evenCloses {X : ga_X} {nL : Nat} {cc : ByteArray} {mo : Nat} {ad : Nat → Nat} {I : Nat → Int} {A : Nat → Int → Int} {d pc : Nat} {L : List (Option Value)} {st : List Value} {x : Int} {t : zRs} {z : Int} {I2 : Nat → Int} {A2 : Nat → Int → Int} (ok : mOk mo ad) (htt : I 42 = t.1 ∧ A 41 = t.2) (ht : 0 ≤ t.1 ∧ t.1 ≤ 30) (hkd : (0 ≤ I 43 ∧ I 43 ≤ 6) ∧ (0 ≤ I 44 ∧ I 44 ≤ 5) ∧ -2 ≤ I 45 ∧ I 45 ≤ 2) (hpd : I 46 = 0) (hz : (zEc (I 43) (I 44) (I 45) x) = z) (hI2 : (uN (uN I 42 ((zEcr (I 43) (I 44) (I 45) t).1)) 46 (if I 44 = I 45 then 1 else 0)) = I2) (hA2 : (uN A 41 ((zEcr (I 43) (I 44) (I 45) t).2)) = A2) (hR : 8 + 1 ≤ d ∧ 19 + 3 + 64 * 8 ≤ 64 * d) (hs : (st.map fun v => v.category).sum ≤ 8) (dd : decode cc pc = .ok (.invokevirtual 391, 3)) (kk : G X (gR d) RX8 nL cc (mH mo ad I2 A2) 0 0 (pc + 3) L (.int (iI z) :: st)) : G X (gR d) RX8 nL cc (mH mo ad I A) 0 0 pc L (.int (iI x) :: .ref mo :: st) :=
  mm_run ok (m_X8_evenCloses _ _ mo ad I A x t htt ht hkd hpd) (lw_V q2121 q2123 qs97 q113 q2124) rfl (show ga_nn' yX8_evenCloses 1 from (by unfold ga_nn'; decide +kernel)) hR hs dd rfl (fun v I1 A1 hp => by
    obtain ⟨r, rfl, hp⟩ := hp
    obtain ⟨e1, rfl, rfl⟩ := hp
    subst hz
    subst hI2
    subst hA2
    rw [e1]
    exact kk)
set_option maxHeartbeats 4000000 in
set_option maxRecDepth 100000 in
theorem m_X8_closes (l : Launch) (D : ga_G) (mo : Nat) (ad : Nat → Nat) (I : Nat → Int) (A : Nat → Int → Int) (x : Int) (t : zRs) (htt : I 42 = t.1 ∧ A 41 = t.2) (ht : 0 ≤ t.1 ∧ t.1 ≤ 30) (hkd : (0 ≤ I 43 ∧ I 43 ≤ 6) ∧ (0 ≤ I 44 ∧ I 44 ≤ 5) ∧ -2 ≤ I 45 ∧ I 45 ≤ 2) (hpd : I 46 = 0) : mM l D yX8_closes (ws_ yX8_closes cX8_closes 2 (some .int)) (gR 9) [.int (iI x)] mo ad I A (mI (fun r I1 A1 => r = (zCl (I 43) (I 44) (I 45) x) ∧ I1 = (uN (uN I 42 ((zClr (I 43) (I 44) (I 45) t).1)) 46 (if I 44 = I 45 then 1 else 0)) ∧ A1 = (uN A 41 ((zClr (I 43) (I 44) (I 45) t).2)))) := by
  refine mm_met 0 rfl (Nat.le_of_ble_eq_true rfl) (L0 := [some (.ref mo), some (.int (iI x))]) rfl (fun X ok hE => ?_)
  refine ga_aload_n (pc := 0) dX8_closes_0 rfl ?_
  refine mm_g43 (pc := 1) (z := I 43) rfl dX8_closes_1 ?_
  refine ga_bipush (pc := 4) dX8_closes_4 rfl ?_
  refine ga_icmp_ne (pc := 6) (tgt := 25) dX8_closes_6 rfl (by omega) (by omega) (fun c6 => ?_) (fun c6 => ?_)
  · skip
    refine ga_aload_n (pc := 25) dX8_closes_25 rfl ?_
    refine mm_g43 (pc := 26) (z := I 43) rfl dX8_closes_26 ?_
    refine ga_iconst (pc := 29) dX8_closes_29 ?_
    refine ga_icmp_ne (pc := 30) (tgt := 41) dX8_closes_30 rfl (by omega) (by omega) (fun c30 => ?_) (fun c30 => ?_)
    · skip
      refine ga_aload_n (pc := 41) dX8_closes_41 rfl ?_
      refine ga_iload_n (pc := 42) dX8_closes_42 rfl ?_
      refine k_X8_plainCloses (pc := 43) (x := x) (t := t) (z := zPc (I 43) (I 44) (I 45) x) (I2 := (uN (uN I 42 ((zPcr (I 43) (I 44) (I 45) t).1)) 46 (if I 44 = I 45 then 1 else 0))) (A2 := (uN A 41 ((zPcr (I 43) (I 44) (I 45) t).2))) ok (htt) (ht) (by first | exact hkd | omega) (by first | exact hpd | omega) (rfl) (rfl) (rfl) ⟨Nat.le_of_ble_eq_true rfl, Nat.le_of_ble_eq_true rfl⟩ (Nat.le_of_ble_eq_true rfl) dX8_closes_43 ?_
      exact mm_iret hE dX8_closes_46 (⟨_, rfl, by unfold zCl; first | (rw [if_pos (by omega)]; done) | (rw [if_neg (by omega), if_pos (by omega)]; done) | (rw [if_neg (by omega), if_neg (by omega)]; done) | (rw [if_neg (by omega), if_neg (by omega), if_pos (by omega)]; done) | (rw [if_neg (by omega), if_neg (by omega), if_neg (by omega)]), by funext j; by_cases e0 : j = 42; (subst e0; exact (show ((zPcr (I 43) (I 44) (I 45) t).1) = ((zClr (I 43) (I 44) (I 45) t).1) from by unfold zClr; first | (rw [if_pos (by omega)]; done) | (rw [if_neg (by omega), if_pos (by omega)]; done) | (rw [if_neg (by omega), if_neg (by omega)]; done) | (rw [if_neg (by omega), if_neg (by omega), if_pos (by omega)]; done) | (rw [if_neg (by omega), if_neg (by omega), if_neg (by omega)]))); by_cases e1 : j = 46; (subst e1; exact (show (if I 44 = I 45 then 1 else 0) = (if I 44 = I 45 then 1 else 0) from rfl)); simp only [uN, if_neg e0, if_neg e1], by funext j; by_cases e0 : j = 41; (subst e0; exact (show ((zPcr (I 43) (I 44) (I 45) t).2) = ((zClr (I 43) (I 44) (I 45) t).2) from by unfold zClr; first | (rw [if_pos (by omega)]; done) | (rw [if_neg (by omega), if_pos (by omega)]; done) | (rw [if_neg (by omega), if_neg (by omega)]; done) | (rw [if_neg (by omega), if_neg (by omega), if_pos (by omega)]; done) | (rw [if_neg (by omega), if_neg (by omega), if_neg (by omega)]))); simp only [uN, if_neg e0]⟩)
    · skip
      refine ga_aload_n (pc := 33) dX8_closes_33 rfl ?_
      refine ga_iload_n (pc := 34) dX8_closes_34 rfl ?_
      refine k_X8_evenCloses (pc := 35) (x := x) (t := t) (z := zEc (I 43) (I 44) (I 45) x) (I2 := (uN (uN I 42 ((zEcr (I 43) (I 44) (I 45) t).1)) 46 (if I 44 = I 45 then 1 else 0))) (A2 := (uN A 41 ((zEcr (I 43) (I 44) (I 45) t).2))) ok (htt) (ht) (by first | exact hkd | omega) (by first | exact hpd | omega) (rfl) (rfl) (rfl) ⟨Nat.le_of_ble_eq_true rfl, Nat.le_of_ble_eq_true rfl⟩ (Nat.le_of_ble_eq_true rfl) dX8_closes_35 ?_
      refine ga_goto (pc := 38) (tgt := 46) dX8_closes_38 rfl ?_
      exact mm_iret hE dX8_closes_46 (⟨_, rfl, by unfold zCl; first | (rw [if_pos (by omega)]; done) | (rw [if_neg (by omega), if_pos (by omega)]; done) | (rw [if_neg (by omega), if_neg (by omega)]; done) | (rw [if_neg (by omega), if_neg (by omega), if_pos (by omega)]; done) | (rw [if_neg (by omega), if_neg (by omega), if_neg (by omega)]), by funext j; by_cases e0 : j = 42; (subst e0; exact (show ((zEcr (I 43) (I 44) (I 45) t).1) = ((zClr (I 43) (I 44) (I 45) t).1) from by unfold zClr; first | (rw [if_pos (by omega)]; done) | (rw [if_neg (by omega), if_pos (by omega)]; done) | (rw [if_neg (by omega), if_neg (by omega)]; done) | (rw [if_neg (by omega), if_neg (by omega), if_pos (by omega)]; done) | (rw [if_neg (by omega), if_neg (by omega), if_neg (by omega)]))); by_cases e1 : j = 46; (subst e1; exact (show (if I 44 = I 45 then 1 else 0) = (if I 44 = I 45 then 1 else 0) from rfl)); simp only [uN, if_neg e0, if_neg e1], by funext j; by_cases e0 : j = 41; (subst e0; exact (show ((zEcr (I 43) (I 44) (I 45) t).2) = ((zClr (I 43) (I 44) (I 45) t).2) from by unfold zClr; first | (rw [if_pos (by omega)]; done) | (rw [if_neg (by omega), if_pos (by omega)]; done) | (rw [if_neg (by omega), if_neg (by omega)]; done) | (rw [if_neg (by omega), if_neg (by omega), if_pos (by omega)]; done) | (rw [if_neg (by omega), if_neg (by omega), if_neg (by omega)]))); simp only [uN, if_neg e0]⟩)
  · skip
    refine ga_aload_n (pc := 9) dX8_closes_9 rfl ?_
    refine ga_bipush (pc := 10) dX8_closes_10 rfl ?_
    refine k_X8_ran (pc := 12) (b := 71) (t := t) (I2 := (uN I 42 ((zRan 71 t).1))) (A2 := (uN A 41 ((zRan 71 t).2))) ok (htt) (ht) (rfl) (rfl) ⟨Nat.le_of_ble_eq_true rfl, Nat.le_of_ble_eq_true rfl⟩ (Nat.le_of_ble_eq_true rfl) dX8_closes_12 ?_
    refine ga_aload_n (pc := 15) dX8_closes_15 rfl ?_
    refine ga_iload_n (pc := 16) dX8_closes_16 rfl ?_
    refine ga_iconst (pc := 17) dX8_closes_17 ?_
    refine ga_imul (pc := 18) dX8_closes_18 ?_
    refine k_X8_evenCloses (pc := 19) (x := (x * 2)) (t := (zRan 71 t)) (z := zEc ((I 43)) ((I 44)) ((I 45)) (x * 2)) (I2 := (uN (uN I 42 ((zEcr ((I 43)) ((I 44)) ((I 45)) (zRan 71 t)).1)) 46 (if (I 44) = (I 45) then 1 else 0))) (A2 := (uN A 41 ((zEcr ((I 43)) ((I 44)) ((I 45)) (zRan 71 t)).2))) ok (show ((zRan 71 t).1) = (zRan 71 t).1 ∧ ((zRan 71 t).2) = (zRan 71 t).2 from ⟨rfl, rfl⟩) (show 0 ≤ (zRan 71 t).1 ∧ (zRan 71 t).1 ≤ 30 from zRan_r _ ht) (show (0 ≤ (I 43) ∧ (I 43) ≤ 6) ∧ (0 ≤ (I 44) ∧ (I 44) ≤ 5) ∧ -2 ≤ (I 45) ∧ (I 45) ≤ 2 from by first | exact hkd | omega) (show (I 46) = 0 from by first | exact hpd | omega) (rfl) (by funext j; by_cases e0 : j = 42; (subst e0; rfl); by_cases e1 : j = 46; (subst e1; rfl); simp only [uN, if_neg e0, if_neg e1]) (by funext j; by_cases e0 : j = 41; (subst e0; rfl); simp only [uN, if_neg e0]) ⟨Nat.le_of_ble_eq_true rfl, Nat.le_of_ble_eq_true rfl⟩ (Nat.le_of_ble_eq_true rfl) dX8_closes_19 ?_
    refine ga_iconst (pc := 22) dX8_closes_22 ?_
    refine ga_isub (pc := 23) dX8_closes_23 ?_
    refine ga_wi (pc := 24) (b := zM ((zEc ((I 43)) ((I 44)) ((I 45)) (x * 2)) - 5)) (iI_m _) ?_
    exact mm_iret hE dX8_closes_24 (⟨_, rfl, by unfold zCl; first | (rw [if_pos (by omega)]; done) | (rw [if_neg (by omega), if_pos (by omega)]; done) | (rw [if_neg (by omega), if_neg (by omega)]; done) | (rw [if_neg (by omega), if_neg (by omega), if_pos (by omega)]; done) | (rw [if_neg (by omega), if_neg (by omega), if_neg (by omega)]), by funext j; by_cases e0 : j = 42; (subst e0; exact (show ((zEcr ((I 43)) ((I 44)) ((I 45)) (zRan 71 t)).1) = ((zClr (I 43) (I 44) (I 45) t).1) from by unfold zClr; first | (rw [if_pos (by omega)]; done) | (rw [if_neg (by omega), if_pos (by omega)]; done) | (rw [if_neg (by omega), if_neg (by omega)]; done) | (rw [if_neg (by omega), if_neg (by omega), if_pos (by omega)]; done) | (rw [if_neg (by omega), if_neg (by omega), if_neg (by omega)]))); by_cases e1 : j = 46; (subst e1; exact (show (if (I 44) = (I 45) then 1 else 0) = (if I 44 = I 45 then 1 else 0) from rfl)); simp only [uN, if_neg e0, if_neg e1], by funext j; by_cases e0 : j = 41; (subst e0; exact (show ((zEcr ((I 43)) ((I 44)) ((I 45)) (zRan 71 t)).2) = ((zClr (I 43) (I 44) (I 45) t).2) from by unfold zClr; first | (rw [if_pos (by omega)]; done) | (rw [if_neg (by omega), if_pos (by omega)]; done) | (rw [if_neg (by omega), if_neg (by omega)]; done) | (rw [if_neg (by omega), if_neg (by omega), if_pos (by omega)]; done) | (rw [if_neg (by omega), if_neg (by omega), if_neg (by omega)]))); simp only [uN, if_neg e0]⟩)
theorem k_X8_closes {X : ga_X} {nL : Nat} {cc : ByteArray} {mo : Nat} {ad : Nat → Nat} {I : Nat → Int} {A : Nat → Int → Int} {d pc : Nat} {L : List (Option Value)} {st : List Value} {x : Int} {t : zRs} {z : Int} {I2 : Nat → Int} {A2 : Nat → Int → Int} (ok : mOk mo ad) (htt : I 42 = t.1 ∧ A 41 = t.2) (ht : 0 ≤ t.1 ∧ t.1 ≤ 30) (hkd : (0 ≤ I 43 ∧ I 43 ≤ 6) ∧ (0 ≤ I 44 ∧ I 44 ≤ 5) ∧ -2 ≤ I 45 ∧ I 45 ≤ 2) (hpd : I 46 = 0) (hz : (zCl (I 43) (I 44) (I 45) x) = z) (hI2 : (uN (uN I 42 ((zClr (I 43) (I 44) (I 45) t).1)) 46 (if I 44 = I 45 then 1 else 0)) = I2) (hA2 : (uN A 41 ((zClr (I 43) (I 44) (I 45) t).2)) = A2) (hR : 9 + 1 ≤ d ∧ 19 + 2 + 64 * 9 ≤ 64 * d) (hs : (st.map fun v => v.category).sum ≤ 8) (dd : decode cc pc = .ok (.invokevirtual 394, 3)) (kk : G X (gR d) RX8 nL cc (mH mo ad I2 A2) 0 0 (pc + 3) L (.int (iI z) :: st)) : G X (gR d) RX8 nL cc (mH mo ad I A) 0 0 pc L (.int (iI x) :: .ref mo :: st) :=
  mm_run ok (m_X8_closes _ _ mo ad I A x t htt ht hkd hpd) (lw_V q2117 q2119 qs96 q113 q2120) rfl (show ga_nn' yX8_closes 1 from (by unfold ga_nn'; decide +kernel)) hR hs dd rfl (fun v I1 A1 hp => by
    obtain ⟨r, rfl, hp⟩ := hp
    obtain ⟨e1, rfl, rfl⟩ := hp
    subst hz
    subst hI2
    subst hA2
    rw [e1]
    exact kk)
/-! THE REFERENCE: what an act answers -/
def zAc (a kd y sh x : Int) : Int := if a = 0 then zWe kd y sh x else if a = 1 then zTu kd y sh x else if a = 2 then (if y = sh then -15 else zPa kd y sh x) else if y = sh then -15 else zCl kd y sh x
def zAr9 (a kd y sh : Int) (t : zRs) : zRs := if a = 0 then zWr kd t else if a = 1 then zTr kd t else if a = 2 then zQr kd y sh t else zClr kd y sh t
abbrev mAc (I : Nat → Int) (A : Nat → Int → Int) (s a : Int) : Prop := (0 ≤ s ∧ s ≤ 3) ∧ (0 ≤ a ∧ a ≤ 3) ∧ mHb I A s = 0
