set_option maxHeartbeats 4000000 in
set_option maxRecDepth 100000 in
theorem m_X8_firstOff (l : Launch) (D : ga_G) (mo : Nat) (ad : Nat → Nat) (I : Nat → Int) (A : Nat → Int → Int) (s kind shift de : Int) (hm : (1 ≤ I 3 ∧ I 3 ≤ 3) ∧ 1 ≤ I 4 ∧ I 4 ≤ 3) (he5 : tEn (A 0)) (h1 : (0 ≤ s ∧ s ≤ 3) ∧ (0 ≤ kind ∧ kind ≤ 6) ∧ (-2 ≤ shift ∧ shift ≤ 2) ∧ 1 ≤ de ∧ de < 2147483648) (hc : ∀ q : Int, 0 ≤ q → q < 9 → zI32 (A 36 (40 * s + q))) : mM l D yX8_firstOff (ws_ yX8_firstOff cX8_firstOff 9 (some .int)) (gR 3) [.int (iI s), .int (iI kind), .int (iI shift), .int (iI de)] mo ad I A (mI (fun r I1 A1 => r = (zOff (I 3) (I 4) A kind shift de (mCz A s)) ∧ I1 = I ∧ A1 = A)) := by
  refine mm_met 4 rfl (Nat.le_of_ble_eq_true rfl) (L0 := [some (.ref mo), some (.int (iI s)), some (.int (iI kind)), some (.int (iI shift)), some (.int (iI de)), none, none, none, none]) rfl (fun X ok hE => ?_)
  have hmn := mn_r hm
  refine ga_iconst (pc := 0) dX8_firstOff_0 ?_
  refine ga_istore (pc := 1) (L1 := [some (.ref mo), some (.int (iI s)), some (.int (iI kind)), some (.int (iI shift)), some (.int (iI de)), some (.int (iI 0)), none, none, none]) dX8_firstOff_1 rfl (by decide) rfl ?_
  have lp3 : ∀ (N3 : Nat) (p : Int), (0 ≤ p ∧ p ≤ I 3 * I 4) → ((zFind (fun p _ => zV (I 4) A kind shift (mCz A s) p (I 3 * I 4).toNat - de * mCe A (I 4) p) (I 3 * I 4) 0 (I 3 * I 4 - p).toNat p) = (zOff (I 3) (I 4) A kind shift de (mCz A s))) → (I 3 * I 4 - p).toNat < N3 → G X (gR 3) RX8 9 cX8_firstOff (mH mo ad I A) 0 0 3 [some (.ref mo), some (.int (iI s)), some (.int (iI kind)), some (.int (iI shift)), some (.int (iI de)), some (.int (iI p)), none, none, none] [] := by
    intro N3
    induction N3 with
    | zero => intro p hp hfi hN3; exact absurd hN3 (Nat.not_lt_zero _)
    | succ N3 ih3 =>
      intro p hp hfi hN3
      refine ga_iload (pc := 3) dX8_firstOff_3 rfl ?_
      refine ga_aload_n (pc := 5) dX8_firstOff_5 rfl ?_
      refine mm_g3 (pc := 6) (z := I 3) rfl dX8_firstOff_6 ?_
      refine ga_aload_n (pc := 9) dX8_firstOff_9 rfl ?_
      refine mm_g4 (pc := 10) (z := I 4) rfl dX8_firstOff_10 ?_
      refine ga_imul (pc := 13) dX8_firstOff_13 ?_
      refine ga_icmp_ge (pc := 14) (tgt := 135) dX8_firstOff_14 rfl (by omega) (by omega) (fun c14 => ?_) (fun c14 => ?_)
      · skip
        refine ga_aload_n (pc := 135) dX8_firstOff_135 rfl ?_
        refine mm_g3 (pc := 136) (z := I 3) rfl dX8_firstOff_136 ?_
        refine ga_aload_n (pc := 139) dX8_firstOff_139 rfl ?_
        refine mm_g4 (pc := 140) (z := I 4) rfl dX8_firstOff_140 ?_
        refine ga_imul (pc := 143) dX8_firstOff_143 ?_
        exact mm_iret hE dX8_firstOff_144 (⟨_, rfl, by rw [← hfi, zFind_x (by omega), show p = I 3 * I 4 by omega], rfl, rfl⟩)
      · skip
        have hdp := dm_r hm (show 0 ≤ p ∧ p < I 3 * I 4 by omega)
        refine ga_lconst (pc := 17) 0 dX8_firstOff_17 rfl ?_
        refine ga_lstore (pc := 18) (L1 := [some (.ref mo), some (.int (iI s)), some (.int (iI kind)), some (.int (iI shift)), some (.int (iI de)), some (.int (iI p)), some (.long (lI 0)), none, none]) dX8_firstOff_18 rfl (by decide) rfl ?_
        refine ga_iconst (pc := 20) dX8_firstOff_20 ?_
        refine ga_istore (pc := 21) (L1 := [some (.ref mo), some (.int (iI s)), some (.int (iI kind)), some (.int (iI shift)), some (.int (iI de)), some (.int (iI p)), some (.long (lI 0)), none, some (.int (iI 0))]) dX8_firstOff_21 rfl (by decide) rfl ?_
        have lp23 : ∀ (N23 : Nat) (v q : Int), (0 ≤ q ∧ q ≤ I 3 * I 4) → (v = zV (I 4) A kind shift (mCz A s) p q.toNat) → (I 3 * I 4 - q).toNat < N23 → G X (gR 3) RX8 9 cX8_firstOff (mH mo ad I A) 0 0 23 [some (.ref mo), some (.int (iI s)), some (.int (iI kind)), some (.int (iI shift)), some (.int (iI de)), some (.int (iI p)), some (.long (lI v)), none, some (.int (iI q))] [] := by
          intro N23
          induction N23 with
          | zero => intro v q hq hv hN23; exact absurd hN23 (Nat.not_lt_zero _)
          | succ N23 ih23 =>
            intro v q hq hv hN23
            refine ga_iload (pc := 23) dX8_firstOff_23 rfl ?_
            refine ga_aload_n (pc := 25) dX8_firstOff_25 rfl ?_
            refine mm_g3 (pc := 26) (z := I 3) rfl dX8_firstOff_26 ?_
            refine ga_aload_n (pc := 29) dX8_firstOff_29 rfl ?_
            refine mm_g4 (pc := 30) (z := I 4) rfl dX8_firstOff_30 ?_
            refine ga_imul (pc := 33) dX8_firstOff_33 ?_
            refine ga_icmp_ge (pc := 34) (tgt := 96) dX8_firstOff_34 rfl (by omega) (by omega) (fun c34 => ?_) (fun c34 => ?_)
            · skip
              have hvr := zV_r (n := I 4) (kind := kind) (p := p) he5 h1.2.2.1 (c := mCz A s) (k := q.toNat) (fun a a0 a1 => hc a a0 (by omega))
              rw [← hv] at hvr
              refine ga_lload (pc := 96) dX8_firstOff_96 rfl ?_
              refine ga_iload (pc := 98) dX8_firstOff_98 rfl ?_
              refine ga_i2l (pc := 100) dX8_firstOff_100 (by omega) ?_
              refine ga_aload_n (pc := 101) dX8_firstOff_101 rfl ?_
              refine ga_iconst (pc := 102) dX8_firstOff_102 ?_
              refine ga_iload (pc := 103) dX8_firstOff_103 rfl ?_
              refine ga_aload_n (pc := 105) dX8_firstOff_105 rfl ?_
              refine mm_g4 (pc := 106) (z := I 4) rfl dX8_firstOff_106 ?_
              refine ga_idiv (pc := 109) dX8_firstOff_109 (by omega) (by omega) (by omega) ?_
              refine ga_iload (pc := 110) dX8_firstOff_110 rfl ?_
              refine ga_aload_n (pc := 112) dX8_firstOff_112 rfl ?_
              refine mm_g4 (pc := 113) (z := I 4) rfl dX8_firstOff_113 ?_
              refine ga_irem (pc := 116) dX8_firstOff_116 (by omega) (by omega) (by omega) ?_
              refine k_X8_its (pc := 117) (t := 2) (i := (p.tdiv (I 4))) (j := (p.tmod (I 4))) (z := mE A 2 (p.tdiv (I 4)) (p.tmod (I 4))) ok (by first | exact h1 | omega) (rfl) ⟨Nat.le_of_ble_eq_true rfl, Nat.le_of_ble_eq_true rfl⟩ (Nat.le_of_ble_eq_true rfl) dX8_firstOff_117 ?_
              have hcr := mE_r he5 2 (p.tdiv (I 4)) (p.tmod (I 4))
              have hdc := zm_r (x := de) (y := mE A 2 (p.tdiv (I 4)) (p.tmod (I 4))) (a := 2147483648) (b := 50) (by omega) hcr
              refine ga_i2l (pc := 120) dX8_firstOff_120 (by omega) ?_
              refine ga_lmul (pc := 121) dX8_firstOff_121 ?_
              refine ga_lcmp (pc := 122) dX8_firstOff_122 (by omega) (by omega) ?_
              refine ga_ifc_eq (pc := 123) (tgt := 129) dX8_firstOff_123 rfl (fun c123 => ?_) (fun c123 => ?_)
              · have hz9 : zV (I 4) A kind shift (mCz A s) p (I 3 * I 4).toNat - de * mCe A (I 4) p = 0 := by rw [← show q = I 3 * I 4 by omega, ← hv]; unfold mCe; omega
                refine ga_iinc (pc := 129) (L1 := [some (.ref mo), some (.int (iI s)), some (.int (iI kind)), some (.int (iI shift)), some (.int (iI de)), some (.int (iI (p + 1))), some (.long (lI v)), none, some (.int (iI q))]) dX8_firstOff_129 rfl rfl (by decide) rfl ?_
                refine ga_goto (pc := 132) (tgt := 3) dX8_firstOff_132 rfl ?_
                refine ga_kill (pc := 3) 6 (L1 := [some (.ref mo), some (.int (iI s)), some (.int (iI kind)), some (.int (iI shift)), some (.int (iI de)), some (.int (iI (p + 1))), none, none, some (.int (iI q))]) rfl ?_
                refine ga_kill (pc := 3) 8 (L1 := [some (.ref mo), some (.int (iI s)), some (.int (iI kind)), some (.int (iI shift)), some (.int (iI de)), some (.int (iI (p + 1))), none, none, none]) rfl ?_
                exact ih3 (p + 1) (by omega) (by rw [← hfi, zFind_t (r := p) (by omega)]) (by omega)
              · have hz9 : zV (I 4) A kind shift (mCz A s) p (I 3 * I 4).toNat - de * mCe A (I 4) p ≠ 0 := by rw [← show q = I 3 * I 4 by omega, ← hv]; unfold mCe; omega
                refine ga_iload (pc := 126) dX8_firstOff_126 rfl ?_
                exact mm_iret hE dX8_firstOff_128 (⟨_, rfl, by rw [← hfi, zFind_x (by omega)], rfl, rfl⟩)
            · skip
              have hdq := dm_r hm (show 0 ≤ q ∧ q < I 3 * I 4 by omega)
              have ht0 := mT0_r (A := A) he5 (kind := kind) (i := p.tdiv (I 4)) (j := p.tmod (I 4)) (k := q.tdiv (I 4)) (l := q.tmod (I 4)) h1.2.2.1
              refine ga_lload (pc := 37) dX8_firstOff_37 rfl ?_
              refine ga_aload_n (pc := 39) dX8_firstOff_39 rfl ?_
              refine ga_iload_n (pc := 40) dX8_firstOff_40 rfl ?_
              refine ga_iload_n (pc := 41) dX8_firstOff_41 rfl ?_
              refine ga_iload (pc := 42) dX8_firstOff_42 rfl ?_
              refine ga_aload_n (pc := 44) dX8_firstOff_44 rfl ?_
              refine mm_g4 (pc := 45) (z := I 4) rfl dX8_firstOff_45 ?_
              refine ga_idiv (pc := 48) dX8_firstOff_48 (by omega) (by omega) (by omega) ?_
              refine ga_iload (pc := 49) dX8_firstOff_49 rfl ?_
              refine ga_aload_n (pc := 51) dX8_firstOff_51 rfl ?_
              refine mm_g4 (pc := 52) (z := I 4) rfl dX8_firstOff_52 ?_
              refine ga_irem (pc := 55) dX8_firstOff_55 (by omega) (by omega) (by omega) ?_
              refine ga_iload (pc := 56) dX8_firstOff_56 rfl ?_
              refine ga_aload_n (pc := 58) dX8_firstOff_58 rfl ?_
              refine mm_g4 (pc := 59) (z := I 4) rfl dX8_firstOff_59 ?_
              refine ga_idiv (pc := 62) dX8_firstOff_62 (by omega) (by omega) (by omega) ?_
              refine ga_iload (pc := 63) dX8_firstOff_63 rfl ?_
              refine ga_aload_n (pc := 65) dX8_firstOff_65 rfl ?_
              refine mm_g4 (pc := 66) (z := I 4) rfl dX8_firstOff_66 ?_
              refine ga_irem (pc := 69) dX8_firstOff_69 (by omega) (by omega) (by omega) ?_
              refine k_X8_times0 (pc := 70) (kind := kind) (shift := shift) (i := (p.tdiv (I 4))) (j := (p.tmod (I 4))) (p := (q.tdiv (I 4))) (q := (q.tmod (I 4))) (z := mT0 A kind shift (p.tdiv (I 4)) (p.tmod (I 4)) (q.tdiv (I 4)) (q.tmod (I 4))) ok (by first | exact h1 | omega) (rfl) ⟨Nat.le_of_ble_eq_true rfl, Nat.le_of_ble_eq_true rfl⟩ (Nat.le_of_ble_eq_true rfl) dX8_firstOff_70 ?_
              refine ga_i2l (pc := 73) dX8_firstOff_73 (by omega) ?_
              refine ga_aload_n (pc := 74) dX8_firstOff_74 rfl ?_
              refine mm_g36 (pc := 75) dX8_firstOff_75 ?_
              refine ga_bipush (pc := 78) dX8_firstOff_78 rfl ?_
              refine ga_iload_n (pc := 80) dX8_firstOff_80 rfl ?_
              refine ga_imul (pc := 81) dX8_firstOff_81 ?_
              refine ga_iload (pc := 82) dX8_firstOff_82 rfl ?_
              refine ga_iadd (pc := 84) dX8_firstOff_84 ?_
              refine mm_ald36 (pc := 85) (x := A 36 ((40 * s) + q)) ok (by omega) (rfl) dX8_firstOff_85 ?_
              refine ga_lmul (pc := 86) dX8_firstOff_86 ?_
              refine ga_ladd (pc := 87) dX8_firstOff_87 ?_
              refine ga_lstore (pc := 88) (L1 := [some (.ref mo), some (.int (iI s)), some (.int (iI kind)), some (.int (iI shift)), some (.int (iI de)), some (.int (iI p)), some (.long (lI (v + ((mT0 A kind shift (p.tdiv (I 4)) (p.tmod (I 4)) (q.tdiv (I 4)) (q.tmod (I 4))) * (A 36 ((40 * s) + q)))))), none, some (.int (iI q))]) dX8_firstOff_88 rfl (by decide) rfl ?_
              refine ga_iinc (pc := 90) (L1 := [some (.ref mo), some (.int (iI s)), some (.int (iI kind)), some (.int (iI shift)), some (.int (iI de)), some (.int (iI p)), some (.long (lI (v + ((mT0 A kind shift (p.tdiv (I 4)) (p.tmod (I 4)) (q.tdiv (I 4)) (q.tmod (I 4))) * (A 36 ((40 * s) + q)))))), none, some (.int (iI (q + 1)))]) dX8_firstOff_90 rfl rfl (by decide) rfl ?_
              refine ga_goto (pc := 93) (tgt := 23) dX8_firstOff_93 rfl ?_
              exact ih23 (v + ((mT0 A kind shift (p.tdiv (I 4)) (p.tmod (I 4)) (q.tdiv (I 4)) (q.tmod (I 4))) * (A 36 ((40 * s) + q)))) (q + 1) (by omega) (by show _ = zsum _ _; rw [zsum_s _ hq.1, hv]; rfl) (by omega)
        exact lp23 _ 0 0 (by omega) (rfl) (Nat.lt_succ_self _)
  exact lp3 _ 0 (by omega) (rfl) (Nat.lt_succ_self _)
theorem k_X8_firstOff {X : ga_X} {nL : Nat} {cc : ByteArray} {mo : Nat} {ad : Nat → Nat} {I : Nat → Int} {A : Nat → Int → Int} {d pc : Nat} {L : List (Option Value)} {st : List Value} {s kind shift de : Int} {z : Int} (ok : mOk mo ad) (hm : (1 ≤ I 3 ∧ I 3 ≤ 3) ∧ 1 ≤ I 4 ∧ I 4 ≤ 3) (he5 : tEn (A 0)) (h1 : (0 ≤ s ∧ s ≤ 3) ∧ (0 ≤ kind ∧ kind ≤ 6) ∧ (-2 ≤ shift ∧ shift ≤ 2) ∧ 1 ≤ de ∧ de < 2147483648) (hc : ∀ q : Int, 0 ≤ q → q < 9 → zI32 (A 36 (40 * s + q))) (hz : (zOff (I 3) (I 4) A kind shift de (mCz A s)) = z) (hR : 3 + 1 ≤ d ∧ 19 + 9 + 64 * 3 ≤ 64 * d) (hs : (st.map fun v => v.category).sum ≤ 8) (dd : decode cc pc = .ok (.invokevirtual 312, 3)) (kk : G X (gR d) RX8 nL cc (mH mo ad I A) 0 0 (pc + 3) L (.int (iI z) :: st)) : G X (gR d) RX8 nL cc (mH mo ad I A) 0 0 pc L (.int (iI de) :: .int (iI shift) :: .int (iI kind) :: .int (iI s) :: .ref mo :: st) :=
  mm_run ok (m_X8_firstOff _ _ mo ad I A s kind shift de hm he5 h1 hc) (lw_V q2006 q2008 qs84 q113 q2009) rfl (show ga_nn' yX8_firstOff 4 from (by unfold ga_nn'; decide +kernel)) hR hs dd rfl (fun v I1 A1 hp => by
    obtain ⟨r, rfl, hp⟩ := hp
    obtain ⟨e1, rfl, rfl⟩ := hp
    subst hz
    rw [e1]
    exact kk)
set_option maxHeartbeats 4000000 in
set_option maxRecDepth 100000 in
theorem m_X8_isShaped (l : Launch) (D : ga_G) (mo : Nat) (ad : Nat → Nat) (I : Nat → Int) (A : Nat → Int → Int) (s kind : Int) (hm : (1 ≤ I 3 ∧ I 3 ≤ 3) ∧ 1 ≤ I 4 ∧ I 4 ≤ 3) (h1 : (0 ≤ s ∧ s ≤ 3) ∧ (0 ≤ kind ∧ kind ≤ 6) ∧ (kind ≤ 1 ∨ I 4 = I 3)) (hc : ∀ q : Int, 0 ≤ q → q < 9 → zI32 (A 36 (40 * s + q))) : mM l D yX8_isShaped (ws_ yX8_isShaped cX8_isShaped 11 (some .boolean)) (gR 0) [.int (iI s), .int (iI kind)] mo ad I A (mI (fun r I1 A1 => r = (zShp (I 3) (I 4) kind (mCz A s)) ∧ I1 = I ∧ A1 = A)) := by
  refine mm_met 8 rfl (Nat.le_of_ble_eq_true rfl) (L0 := [some (.ref mo), some (.int (iI s)), some (.int (iI kind)), none, none, none, none, none, none, none, none]) rfl (fun X ok hE => ?_)
  have hmn := mn_r hm
  refine ga_iconst (pc := 0) dX8_isShaped_0 ?_
  refine ga_istore_n (pc := 1) (L1 := [some (.ref mo), some (.int (iI s)), some (.int (iI kind)), some (.int (iI 1)), none, none, none, none, none, none, none]) dX8_isShaped_1 rfl (by decide) rfl ?_
  refine ga_iconst (pc := 2) dX8_isShaped_2 ?_
  refine ga_istore (pc := 3) (L1 := [some (.ref mo), some (.int (iI s)), some (.int (iI kind)), some (.int (iI 1)), some (.int (iI 0)), none, none, none, none, none, none]) dX8_isShaped_3 rfl (by decide) rfl ?_
  have lp5 : ∀ (N5 : Nat) (x p : Int), (0 ≤ p ∧ p ≤ I 3 * I 4 ∧ (kind < 4 → p = 0)) → (x = (zSb (I 4) kind (mCz A s) p.toNat)) → (I 3 * I 4 - p).toNat < N5 → G X (gR 0) RX8 11 cX8_isShaped (mH mo ad I A) 0 0 5 [some (.ref mo), some (.int (iI s)), some (.int (iI kind)), some (.int (iI x)), some (.int (iI p)), none, none, none, none, none, none] [] := by
    intro N5
    induction N5 with
    | zero => intro x p hp hx hN5; exact absurd hN5 (Nat.not_lt_zero _)
    | succ N5 ih5 =>
      intro x p hp hx hN5
      have hxr := zSb_r (I 4) kind (mCz A s) p.toNat
      rw [← hx] at hxr
      have hx1 : kind < 4 → zSb (I 4) kind (mCz A s) p.toNat = 1 := fun z => by rw [hp.2.2 z]; rfl
      refine ga_iload (pc := 5) dX8_isShaped_5 rfl ?_
      refine ga_aload_n (pc := 7) dX8_isShaped_7 rfl ?_
      refine mm_g3 (pc := 8) (z := I 3) rfl dX8_isShaped_8 ?_
      refine ga_aload_n (pc := 11) dX8_isShaped_11 rfl ?_
      refine mm_g4 (pc := 12) (z := I 4) rfl dX8_isShaped_12 ?_
      refine ga_imul (pc := 15) dX8_isShaped_15 ?_
      refine ga_icmp_ge (pc := 16) (tgt := 141) dX8_isShaped_16 rfl (by omega) (by omega) (fun c16 => ?_) (fun c16 => ?_)
      · skip
        refine ga_iload_n (pc := 141) dX8_isShaped_141 rfl ?_
        exact mm_zret hE dX8_isShaped_142 (hxr) (⟨_, rfl, by unfold zShp; first | (rw [if_pos (by omega)]; rw [hx]; exact hx1 (by omega)) | (rw [if_neg (by omega), hx, show p = I 3 * I 4 by omega]), rfl, rfl⟩)
      · skip
        refine ga_iload_n (pc := 19) dX8_isShaped_19 rfl ?_
        refine ga_iconst (pc := 20) dX8_isShaped_20 ?_
        refine ga_icmp_lt (pc := 21) (tgt := 141) dX8_isShaped_21 rfl (by omega) (by omega) (fun c21 => ?_) (fun c21 => ?_)
        · skip
          refine ga_iload_n (pc := 141) dX8_isShaped_141 rfl ?_
          exact mm_zret hE dX8_isShaped_142 (hxr) (⟨_, rfl, by unfold zShp; first | (rw [if_pos (by omega)]; rw [hx]; exact hx1 (by omega)) | (rw [if_neg (by omega), hx, show p = I 3 * I 4 by omega]), rfl, rfl⟩)
        · skip
          have hdp := dm_r hm (show 0 ≤ p ∧ p < I 3 * I 4 by omega)
          have hij := ij_r (m := I 3) (n := I 4) hm (i := p.tmod (I 4)) (j := p.tdiv (I 4)) (by omega) (by omega)
          have hc1 : zI32 (mCz A s p) := hc p (by omega) (by omega)
          have hc2 : zI32 (mCz A s (I 4 * p.tmod (I 4) + p.tdiv (I 4))) := hc _ (by omega) (by omega)
          refine ga_iload (pc := 24) dX8_isShaped_24 rfl ?_
          refine ga_aload_n (pc := 26) dX8_isShaped_26 rfl ?_
          refine mm_g4 (pc := 27) (z := I 4) rfl dX8_isShaped_27 ?_
          refine ga_idiv (pc := 30) dX8_isShaped_30 (by omega) (by omega) (by omega) ?_
          refine ga_istore (pc := 31) (L1 := [some (.ref mo), some (.int (iI s)), some (.int (iI kind)), some (.int (iI x)), some (.int (iI p)), some (.int (iI (p.tdiv (I 4)))), none, none, none, none, none]) dX8_isShaped_31 rfl (by decide) rfl ?_
          refine ga_iload (pc := 33) dX8_isShaped_33 rfl ?_
          refine ga_aload_n (pc := 35) dX8_isShaped_35 rfl ?_
          refine mm_g4 (pc := 36) (z := I 4) rfl dX8_isShaped_36 ?_
          refine ga_irem (pc := 39) dX8_isShaped_39 (by omega) (by omega) (by omega) ?_
          refine ga_istore (pc := 40) (L1 := [some (.ref mo), some (.int (iI s)), some (.int (iI kind)), some (.int (iI x)), some (.int (iI p)), some (.int (iI (p.tdiv (I 4)))), some (.int (iI (p.tmod (I 4)))), none, none, none, none]) dX8_isShaped_40 rfl (by decide) rfl ?_
          refine ga_aload_n (pc := 42) dX8_isShaped_42 rfl ?_
          refine mm_g36 (pc := 43) dX8_isShaped_43 ?_
          refine ga_bipush (pc := 46) dX8_isShaped_46 rfl ?_
          refine ga_iload_n (pc := 48) dX8_isShaped_48 rfl ?_
          refine ga_imul (pc := 49) dX8_isShaped_49 ?_
          refine ga_iload (pc := 50) dX8_isShaped_50 rfl ?_
          refine ga_iadd (pc := 52) dX8_isShaped_52 ?_
          refine mm_ald36 (pc := 53) (x := mCz A s p) ok (by omega) (rfl) dX8_isShaped_53 ?_
          refine ga_lstore (pc := 54) (L1 := [some (.ref mo), some (.int (iI s)), some (.int (iI kind)), some (.int (iI x)), some (.int (iI p)), some (.int (iI (p.tdiv (I 4)))), some (.int (iI (p.tmod (I 4)))), some (.long (lI (mCz A s p))), none, none, none]) dX8_isShaped_54 rfl (by decide) rfl ?_
          refine ga_aload_n (pc := 56) dX8_isShaped_56 rfl ?_
          refine mm_g36 (pc := 57) dX8_isShaped_57 ?_
          refine ga_bipush (pc := 60) dX8_isShaped_60 rfl ?_
          refine ga_iload_n (pc := 62) dX8_isShaped_62 rfl ?_
          refine ga_imul (pc := 63) dX8_isShaped_63 ?_
          refine ga_aload_n (pc := 64) dX8_isShaped_64 rfl ?_
          refine mm_g4 (pc := 65) (z := I 4) rfl dX8_isShaped_65 ?_
          refine ga_iload (pc := 68) dX8_isShaped_68 rfl ?_
          refine ga_imul (pc := 70) dX8_isShaped_70 ?_
          refine ga_iadd (pc := 71) dX8_isShaped_71 ?_
          refine ga_iload (pc := 72) dX8_isShaped_72 rfl ?_
          refine ga_iadd (pc := 74) dX8_isShaped_74 ?_
          refine mm_ald36 (pc := 75) (x := mCz A s (I 4 * p.tmod (I 4) + p.tdiv (I 4))) ok (by omega) (by show _ = A 36 (40 * s + (I 4 * p.tmod (I 4) + p.tdiv (I 4))); rw [Int.add_assoc]) dX8_isShaped_75 ?_
          refine ga_lstore (pc := 76) (L1 := [some (.ref mo), some (.int (iI s)), some (.int (iI kind)), some (.int (iI x)), some (.int (iI p)), some (.int (iI (p.tdiv (I 4)))), some (.int (iI (p.tmod (I 4)))), some (.long (lI (mCz A s p))), none, some (.long (lI (mCz A s (I 4 * p.tmod (I 4) + p.tdiv (I 4))))), none]) dX8_isShaped_76 rfl (by decide) rfl ?_
          have jn134 : ∀ (y : Int), (y = if x = 1 ∧ zSq (I 4) kind (mCz A s) p then 1 else 0) → G X (gR 0) RX8 11 cX8_isShaped (mH mo ad I A) 0 0 134 [some (.ref mo), some (.int (iI s)), some (.int (iI kind)), some (.int (iI x)), some (.int (iI p)), some (.int (iI (p.tdiv (I 4)))), some (.int (iI (p.tmod (I 4)))), some (.long (lI (mCz A s p))), none, some (.long (lI (mCz A s (I 4 * p.tmod (I 4) + p.tdiv (I 4))))), none] [.int (iI y)] := by
            intro y hy
            refine ga_istore_n (pc := 134) (L1 := [some (.ref mo), some (.int (iI s)), some (.int (iI kind)), some (.int (iI y)), some (.int (iI p)), some (.int (iI (p.tdiv (I 4)))), some (.int (iI (p.tmod (I 4)))), some (.long (lI (mCz A s p))), none, some (.long (lI (mCz A s (I 4 * p.tmod (I 4) + p.tdiv (I 4))))), none]) dX8_isShaped_134 rfl (by decide) rfl ?_
            refine ga_iinc (pc := 135) (L1 := [some (.ref mo), some (.int (iI s)), some (.int (iI kind)), some (.int (iI y)), some (.int (iI (p + 1))), some (.int (iI (p.tdiv (I 4)))), some (.int (iI (p.tmod (I 4)))), some (.long (lI (mCz A s p))), none, some (.long (lI (mCz A s (I 4 * p.tmod (I 4) + p.tdiv (I 4))))), none]) dX8_isShaped_135 rfl rfl (by decide) rfl ?_
            refine ga_goto (pc := 138) (tgt := 5) dX8_isShaped_138 rfl ?_
            refine ga_kill (pc := 5) 5 (L1 := [some (.ref mo), some (.int (iI s)), some (.int (iI kind)), some (.int (iI y)), some (.int (iI (p + 1))), none, some (.int (iI (p.tmod (I 4)))), some (.long (lI (mCz A s p))), none, some (.long (lI (mCz A s (I 4 * p.tmod (I 4) + p.tdiv (I 4))))), none]) rfl ?_
            refine ga_kill (pc := 5) 6 (L1 := [some (.ref mo), some (.int (iI s)), some (.int (iI kind)), some (.int (iI y)), some (.int (iI (p + 1))), none, none, some (.long (lI (mCz A s p))), none, some (.long (lI (mCz A s (I 4 * p.tmod (I 4) + p.tdiv (I 4))))), none]) rfl ?_
            refine ga_kill (pc := 5) 7 (L1 := [some (.ref mo), some (.int (iI s)), some (.int (iI kind)), some (.int (iI y)), some (.int (iI (p + 1))), none, none, none, none, some (.long (lI (mCz A s (I 4 * p.tmod (I 4) + p.tdiv (I 4))))), none]) rfl ?_
            refine ga_kill (pc := 5) 9 (L1 := [some (.ref mo), some (.int (iI s)), some (.int (iI kind)), some (.int (iI y)), some (.int (iI (p + 1))), none, none, none, none, none, none]) rfl ?_
            exact ih5 y (p + 1) (by omega) (by rw [zSb_s _ _ _ hp.1, ← hx]; exact hy) (by omega)
          refine ga_iload_n (pc := 78) dX8_isShaped_78 rfl ?_
          refine ga_if_eq (pc := 79) (tgt := 133) dX8_isShaped_79 rfl (by omega) (fun c79 => ?_) (fun c79 => ?_)
          · skip
            refine ga_iconst (pc := 133) dX8_isShaped_133 ?_
            exact jn134 0 (by first | (rw [if_pos (by omega)]; done) | rw [if_neg (by omega)])
          · skip
            refine ga_iload_n (pc := 82) dX8_isShaped_82 rfl ?_
            refine ga_iconst (pc := 83) dX8_isShaped_83 ?_
            refine ga_icmp_ne (pc := 84) (tgt := 104) dX8_isShaped_84 rfl (by omega) (by omega) (fun c84 => ?_) (fun c84 => ?_)
            · skip
              refine ga_iload_n (pc := 104) dX8_isShaped_104 rfl ?_
              refine ga_iconst (pc := 105) dX8_isShaped_105 ?_
              refine ga_icmp_ne (pc := 106) (tgt := 120) dX8_isShaped_106 rfl (by omega) (by omega) (fun c106 => ?_) (fun c106 => ?_)
              · skip
                refine ga_lload (pc := 120) dX8_isShaped_120 rfl ?_
                refine ga_lload (pc := 122) dX8_isShaped_122 rfl ?_
                refine ga_lneg (pc := 124) dX8_isShaped_124 ?_
                refine ga_lcmp (pc := 125) dX8_isShaped_125 (by omega) (by omega) ?_
                refine ga_ifc_ne (pc := 126) (tgt := 133) dX8_isShaped_126 rfl (fun c126 => ?_) (fun c126 => ?_)
                · skip
                  refine ga_iconst (pc := 133) dX8_isShaped_133 ?_
                  exact jn134 0 (by first | (rw [if_pos (by omega)]; done) | rw [if_neg (by omega)])
                · skip
                  refine ga_iconst (pc := 129) dX8_isShaped_129 ?_
                  refine ga_goto (pc := 130) (tgt := 134) dX8_isShaped_130 rfl ?_
                  exact jn134 1 (by first | (rw [if_pos (by omega)]; done) | rw [if_neg (by omega)])
              · skip
                refine ga_lload (pc := 109) dX8_isShaped_109 rfl ?_
                refine ga_lload (pc := 111) dX8_isShaped_111 rfl ?_
                refine ga_lcmp (pc := 113) dX8_isShaped_113 (by omega) (by omega) ?_
                refine ga_ifc_ne (pc := 114) (tgt := 133) dX8_isShaped_114 rfl (fun c114 => ?_) (fun c114 => ?_)
                · skip
                  refine ga_iconst (pc := 133) dX8_isShaped_133 ?_
                  exact jn134 0 (by first | (rw [if_pos (by omega)]; done) | rw [if_neg (by omega)])
                · skip
                  refine ga_goto (pc := 117) (tgt := 129) dX8_isShaped_117 rfl ?_
                  refine ga_iconst (pc := 129) dX8_isShaped_129 ?_
                  refine ga_goto (pc := 130) (tgt := 134) dX8_isShaped_130 rfl ?_
                  exact jn134 1 (by first | (rw [if_pos (by omega)]; done) | rw [if_neg (by omega)])
            · skip
              refine ga_iload (pc := 87) dX8_isShaped_87 rfl ?_
              refine ga_iload (pc := 89) dX8_isShaped_89 rfl ?_
              refine ga_icmp_eq (pc := 91) (tgt := 129) dX8_isShaped_91 rfl (by omega) (by omega) (fun c91 => ?_) (fun c91 => ?_)
              · skip
                refine ga_iconst (pc := 129) dX8_isShaped_129 ?_
                refine ga_goto (pc := 130) (tgt := 134) dX8_isShaped_130 rfl ?_
                exact jn134 1 (by first | (rw [if_pos (by omega)]; done) | rw [if_neg (by omega)])
              · skip
                refine ga_lload (pc := 94) dX8_isShaped_94 rfl ?_
                refine ga_lconst (pc := 96) 0 dX8_isShaped_96 rfl ?_
                refine ga_lcmp (pc := 97) dX8_isShaped_97 (by omega) (by omega) ?_
                refine ga_ifc_ne (pc := 98) (tgt := 133) dX8_isShaped_98 rfl (fun c98 => ?_) (fun c98 => ?_)
                · skip
                  refine ga_iconst (pc := 133) dX8_isShaped_133 ?_
                  exact jn134 0 (by first | (rw [if_pos (by omega)]; done) | rw [if_neg (by omega)])
                · skip
                  refine ga_goto (pc := 101) (tgt := 129) dX8_isShaped_101 rfl ?_
                  refine ga_iconst (pc := 129) dX8_isShaped_129 ?_
                  refine ga_goto (pc := 130) (tgt := 134) dX8_isShaped_130 rfl ?_
                  exact jn134 1 (by first | (rw [if_pos (by omega)]; done) | rw [if_neg (by omega)])
  exact lp5 _ 1 0 (by omega) (rfl) (Nat.lt_succ_self _)
theorem k_X8_isShaped {X : ga_X} {nL : Nat} {cc : ByteArray} {mo : Nat} {ad : Nat → Nat} {I : Nat → Int} {A : Nat → Int → Int} {d pc : Nat} {L : List (Option Value)} {st : List Value} {s kind : Int} {z : Int} (ok : mOk mo ad) (hm : (1 ≤ I 3 ∧ I 3 ≤ 3) ∧ 1 ≤ I 4 ∧ I 4 ≤ 3) (h1 : (0 ≤ s ∧ s ≤ 3) ∧ (0 ≤ kind ∧ kind ≤ 6) ∧ (kind ≤ 1 ∨ I 4 = I 3)) (hc : ∀ q : Int, 0 ≤ q → q < 9 → zI32 (A 36 (40 * s + q))) (hz : (zShp (I 3) (I 4) kind (mCz A s)) = z) (hR : 0 + 1 ≤ d ∧ 19 + 11 + 64 * 0 ≤ 64 * d) (hs : (st.map fun v => v.category).sum ≤ 8) (dd : decode cc pc = .ok (.invokevirtual 316, 3)) (kk : G X (gR d) RX8 nL cc (mH mo ad I A) 0 0 (pc + 3) L (.int (iI z) :: st)) : G X (gR d) RX8 nL cc (mH mo ad I A) 0 0 pc L (.int (iI kind) :: .int (iI s) :: .ref mo :: st) :=
  mm_run ok (m_X8_isShaped _ _ mo ad I A s kind hm h1 hc) (lw_V q2010 q2012 qs85 q113 q2013) rfl (show ga_nn' yX8_isShaped 2 from (by unfold ga_nn'; decide +kernel)) hR hs dd rfl (fun v I1 A1 hp => by
    obtain ⟨r, rfl, hp⟩ := hp
    obtain ⟨e1, rfl, rfl⟩ := hp
    subst hz
    rw [e1]
    exact kk)
set_option maxHeartbeats 4000000 in
set_option maxRecDepth 100000 in
theorem m_X8_against (l : Launch) (D : ga_G) (mo : Nat) (ad : Nat → Nat) (I : Nat → Int) (A : Nat → Int → Int) (s : Int) (hm : (1 ≤ I 3 ∧ I 3 ≤ 3) ∧ 1 ≤ I 4 ∧ I 4 ≤ 3) (hsh : mShe A) (h1 : 0 ≤ s ∧ s ≤ 3) : mM l D yX8_against (ws_ yX8_against cX8_against 2 (some .int)) (gR 0) [.int (iI s)] mo ad I A (mI (fun r I1 A1 => r = (mAg I A s) ∧ I1 = I ∧ A1 = A)) := by
  refine mm_met 0 rfl (Nat.le_of_ble_eq_true rfl) (L0 := [some (.ref mo), some (.int (iI s))]) rfl (fun X ok hE => ?_)
  have hmn := mn_r hm
  have hs1 := hsh s h1.1 h1.2
  refine ga_aload_n (pc := 0) dX8_against_0 rfl ?_
  refine mm_g34 (pc := 1) dX8_against_1 ?_
  refine ga_iload_n (pc := 4) dX8_against_4 rfl ?_
  refine mm_ald34 (pc := 5) (x := A 34 s) ok (by omega) (rfl) dX8_against_5 ?_
  refine ga_iconst (pc := 6) dX8_against_6 ?_
  refine ga_icmp_eq (pc := 7) (tgt := 27) dX8_against_7 rfl (by omega) (by omega) (fun c7 => ?_) (fun c7 => ?_)
  · skip
    refine ga_aload_n (pc := 27) dX8_against_27 rfl ?_
    refine mm_g35 (pc := 28) dX8_against_28 ?_
    refine ga_iload_n (pc := 31) dX8_against_31 rfl ?_
    refine mm_ald35 (pc := 32) (x := A 35 s) ok (by omega) (rfl) dX8_against_32 ?_
    refine ga_aload_n (pc := 33) dX8_against_33 rfl ?_
    refine mm_g3 (pc := 34) (z := I 3) rfl dX8_against_34 ?_
    refine ga_aload_n (pc := 37) dX8_against_37 rfl ?_
    refine mm_g4 (pc := 38) (z := I 4) rfl dX8_against_38 ?_
    refine ga_imul (pc := 41) dX8_against_41 ?_
    refine ga_icmp_ne (pc := 42) (tgt := 49) dX8_against_42 rfl (by omega) (by omega) (fun c42 => ?_) (fun c42 => ?_)
    · skip
      refine ga_bipush (pc := 49) dX8_against_49 rfl ?_
      exact mm_iret hE dX8_against_51 (⟨_, rfl, by unfold mAg; (repeat' split) <;> first | omega | rfl, rfl, rfl⟩)
    · skip
      refine ga_iconst (pc := 45) dX8_against_45 ?_
      refine ga_goto (pc := 46) (tgt := 51) dX8_against_46 rfl ?_
      exact mm_iret hE dX8_against_51 (⟨_, rfl, by unfold mAg; (repeat' split) <;> first | omega | rfl, rfl, rfl⟩)
  · skip
    refine ga_aload_n (pc := 10) dX8_against_10 rfl ?_
    refine mm_g34 (pc := 11) dX8_against_11 ?_
    refine ga_iload_n (pc := 14) dX8_against_14 rfl ?_
    refine mm_ald34 (pc := 15) (x := A 34 s) ok (by omega) (rfl) dX8_against_15 ?_
    refine ga_if_ge (pc := 16) (tgt := 24) dX8_against_16 rfl (by omega) (fun c16 => ?_) (fun c16 => ?_)
    · skip
      refine ga_bipush (pc := 24) dX8_against_24 rfl ?_
      exact mm_iret hE dX8_against_26 (⟨_, rfl, by unfold mAg; (repeat' split) <;> first | omega | rfl, rfl, rfl⟩)
    · skip
      refine ga_bipush (pc := 19) dX8_against_19 rfl ?_
      refine ga_goto (pc := 21) (tgt := 26) dX8_against_21 rfl ?_
      exact mm_iret hE dX8_against_26 (⟨_, rfl, by unfold mAg; (repeat' split) <;> first | omega | rfl, rfl, rfl⟩)
theorem k_X8_against {X : ga_X} {nL : Nat} {cc : ByteArray} {mo : Nat} {ad : Nat → Nat} {I : Nat → Int} {A : Nat → Int → Int} {d pc : Nat} {L : List (Option Value)} {st : List Value} {s : Int} {z : Int} (ok : mOk mo ad) (hm : (1 ≤ I 3 ∧ I 3 ≤ 3) ∧ 1 ≤ I 4 ∧ I 4 ≤ 3) (hsh : mShe A) (h1 : 0 ≤ s ∧ s ≤ 3) (hz : (mAg I A s) = z) (hR : 0 + 1 ≤ d ∧ 19 + 2 + 64 * 0 ≤ 64 * d) (hs : (st.map fun v => v.category).sum ≤ 8) (dd : decode cc pc = .ok (.invokevirtual 309, 3)) (kk : G X (gR d) RX8 nL cc (mH mo ad I A) 0 0 (pc + 3) L (.int (iI z) :: st)) : G X (gR d) RX8 nL cc (mH mo ad I A) 0 0 pc L (.int (iI s) :: .ref mo :: st) :=
  mm_run ok (m_X8_against _ _ mo ad I A s hm hsh h1) (lw_V q2002 q2004 qs83 q113 q2005) rfl (show ga_nn' yX8_against 1 from (by unfold ga_nn'; decide +kernel)) hR hs dd rfl (fun v I1 A1 hp => by
    obtain ⟨r, rfl, hp⟩ := hp
    obtain ⟨e1, rfl, rfl⟩ := hp
    subst hz
    rw [e1]
    exact kk)
theorem zOff_r {m n : Int} (h : 1 ≤ m * n) (E : Nat → Int → Int) (kind shift d : Int) (c : Int → Int) : 0 ≤ zOff m n E kind shift d c ∧ zOff m n E kind shift d c ≤ m * n := by
  have := zFind_r (fun p _ => zV n E kind shift c p (m * n).toNat - d * mCe E n p) (m * n) 0 (m * n - 0).toNat 0
  unfold zOff
  exact ⟨this.1, this.2 (by omega)⟩
theorem mAg_r (I : Nat → Int) (A : Nat → Int → Int) (s : Int) : (-13 ≤ mAg I A s ∧ mAg I A s ≤ 0) ∧ (0 ≤ mAg I A s → A 34 s = 2) := by
  unfold mAg
  (repeat' split) <;> omega
theorem zShp_r (m n kind : Int) (c : Int → Int) : zShp m n kind c = 0 ∨ zShp m n kind c = 1 := by
  unfold zShp
  split
  · exact Or.inr rfl
  · exact zSb_r _ _ _ _
set_option maxHeartbeats 4000000 in
set_option maxRecDepth 100000 in
theorem m_X8_judge (l : Launch) (D : ga_G) (mo : Nat) (ad : Nat → Nat) (I : Nat → Int) (A : Nat → Int → Int) (e s de : Int) (hm : (1 ≤ I 3 ∧ I 3 ≤ 3) ∧ 1 ≤ I 4 ∧ I 4 ≤ 3) (he5 : tEn (A 0)) (heq : mEq I A) (hsh : mShe A) (h1 : (-2147483648 ≤ e ∧ e < 2147483648) ∧ (-2147483648 ≤ s ∧ s < 2147483648) ∧ (-2147483648 ≤ de ∧ de < 2147483648)) : mM l D yX8_judge (ws_ yX8_judge cX8_judge 5 (some .int)) (gR 4) [.int (iI e), .int (iI s), .int (iI de)] mo ad I A (mI (fun r I1 A1 => r = (mJud I A e s de) ∧ I1 = I ∧ A1 = A)) := by
  refine mm_met 1 rfl (Nat.le_of_ble_eq_true rfl) (L0 := [some (.ref mo), some (.int (iI e)), some (.int (iI s)), some (.int (iI de)), none]) rfl (fun X ok hE => ?_)
  have hmn := mn_r hm
  have hag := mAg_r I A s
  refine ga_aload_n (pc := 0) dX8_judge_0 rfl ?_
  refine ga_iload_n (pc := 1) dX8_judge_1 rfl ?_
  refine k_X8_isEquation (pc := 2) (e := e) ok (by first | exact hq | omega) (by first | exact h1 | omega) (rfl) ⟨Nat.le_of_ble_eq_true rfl, Nat.le_of_ble_eq_true rfl⟩ (Nat.le_of_ble_eq_true rfl) dX8_judge_2 ?_
  refine ga_ifb_eq (pc := 5) (tgt := 20) dX8_judge_5 rfl (fun c5 => ?_) (fun c5 => ?_)
  · skip
    refine ga_iconst (pc := 20) dX8_judge_20 ?_
    exact mm_iret hE dX8_judge_21 (⟨_, rfl, by unfold mJud; (repeat' split) <;> first | rfl | (exfalso; omega) | omega, rfl, rfl⟩)
  · skip
    refine ga_iload_n (pc := 8) dX8_judge_8 rfl ?_
    refine k_X8_isSheet (pc := 9) (b := s) (by omega) (rfl) ⟨Nat.le_of_ble_eq_true rfl, Nat.le_of_ble_eq_true rfl⟩ ⟨Nat.le_of_ble_eq_true rfl, Nat.le_of_ble_eq_true rfl⟩ (Nat.le_of_ble_eq_true rfl) dX8_judge_9 ?_
    refine ga_ifb_eq (pc := 12) (tgt := 20) dX8_judge_12 rfl (fun c12 => ?_) (fun c12 => ?_)
    · skip
      refine ga_iconst (pc := 20) dX8_judge_20 ?_
      exact mm_iret hE dX8_judge_21 (⟨_, rfl, by unfold mJud; (repeat' split) <;> first | rfl | (exfalso; omega) | omega, rfl, rfl⟩)
    · skip
      refine ga_iload_n (pc := 15) dX8_judge_15 rfl ?_
      refine ga_iconst (pc := 16) dX8_judge_16 ?_
      refine ga_icmp_ge (pc := 17) (tgt := 22) dX8_judge_17 rfl (by omega) (by omega) (fun c17 => ?_) (fun c17 => ?_)
      · skip
        have hke := heq.2 e (by omega) (by omega)
        refine ga_aload_n (pc := 22) dX8_judge_22 rfl ?_
        refine ga_aload_n (pc := 23) dX8_judge_23 rfl ?_
        refine mm_g11 (pc := 24) dX8_judge_24 ?_
        refine ga_iload_n (pc := 27) dX8_judge_27 rfl ?_
        refine mm_ald11 (pc := 28) (x := A 11 e) ok (by omega) (rfl) dX8_judge_28 ?_
        refine k_X8_isLike (pc := 29) (k := (A 11 e)) ok (by first | exact hm | omega) (by first | exact h1 | omega) (rfl) ⟨Nat.le_of_ble_eq_true rfl, Nat.le_of_ble_eq_true rfl⟩ (Nat.le_of_ble_eq_true rfl) dX8_judge_29 ?_
        refine ga_ifb_ne (pc := 32) (tgt := 38) dX8_judge_32 rfl (fun c32 => ?_) (fun c32 => ?_)
        · skip
          refine ga_aload_n (pc := 38) dX8_judge_38 rfl ?_
          refine ga_iload_n (pc := 39) dX8_judge_39 rfl ?_
          refine k_X8_against (pc := 40) (s := s) (z := mAg I A s) ok (by first | exact hm | omega) (by first | exact hsh | omega) (by first | exact h1 | omega) (rfl) ⟨Nat.le_of_ble_eq_true rfl, Nat.le_of_ble_eq_true rfl⟩ (Nat.le_of_ble_eq_true rfl) dX8_judge_40 ?_
          refine ga_if_ge (pc := 43) (tgt := 52) dX8_judge_43 rfl (by omega) (fun c43 => ?_) (fun c43 => ?_)
          · skip
            have hs2 := hsh s (by omega) (by omega)
            have hc9 : ∀ q : Int, 0 ≤ q → q < 9 → zI32 (A 36 (40 * s + q)) := fun q q0 q1 => (hs2.2.2 q q0 (by omega)).2.1 (by have := hag.2 (by omega); omega)
            have hof := zOff_r hmn.1 A (A 11 e) (A 12 e) de (mCz A s)
            have hsp := zShp_r (I 3) (I 4) (A 11 e) (mCz A s)
            refine ga_aload_n (pc := 52) dX8_judge_52 rfl ?_
            refine ga_iload_n (pc := 53) dX8_judge_53 rfl ?_
            refine ga_aload_n (pc := 54) dX8_judge_54 rfl ?_
            refine mm_g11 (pc := 55) dX8_judge_55 ?_
            refine ga_iload_n (pc := 58) dX8_judge_58 rfl ?_
            refine mm_ald11 (pc := 59) (x := A 11 e) ok (by omega) (rfl) dX8_judge_59 ?_
            refine ga_aload_n (pc := 60) dX8_judge_60 rfl ?_
            refine mm_g12 (pc := 61) dX8_judge_61 ?_
            refine ga_iload_n (pc := 64) dX8_judge_64 rfl ?_
            refine mm_ald12 (pc := 65) (x := A 12 e) ok (by omega) (rfl) dX8_judge_65 ?_
            refine ga_iload_n (pc := 66) dX8_judge_66 rfl ?_
            refine k_X8_firstOff (pc := 67) (s := s) (kind := (A 11 e)) (shift := (A 12 e)) (de := de) (z := (zOff (I 3) (I 4) A (A 11 e) (A 12 e) de (mCz A s))) ok (by first | exact hm | omega) (by first | exact he5 | omega) (by omega) (hc9) (rfl) ⟨Nat.le_of_ble_eq_true rfl, Nat.le_of_ble_eq_true rfl⟩ (Nat.le_of_ble_eq_true rfl) dX8_judge_67 ?_
            refine ga_istore (pc := 70) (L1 := [some (.ref mo), some (.int (iI e)), some (.int (iI s)), some (.int (iI de)), some (.int (iI (zOff (I 3) (I 4) A (A 11 e) (A 12 e) de (mCz A s))))]) dX8_judge_70 rfl (by decide) rfl ?_
            refine ga_iload (pc := 72) dX8_judge_72 rfl ?_
            refine ga_aload_n (pc := 74) dX8_judge_74 rfl ?_
            refine mm_g3 (pc := 75) (z := I 3) rfl dX8_judge_75 ?_
            refine ga_aload_n (pc := 78) dX8_judge_78 rfl ?_
            refine mm_g4 (pc := 79) (z := I 4) rfl dX8_judge_79 ?_
            refine ga_imul (pc := 82) dX8_judge_82 ?_
            refine ga_icmp_lt (pc := 83) (tgt := 100) dX8_judge_83 rfl (by omega) (by omega) (fun c83 => ?_) (fun c83 => ?_)
            · skip
              refine ga_iconst (pc := 100) dX8_judge_100 ?_
              refine ga_iload (pc := 101) dX8_judge_101 rfl ?_
              refine ga_iadd (pc := 103) dX8_judge_103 ?_
              refine ga_goto (pc := 104) (tgt := 108) dX8_judge_104 rfl ?_
              exact mm_iret hE dX8_judge_108 (⟨_, rfl, by unfold mJud; (repeat' split) <;> first | rfl | (exfalso; omega) | omega, rfl, rfl⟩)
            · skip
              refine ga_aload_n (pc := 86) dX8_judge_86 rfl ?_
              refine ga_iload_n (pc := 87) dX8_judge_87 rfl ?_
              refine ga_aload_n (pc := 88) dX8_judge_88 rfl ?_
              refine mm_g11 (pc := 89) dX8_judge_89 ?_
              refine ga_iload_n (pc := 92) dX8_judge_92 rfl ?_
              refine mm_ald11 (pc := 93) (x := A 11 e) ok (by omega) (rfl) dX8_judge_93 ?_
              refine k_X8_isShaped (pc := 94) (s := s) (kind := (A 11 e)) (z := zShp (I 3) (I 4) (A 11 e) (mCz A s)) ok (by first | exact hm | omega) (by omega) (hc9) (rfl) ⟨Nat.le_of_ble_eq_true rfl, Nat.le_of_ble_eq_true rfl⟩ (Nat.le_of_ble_eq_true rfl) dX8_judge_94 ?_
              refine ga_if_ne (pc := 97) (tgt := 107) dX8_judge_97 rfl (by omega) (fun c97 => ?_) (fun c97 => ?_)
              · skip
                refine ga_iconst (pc := 107) dX8_judge_107 ?_
                exact mm_iret hE dX8_judge_108 (⟨_, rfl, by unfold mJud; (repeat' split) <;> first | rfl | (exfalso; omega) | omega, rfl, rfl⟩)
              · skip
                refine ga_iconst (pc := 100) dX8_judge_100 ?_
                refine ga_iload (pc := 101) dX8_judge_101 rfl ?_
                refine ga_iadd (pc := 103) dX8_judge_103 ?_
                refine ga_goto (pc := 104) (tgt := 108) dX8_judge_104 rfl ?_
                exact mm_iret hE dX8_judge_108 (⟨_, rfl, by unfold mJud; (repeat' split) <;> first | rfl | (exfalso; omega) | omega, rfl, rfl⟩)
          · skip
            refine ga_aload_n (pc := 46) dX8_judge_46 rfl ?_
            refine ga_iload_n (pc := 47) dX8_judge_47 rfl ?_
            refine k_X8_against (pc := 48) (s := s) (z := mAg I A s) ok (by first | exact hm | omega) (by first | exact hsh | omega) (by first | exact h1 | omega) (rfl) ⟨Nat.le_of_ble_eq_true rfl, Nat.le_of_ble_eq_true rfl⟩ (Nat.le_of_ble_eq_true rfl) dX8_judge_48 ?_
            exact mm_iret hE dX8_judge_51 (⟨_, rfl, by unfold mJud; (repeat' split) <;> first | rfl | (exfalso; omega) | omega, rfl, rfl⟩)
        · skip
          refine ga_bipush (pc := 35) dX8_judge_35 rfl ?_
          exact mm_iret hE dX8_judge_37 (⟨_, rfl, by unfold mJud; (repeat' split) <;> first | rfl | (exfalso; omega) | omega, rfl, rfl⟩)
      · skip
        refine ga_iconst (pc := 20) dX8_judge_20 ?_
        exact mm_iret hE dX8_judge_21 (⟨_, rfl, by unfold mJud; (repeat' split) <;> first | rfl | (exfalso; omega) | omega, rfl, rfl⟩)
set_option maxHeartbeats 4000000 in
set_option maxRecDepth 100000 in
theorem m_X8_kinds (l : Launch) (D : ga_G) (mo : Nat) (ad : Nat → Nat) (I : Nat → Int) (A : Nat → Int → Int) (s shift : Int) (hm : (1 ≤ I 3 ∧ I 3 ≤ 3) ∧ 1 ≤ I 4 ∧ I 4 ≤ 3) (he5 : tEn (A 0)) (hsh : mShe A) (h1 : (-2147483648 ≤ s ∧ s < 2147483648) ∧ (-2147483648 ≤ shift ∧ shift < 2147483648)) : mM l D yX8_kinds (ws_ yX8_kinds cX8_kinds 5 (some .int)) (gR 4) [.int (iI s), .int (iI shift)] mo ad I A (mI (fun r I1 A1 => r = (mKds I A s shift) ∧ I1 = I ∧ A1 = A)) := by
  refine mm_met 2 rfl (Nat.le_of_ble_eq_true rfl) (L0 := [some (.ref mo), some (.int (iI s)), some (.int (iI shift)), none, none]) rfl (fun X ok hE => ?_)
  have hmn := mn_r hm
  have hag := mAg_r I A s
  refine ga_iload_n (pc := 0) dX8_kinds_0 rfl ?_
  refine k_X8_isSheet (pc := 1) (b := s) (by omega) (rfl) ⟨Nat.le_of_ble_eq_true rfl, Nat.le_of_ble_eq_true rfl⟩ ⟨Nat.le_of_ble_eq_true rfl, Nat.le_of_ble_eq_true rfl⟩ (Nat.le_of_ble_eq_true rfl) dX8_kinds_1 ?_
  refine ga_ifb_eq (pc := 4) (tgt := 21) dX8_kinds_4 rfl (fun c4 => ?_) (fun c4 => ?_)
  · skip
    refine ga_iconst (pc := 21) dX8_kinds_21 ?_
    exact mm_iret hE dX8_kinds_22 (⟨_, rfl, by unfold mKds; rw [if_neg (by omega)], rfl, rfl⟩)
  · skip
    refine ga_iload_n (pc := 7) dX8_kinds_7 rfl ?_
    refine ga_i2l (pc := 8) dX8_kinds_8 (by omega) ?_
    refine ga_ldc2 (pc := 9) (-2) dX8_kinds_9 q1846 rfl ?_
    refine ga_ldc2 (pc := 12) (2) dX8_kinds_12 q1743 rfl ?_
    refine k_X8_in (pc := 15) (a := shift) (b := (-2)) (c := (2)) (by omega) (rfl) ⟨Nat.le_of_ble_eq_true rfl, Nat.le_of_ble_eq_true rfl⟩ ⟨Nat.le_of_ble_eq_true rfl, Nat.le_of_ble_eq_true rfl⟩ (Nat.le_of_ble_eq_true rfl) dX8_kinds_15 ?_
    refine ga_ifb_ne (pc := 18) (tgt := 23) dX8_kinds_18 rfl (fun c18 => ?_) (fun c18 => ?_)
    · skip
      refine ga_aload_n (pc := 23) dX8_kinds_23 rfl ?_
      refine ga_iload_n (pc := 24) dX8_kinds_24 rfl ?_
      refine k_X8_against (pc := 25) (s := s) (z := mAg I A s) ok (by first | exact hm | omega) (by first | exact hsh | omega) (by first | exact h1 | omega) (rfl) ⟨Nat.le_of_ble_eq_true rfl, Nat.le_of_ble_eq_true rfl⟩ (Nat.le_of_ble_eq_true rfl) dX8_kinds_25 ?_
      refine ga_if_ge (pc := 28) (tgt := 37) dX8_kinds_28 rfl (by omega) (fun c28 => ?_) (fun c28 => ?_)
      · skip
        have hs2 := hsh s (by omega) (by omega)
        have hc9 : ∀ q : Int, 0 ≤ q → q < 9 → zI32 (A 36 (40 * s + q)) := fun q q0 q1 => (hs2.2.2 q q0 (by omega)).2.1 (by have := hag.2 (by omega); omega)
        refine ga_iconst (pc := 37) dX8_kinds_37 ?_
        refine ga_istore_n (pc := 38) (L1 := [some (.ref mo), some (.int (iI s)), some (.int (iI shift)), some (.int (iI 0)), none]) dX8_kinds_38 rfl (by decide) rfl ?_
        refine ga_iconst (pc := 39) dX8_kinds_39 ?_
        refine ga_istore (pc := 40) (L1 := [some (.ref mo), some (.int (iI s)), some (.int (iI shift)), some (.int (iI 0)), some (.int (iI 0))]) dX8_kinds_40 rfl (by decide) rfl ?_
        have lp42 : ∀ (N42 : Nat) (v k : Int), (0 ≤ k ∧ k ≤ 7) → (v = mKsF I A s shift k.toNat) → (7 - k).toNat < N42 → G X (gR 4) RX8 5 cX8_kinds (mH mo ad I A) 0 0 42 [some (.ref mo), some (.int (iI s)), some (.int (iI shift)), some (.int (iI v)), some (.int (iI k))] [] := by
          intro N42
          induction N42 with
          | zero => intro v k hk hv hN42; exact absurd hN42 (Nat.not_lt_zero _)
          | succ N42 ih42 =>
            intro v k hk hv hN42
            refine ga_iload (pc := 42) dX8_kinds_42 rfl ?_
            refine ga_bipush (pc := 44) dX8_kinds_44 rfl ?_
            refine ga_icmp_gt (pc := 46) (tgt := 106) dX8_kinds_46 rfl (by omega) (by omega) (fun c46 => ?_) (fun c46 => ?_)
            · skip
              refine ga_iload_n (pc := 106) dX8_kinds_106 rfl ?_
              exact mm_iret hE dX8_kinds_107 (⟨_, rfl, by unfold mKds; rw [if_pos (by omega), if_neg (by omega), hv, show k = 7 by omega]; rfl, rfl, rfl⟩)
            · skip
              have jn98 : ∀ (x : Int), (x = if zLike (I 3) (I 4) k ∧ zOff (I 3) (I 4) A k shift 1 (mCz A s) = I 3 * I 4 ∧ zShp (I 3) (I 4) k (mCz A s) = 1 then zshl 1 k else 0) → G X (gR 4) RX8 5 cX8_kinds (mH mo ad I A) 0 0 98 [some (.ref mo), some (.int (iI s)), some (.int (iI shift)), some (.int (iI v)), some (.int (iI k))] [.int (iI x), .int (iI v)] := by
                intro x hx
                refine ga_ior (pc := 98) dX8_kinds_98 ?_
                refine ga_istore_n (pc := 99) (L1 := [some (.ref mo), some (.int (iI s)), some (.int (iI shift)), some (.int (iI (zor v x))), some (.int (iI k))]) dX8_kinds_99 rfl (by decide) rfl ?_
                refine ga_iinc (pc := 100) (L1 := [some (.ref mo), some (.int (iI s)), some (.int (iI shift)), some (.int (iI (zor v x))), some (.int (iI (k + 1)))]) dX8_kinds_100 rfl rfl (by decide) rfl ?_
                refine ga_goto (pc := 103) (tgt := 42) dX8_kinds_103 rfl ?_
                exact ih42 (zor v x) (k + 1) (by omega) (by rw [mKsF_s _ _ _ _ hk.1, hv, hx]) (by omega)
              refine ga_iload_n (pc := 49) dX8_kinds_49 rfl ?_
              refine ga_aload_n (pc := 50) dX8_kinds_50 rfl ?_
              refine ga_iload (pc := 51) dX8_kinds_51 rfl ?_
              refine k_X8_isLike (pc := 53) (k := k) ok (by first | exact hm | omega) (by first | exact h1 | omega) (rfl) ⟨Nat.le_of_ble_eq_true rfl, Nat.le_of_ble_eq_true rfl⟩ (Nat.le_of_ble_eq_true rfl) dX8_kinds_53 ?_
              refine ga_ifb_eq (pc := 56) (tgt := 97) dX8_kinds_56 rfl (fun c56 => ?_) (fun c56 => ?_)
              · skip
                refine ga_iconst (pc := 97) dX8_kinds_97 ?_
                exact jn98 0 (by first | (rw [if_pos (by omega)]; done) | rw [if_neg (by omega)])
              · skip
                have hof := zOff_r hmn.1 A k shift 1 (mCz A s)
                have hsp := zShp_r (I 3) (I 4) k (mCz A s)
                refine ga_aload_n (pc := 59) dX8_kinds_59 rfl ?_
                refine ga_iload_n (pc := 60) dX8_kinds_60 rfl ?_
                refine ga_iload (pc := 61) dX8_kinds_61 rfl ?_
                refine ga_iload_n (pc := 63) dX8_kinds_63 rfl ?_
                refine ga_iconst (pc := 64) dX8_kinds_64 ?_
                refine k_X8_firstOff (pc := 65) (s := s) (kind := k) (shift := shift) (de := 1) (z := (zOff (I 3) (I 4) A k shift 1 (mCz A s))) ok (by first | exact hm | omega) (by first | exact he5 | omega) (by omega) (hc9) (rfl) ⟨Nat.le_of_ble_eq_true rfl, Nat.le_of_ble_eq_true rfl⟩ (Nat.le_of_ble_eq_true rfl) dX8_kinds_65 ?_
                refine ga_aload_n (pc := 68) dX8_kinds_68 rfl ?_
                refine mm_g3 (pc := 69) (z := I 3) rfl dX8_kinds_69 ?_
                refine ga_aload_n (pc := 72) dX8_kinds_72 rfl ?_
                refine mm_g4 (pc := 73) (z := I 4) rfl dX8_kinds_73 ?_
                refine ga_imul (pc := 76) dX8_kinds_76 ?_
                refine ga_icmp_ne (pc := 77) (tgt := 97) dX8_kinds_77 rfl (by omega) (by omega) (fun c77 => ?_) (fun c77 => ?_)
                · skip
                  refine ga_iconst (pc := 97) dX8_kinds_97 ?_
                  exact jn98 0 (by first | (rw [if_pos (by omega)]; done) | rw [if_neg (by omega)])
                · skip
                  refine ga_aload_n (pc := 80) dX8_kinds_80 rfl ?_
                  refine ga_iload_n (pc := 81) dX8_kinds_81 rfl ?_
                  refine ga_iload (pc := 82) dX8_kinds_82 rfl ?_
                  refine k_X8_isShaped (pc := 84) (s := s) (kind := k) (z := zShp (I 3) (I 4) k (mCz A s)) ok (by first | exact hm | omega) (by omega) (hc9) (rfl) ⟨Nat.le_of_ble_eq_true rfl, Nat.le_of_ble_eq_true rfl⟩ (Nat.le_of_ble_eq_true rfl) dX8_kinds_84 ?_
                  refine ga_if_eq (pc := 87) (tgt := 97) dX8_kinds_87 rfl (by omega) (fun c87 => ?_) (fun c87 => ?_)
                  · skip
                    refine ga_iconst (pc := 97) dX8_kinds_97 ?_
                    exact jn98 0 (by first | (rw [if_pos (by omega)]; done) | rw [if_neg (by omega)])
                  · skip
                    refine ga_iconst (pc := 90) dX8_kinds_90 ?_
                    refine ga_iload (pc := 91) dX8_kinds_91 rfl ?_
                    refine ga_ishl (pc := 93) dX8_kinds_93 ?_
                    refine ga_goto (pc := 94) (tgt := 98) dX8_kinds_94 rfl ?_
                    exact jn98 (zshl 1 k) (by first | (rw [if_pos (by omega)]; done) | rw [if_neg (by omega)])
        exact lp42 _ 0 0 (by omega) (rfl) (Nat.lt_succ_self _)
      · skip
        refine ga_aload_n (pc := 31) dX8_kinds_31 rfl ?_
        refine ga_iload_n (pc := 32) dX8_kinds_32 rfl ?_
        refine k_X8_against (pc := 33) (s := s) (z := mAg I A s) ok (by first | exact hm | omega) (by first | exact hsh | omega) (by first | exact h1 | omega) (rfl) ⟨Nat.le_of_ble_eq_true rfl, Nat.le_of_ble_eq_true rfl⟩ (Nat.le_of_ble_eq_true rfl) dX8_kinds_33 ?_
        exact mm_iret hE dX8_kinds_36 (⟨_, rfl, by unfold mKds; rw [if_pos (by omega), if_pos (by omega)], rfl, rfl⟩)
    · skip
      refine ga_iconst (pc := 21) dX8_kinds_21 ?_
      exact mm_iret hE dX8_kinds_22 (⟨_, rfl, by unfold mKds; rw [if_neg (by omega)], rfl, rfl⟩)
