/-! THE REFERENCE: a row laid -/
abbrev mAll (I : Nat → Int) (A : Nat → Int → Int) (e : Int) : Int := zLcs (fun p => zNd (I 3) (I 4) (A 11 e) (mKd I A e) (tCnt (A 11 e) (I 3) (I 4)) p 1) (I 3 * I 4).toNat
abbrev mVl (I : Nat → Int) (A : Nat → Int → Int) (e : Int) : Int → Int := fun p => zVl (I 3) (I 4) (A 11 e) (mKd I A e) (tCnt (A 11 e) (I 3) (I 4)) (mAll I A e) p
theorem mSam.lays {I I1 : Nat → Int} {A A1 : Nat → Int → Int} {s N : Int} {v : Int → Int} (h : mSam I A I1 A1) : mSam I (uN (uN (uN A 34 (uZ (A 34) s 2)) 35 (uZ (A 35) s N)) 36 (mLy (A 36) v (40 * s) N 40)) I1 (uN (uN (uN A1 34 (uZ (A1 34) s 2)) 35 (uZ (A1 35) s N)) 36 (mLy (A1 36) v (40 * s) N 40)) := by
  refine ⟨h.1, fun k hk => ?_⟩
  rw [h.2 34 (by decide), h.2 35 (by decide), h.2 36 (by decide)]
  unfold uN
  split
  · rfl
  · split
    · rfl
    · split
      · rfl
      · exact h.2 k hk
set_option maxHeartbeats 4000000 in
set_option maxRecDepth 100000 in
theorem m_X8_leastScale (l : Launch) (D : ga_G) (mo : Nat) (ad : Nat → Nat) (I : Nat → Int) (A : Nat → Int → Int) (kind H W : Int) (S : eS) (hm : (1 ≤ I 3 ∧ I 3 ≤ 3) ∧ 1 ≤ I 4 ∧ I 4 ≤ 3) (hst : mSt I A H W S) (hsw : (0 ≤ H ∧ H ≤ 9) ∧ (0 ≤ W ∧ W ≤ 7) ∧ 0 ≤ S.2.1 ∧ S.2.1 ≤ H) (h1 : 0 ≤ kind ∧ kind ≤ 6) (hcw : W = tCnt kind (I 3) (I 4)) (hlr : ∀ k : Int, -1 ≤ S.2.2.2.2 k ∧ S.2.2.2.2 k < S.2.1) (hpl : ∀ u : Int, 0 ≤ u → u < W → A 22 u = tPlc kind (I 3) (I 4) u) (hent : eEnt H W S) (hd : S.2.2.2.1 ≠ 0 ∧ z40 S.2.2.2.1) : mM l D yX8_leastScale (ws_ yX8_leastScale cX8_leastScale 7 (some .long)) (gR 2) [.int (iI kind)] mo ad I A (mL (fun r I1 A1 => r = (zLcs (fun p => zNd (I 3) (I 4) kind S W p 1) (I 3 * I 4).toNat) ∧ I1 = I ∧ A1 = A)) := by
  refine mm_met 5 rfl (Nat.le_of_ble_eq_true rfl) (L0 := [some (.ref mo), some (.int (iI kind)), none, none, none, none, none]) rfl (fun X ok hE => ?_)
  have hmn := mn_r hm
  have hlh : ∀ k : Int, -1 ≤ S.2.2.2.2 k ∧ S.2.2.2.2 k < H := fun k => ⟨(hlr k).1, by have := hlr k; omega⟩
  have hdv : ∀ p : Int, 0 < zNd (I 3) (I 4) kind S W p 1 ∧ zNd (I 3) (I 4) kind S W p 1 ∣ S.2.2.2.1 := fun p => ⟨(zPart_d hd.1).1, (zPart_d hd.1).2.1⟩
  refine ga_lconst (pc := 0) 1 dX8_leastScale_0 rfl ?_
  refine ga_lstore_n (pc := 1) (L1 := [some (.ref mo), some (.int (iI kind)), some (.long (lI 1)), none, none, none, none]) dX8_leastScale_1 rfl (by decide) rfl ?_
  refine ga_iconst (pc := 2) dX8_leastScale_2 ?_
  refine ga_istore (pc := 3) (L1 := [some (.ref mo), some (.int (iI kind)), some (.long (lI 1)), none, some (.int (iI 0)), none, none]) dX8_leastScale_3 rfl (by decide) rfl ?_
  have lp5 : ∀ (N5 : Nat) (al p : Int), (0 ≤ p ∧ p ≤ I 3 * I 4) → (al = zLcs (fun p => zNd (I 3) (I 4) kind S W p 1) p.toNat) → (I 3 * I 4 - p).toNat < N5 → G X (gR 2) RX8 7 cX8_leastScale (mH mo ad I A) 0 0 5 [some (.ref mo), some (.int (iI kind)), some (.long (lI al)), none, some (.int (iI p)), none, none] [] := by
    intro N5
    induction N5 with
    | zero => intro al p hp hall hN5; exact absurd hN5 (Nat.not_lt_zero _)
    | succ N5 ih5 =>
      intro al p hp hall hN5
      have hal := zLcs_d hdv p.toNat
      rw [← hall] at hal
      have hal2 := zLe_d hd.1 hal.2
      refine ga_iload (pc := 5) dX8_leastScale_5 rfl ?_
      refine ga_aload_n (pc := 7) dX8_leastScale_7 rfl ?_
      refine mm_g3 (pc := 8) (z := I 3) rfl dX8_leastScale_8 ?_
      refine ga_aload_n (pc := 11) dX8_leastScale_11 rfl ?_
      refine mm_g4 (pc := 12) (z := I 4) rfl dX8_leastScale_12 ?_
      refine ga_imul (pc := 15) dX8_leastScale_15 ?_
      refine ga_icmp_ge (pc := 16) (tgt := 67) dX8_leastScale_16 rfl (by omega) (by omega) (fun c16 => ?_) (fun c16 => ?_)
      · skip
        refine ga_lload_n (pc := 67) dX8_leastScale_67 rfl ?_
        exact mm_lret hE dX8_leastScale_68 (⟨_, rfl, by rw [hall, show p = I 3 * I 4 by omega], rfl, rfl⟩)
      · skip
        have hdp := dm_r hm (show 0 ≤ p ∧ p < I 3 * I 4 by omega)
        refine ga_aload_n (pc := 19) dX8_leastScale_19 rfl ?_
        refine ga_iload_n (pc := 20) dX8_leastScale_20 rfl ?_
        refine ga_iload (pc := 21) dX8_leastScale_21 rfl ?_
        refine ga_aload_n (pc := 23) dX8_leastScale_23 rfl ?_
        refine mm_g4 (pc := 24) (z := I 4) rfl dX8_leastScale_24 ?_
        refine ga_idiv (pc := 27) dX8_leastScale_27 (by omega) (by omega) (by omega) ?_
        refine ga_iload (pc := 28) dX8_leastScale_28 rfl ?_
        refine ga_aload_n (pc := 30) dX8_leastScale_30 rfl ?_
        refine mm_g4 (pc := 31) (z := I 4) rfl dX8_leastScale_31 ?_
        refine ga_irem (pc := 34) dX8_leastScale_34 (by omega) (by omega) (by omega) ?_
        refine ga_iconst (pc := 35) dX8_leastScale_35 ?_
        refine k_X8_shapedSum (pc := 36) (kind := kind) (i := (p.tdiv (I 4))) (j := (p.tmod (I 4))) (c := (-1)) (H := H) (W := W) (S := S) (z := zShs (I 3) (I 4) kind S W (p.tdiv (I 4)) (p.tmod (I 4)) (-1)) ok (by first | exact hm | omega) (hst) (by first | exact hsw | omega) (by omega) (by omega) (hlr) (hpl) (rfl) ⟨Nat.le_of_ble_eq_true rfl, Nat.le_of_ble_eq_true rfl⟩ (Nat.le_of_ble_eq_true rfl) dX8_leastScale_36 ?_
        have hzs : -7696581394432 ≤ zShs (I 3) (I 4) kind S W (p.tdiv (I 4)) (p.tmod (I 4)) (-1) ∧ zShs (I 3) (I 4) kind S W (p.tdiv (I 4)) (p.tmod (I 4)) (-1) ≤ 7696581394432 := zShs_r (H := H) (by omega) hent hd.2 hlh (by omega)
        have hnd := zPart_d (a := zShs (I 3) (I 4) kind S W (p.tdiv (I 4)) (p.tmod (I 4)) (-1)) hd.1
        have hnl := zLe_d hd.1 hnd.2.1
        refine ga_aload_n (pc := 39) dX8_leastScale_39 rfl ?_
        refine mm_g30 (pc := 40) (z := I 30) rfl dX8_leastScale_40 ?_
        refine ga_topl (pc := 43) (b := S.2.2.2.1) (hst.2.1.2.2) ?_
        refine ga_iconst (pc := 43) dX8_leastScale_43 ?_
        refine k_X8_partOf (pc := 44) (a := (zShs (I 3) (I 4) kind S W (p.tdiv (I 4)) (p.tmod (I 4)) (-1))) (b := S.2.2.2.1) (part := 1) (by omega) (by omega) (by omega) (rfl) ⟨Nat.le_of_ble_eq_true rfl, Nat.le_of_ble_eq_true rfl⟩ ⟨Nat.le_of_ble_eq_true rfl, Nat.le_of_ble_eq_true rfl⟩ (Nat.le_of_ble_eq_true rfl) dX8_leastScale_44 ?_
        refine ga_topl (pc := 47) (b := zNd (I 3) (I 4) kind S W p 1) (rfl) ?_
        refine ga_lstore (pc := 47) (L1 := [some (.ref mo), some (.int (iI kind)), some (.long (lI al)), none, some (.int (iI p)), some (.long (lI (zNd (I 3) (I 4) kind S W p 1))), none]) dX8_leastScale_47 rfl (by decide) rfl ?_
        have hb1 := hdv p
        have hb2 := zLe_d hd.1 hb1.2
        have hgb := zg_b (a := al) (b := zNd (I 3) (I 4) kind S W p 1) (by omega) (by omega)
        refine ga_lload_n (pc := 49) dX8_leastScale_49 rfl ?_
        refine ga_lload_n (pc := 50) dX8_leastScale_50 rfl ?_
        refine ga_lload (pc := 51) dX8_leastScale_51 rfl ?_
        refine k_X8_common (pc := 53) (a := al) (b := (zNd (I 3) (I 4) kind S W p 1)) (by omega) (rfl) ⟨Nat.le_of_ble_eq_true rfl, Nat.le_of_ble_eq_true rfl⟩ ⟨Nat.le_of_ble_eq_true rfl, Nat.le_of_ble_eq_true rfl⟩ (Nat.le_of_ble_eq_true rfl) dX8_leastScale_53 ?_
        refine ga_ldiv (pc := 56) dX8_leastScale_56 (by omega) (by omega) (by omega) ?_
        refine ga_lload (pc := 57) dX8_leastScale_57 rfl ?_
        refine ga_lmul (pc := 59) dX8_leastScale_59 ?_
        refine ga_lstore_n (pc := 60) (L1 := [some (.ref mo), some (.int (iI kind)), some (.long (lI ((al.tdiv (Int.gcd al (zNd (I 3) (I 4) kind S W p 1) : Int)) * (zNd (I 3) (I 4) kind S W p 1)))), none, some (.int (iI p)), some (.long (lI (zNd (I 3) (I 4) kind S W p 1))), none]) dX8_leastScale_60 rfl (by decide) rfl ?_
        refine ga_iinc (pc := 61) (L1 := [some (.ref mo), some (.int (iI kind)), some (.long (lI ((al.tdiv (Int.gcd al (zNd (I 3) (I 4) kind S W p 1) : Int)) * (zNd (I 3) (I 4) kind S W p 1)))), none, some (.int (iI (p + 1))), some (.long (lI (zNd (I 3) (I 4) kind S W p 1))), none]) dX8_leastScale_61 rfl rfl (by decide) rfl ?_
        refine ga_goto (pc := 64) (tgt := 5) dX8_leastScale_64 rfl ?_
        refine ga_kill (pc := 5) 5 (L1 := [some (.ref mo), some (.int (iI kind)), some (.long (lI ((al.tdiv (Int.gcd al (zNd (I 3) (I 4) kind S W p 1) : Int)) * (zNd (I 3) (I 4) kind S W p 1)))), none, some (.int (iI (p + 1))), none, none]) rfl ?_
        exact ih5 ((al.tdiv (Int.gcd al (zNd (I 3) (I 4) kind S W p 1) : Int)) * (zNd (I 3) (I 4) kind S W p 1)) (p + 1) (by omega) (by rw [zLcs_s _ hp.1, ← hall]) (by omega)
  exact lp5 _ 1 0 (by omega) (rfl) (Nat.lt_succ_self _)
theorem k_X8_leastScale {X : ga_X} {nL : Nat} {cc : ByteArray} {mo : Nat} {ad : Nat → Nat} {I : Nat → Int} {A : Nat → Int → Int} {d pc : Nat} {L : List (Option Value)} {st : List Value} {kind H W : Int} {S : eS} {z : Int} (ok : mOk mo ad) (hm : (1 ≤ I 3 ∧ I 3 ≤ 3) ∧ 1 ≤ I 4 ∧ I 4 ≤ 3) (hst : mSt I A H W S) (hsw : (0 ≤ H ∧ H ≤ 9) ∧ (0 ≤ W ∧ W ≤ 7) ∧ 0 ≤ S.2.1 ∧ S.2.1 ≤ H) (h1 : 0 ≤ kind ∧ kind ≤ 6) (hcw : W = tCnt kind (I 3) (I 4)) (hlr : ∀ k : Int, -1 ≤ S.2.2.2.2 k ∧ S.2.2.2.2 k < S.2.1) (hpl : ∀ u : Int, 0 ≤ u → u < W → A 22 u = tPlc kind (I 3) (I 4) u) (hent : eEnt H W S) (hd : S.2.2.2.1 ≠ 0 ∧ z40 S.2.2.2.1) (hz : (zLcs (fun p => zNd (I 3) (I 4) kind S W p 1) (I 3 * I 4).toNat) = z) (hR : 2 + 1 ≤ d ∧ 19 + 7 + 64 * 2 ≤ 64 * d) (hs : (st.map fun v => v.category).sum ≤ 8) (dd : decode cc pc = .ok (.invokevirtual 306, 3)) (kk : G X (gR d) RX8 nL cc (mH mo ad I A) 0 0 (pc + 3) L (.long (lI z) :: st)) : G X (gR d) RX8 nL cc (mH mo ad I A) 0 0 pc L (.int (iI kind) :: .ref mo :: st) :=
  mm_run ok (m_X8_leastScale _ _ mo ad I A kind H W S hm hst hsw h1 hcw hlr hpl hent hd) (lw_V q1994 q1996 qs82 q113 q1997) rfl (show ga_nn' yX8_leastScale 1 from (by unfold ga_nn'; decide +kernel)) hR hs dd rfl (fun v I1 A1 hp => by
    obtain ⟨r, rfl, hp⟩ := hp
    obtain ⟨e1, rfl, rfl⟩ := hp
    subst hz
    rw [e1]
    exact kk)
set_option maxHeartbeats 4000000 in
set_option maxRecDepth 100000 in
theorem m_X8_lay (l : Launch) (D : ga_G) (mo : Nat) (ad : Nat → Nat) (I : Nat → Int) (A : Nat → Int → Int) (e sh : Int) (hm : (1 ≤ I 3 ∧ I 3 ≤ 3) ∧ 1 ≤ I 4 ∧ I 4 ≤ 3) (he5 : tEn (A 0)) (heq : mEq I A) (hsf : mSafe (I 3) (I 4) A) (h1 : (-2147483648 ≤ e ∧ e < 2147483648) ∧ (-2147483648 ≤ sh ∧ sh < 2147483648)) : mM l D yX8_lay (ws_ yX8_lay cX8_lay 10 (some .int)) (gR 6) [.int (iI e), .int (iI sh)] mo ad I A (mI (fun r I1 A1 => if (0 ≤ e ∧ e < I 5) ∧ 0 ≤ sh ∧ sh ≤ 3 then (if zFit (I 3) (I 4) (A 11 e) then (if eSlv (I 3 * I 4) (tCnt (A 11 e) (I 3) (I 4)) (mKd I A e) = 1 then (if zBi (mVl I A e) (mAll I A e) (I 3 * I 4).toNat = 1 then r = (mAll I A e) ∧ mSam I (uN (uN (uN A 34 (uZ (A 34) sh 2)) 35 (uZ (A 35) sh (I 3 * I 4))) 36 (mLy (A 36) (mVl I A e) (40 * sh) (I 3 * I 4) 40)) I1 A1 else r = -16 ∧ mSam I A I1 A1) else r = -3 ∧ mSam I A I1 A1) else r = -4 ∧ mSam I A I1 A1) else r = -1 ∧ mSam I A I1 A1)) := by
  refine mm_met 7 rfl (Nat.le_of_ble_eq_true rfl) (L0 := [some (.ref mo), some (.int (iI e)), some (.int (iI sh)), none, none, none, none, none, none, none]) rfl (fun X ok hE => ?_)
  have hmn := mn_r hm
  refine ga_aload_n (pc := 0) dX8_lay_0 rfl ?_
  refine ga_iload_n (pc := 1) dX8_lay_1 rfl ?_
  refine k_X8_isEquation (pc := 2) (e := e) ok (by first | exact hq | omega) (by first | exact h1 | omega) (rfl) ⟨Nat.le_of_ble_eq_true rfl, Nat.le_of_ble_eq_true rfl⟩ (Nat.le_of_ble_eq_true rfl) dX8_lay_2 ?_
  refine ga_ifb_eq (pc := 5) (tgt := 15) dX8_lay_5 rfl (fun c5 => ?_) (fun c5 => ?_)
  · skip
    refine ga_iconst (pc := 15) dX8_lay_15 ?_
    exact mm_iret hE dX8_lay_16 (⟨_, rfl, by dsimp only; first | (rw [if_neg (by omega)]; exact ⟨rfl, (mSam.refl I A)⟩) | (rw [if_pos (by omega), if_neg (by assumption)]; exact ⟨rfl, (mSam.refl I A)⟩) | (rw [if_pos (by omega), if_pos (by assumption), if_neg (by omega)]; exact ⟨rfl, (mSam.refl I A)⟩) | (rw [if_pos (by omega), if_pos (by assumption), if_pos (by omega), if_neg (by rw [← show p = I 3 * I 4 by omega, ← hx]; omega)]; exact ⟨rfl, (mSam.refl I A)⟩)⟩)
  · skip
    refine ga_iload_n (pc := 8) dX8_lay_8 rfl ?_
    refine k_X8_isSheet (pc := 9) (b := sh) (by omega) (rfl) ⟨Nat.le_of_ble_eq_true rfl, Nat.le_of_ble_eq_true rfl⟩ ⟨Nat.le_of_ble_eq_true rfl, Nat.le_of_ble_eq_true rfl⟩ (Nat.le_of_ble_eq_true rfl) dX8_lay_9 ?_
    refine ga_ifb_ne (pc := 12) (tgt := 17) dX8_lay_12 rfl (fun c12 => ?_) (fun c12 => ?_)
    · skip
      have hke := heq.2 e (by omega) (by omega)
      have hcr := tCnt_r (kind := A 11 e) hmn
      refine ga_aload_n (pc := 17) dX8_lay_17 rfl ?_
      refine mm_g11 (pc := 18) dX8_lay_18 ?_
      refine ga_iload_n (pc := 21) dX8_lay_21 rfl ?_
      refine mm_ald11 (pc := 22) (x := A 11 e) ok (by omega) (rfl) dX8_lay_22 ?_
      refine ga_istore_n (pc := 23) (L1 := [some (.ref mo), some (.int (iI e)), some (.int (iI sh)), some (.int (iI (A 11 e))), none, none, none, none, none, none]) dX8_lay_23 rfl (by decide) rfl ?_
      refine ga_aload_n (pc := 24) dX8_lay_24 rfl ?_
      refine ga_iload_n (pc := 25) dX8_lay_25 rfl ?_
      refine k_X8_isFit (pc := 26) (kind := (A 11 e)) ok (by first | exact hm | omega) (by first | exact h1 | omega) ⟨Nat.le_of_ble_eq_true rfl, Nat.le_of_ble_eq_true rfl⟩ (Nat.le_of_ble_eq_true rfl) dX8_lay_26 (fun r26 I26 A26 hp26 => ?_)
      obtain ⟨er26, eI26, f26, rfl⟩ := hp26
      rw [tCnt_e] at er26
      rw [er26, eI26]
      refine ga_ifb_ne (pc := 29) (tgt := 35) dX8_lay_29 rfl (fun c29 => ?_) (fun c29 => ?_)
      · skip
        refine ga_aload_n (pc := 35) dX8_lay_35 rfl ?_
        refine ga_iload_n (pc := 36) dX8_lay_36 rfl ?_
        refine k_X8_setsUp (pc := 37) (e := e) ok (show (1 ≤ I 3 ∧ I 3 ≤ 3) ∧ 1 ≤ I 4 ∧ I 4 ≤ 3 from by first | exact hm | omega) (show tEn ((A 0)) from by first | exact he5 | omega) (show mEq I (uN A 22 f26) from by first | exact heq | omega) (show mSafe (I 3) (I 4) (uN A 22 f26) from by first | exact hsf | omega) (show 0 ≤ e ∧ e < I 5 from by first | exact h1 | omega) (show zFit (I 3) (I 4) ((A 11) e) from by first | exact hft | omega) ⟨Nat.le_of_ble_eq_true rfl, Nat.le_of_ble_eq_true rfl⟩ (Nat.le_of_ble_eq_true rfl) dX8_lay_37 (fun I37 A37 hp37 => ?_)
        obtain ⟨hz37, hst9, hpl9⟩ : mSam I (uN A 22 f26) I37 A37 ∧ mSt I37 A37 (I 3 * I 4) (tCnt (A 11 e) (I 3) (I 4)) (mKd I A e) ∧ ∀ u : Int, 0 ≤ u → u < (tCnt (A 11 e) (I 3) (I 4)) → A37 22 u = tPlc (A 11 e) (I 3) (I 4) u := hp37
        have hsm37 : mSam I A I37 A37 := ((mSam.refl I A).uA (k := 22) (by decide)).trans hz37
        have hft : zFit (I 3) (I 4) (A 11 e) := by assumption
        have hm9 : (1 ≤ I37 3 ∧ I37 3 ≤ 3) ∧ 1 ≤ I37 4 ∧ I37 4 ≤ 3 := by rw [hsm37.1 3 (by decide), hsm37.1 4 (by decide)]; exact hm
        have hI3 : I37 3 = I 3 := hsm37.1 3 (by decide)
        have hI4 : I37 4 = I 4 := hsm37.1 4 (by decide)
        have hA11 : A37 11 = A 11 := hsm37.2 11 (by decide)
        have hI5 : I37 5 = I 5 := hsm37.1 5 (by decide)
        have hsy := hsf (A 11 e) (A 11 e) (A 12 e) 0 hke.1 (Or.inl rfl) hft.1 hke.2 (by omega) (fun z => absurd rfl z) (by rw [zW_0]; exact hft.2)
        have hzr := zSy_r hsy (by rw [zH_0]; omega) (by rw [zW_0]; omega)
        rw [zH_0, zW_0] at hzr
        have hlr9 : ∀ k : Int, -1 ≤ (mKd I A e).2.2.2.2 k ∧ (mKd I A e).2.2.2.2 k < 9 := fun k => by have g := hzr.2.2.1 k; have g1 := hzr.1; change -1 ≤ (mKd I A e).2.2.2.2 k ∧ (mKd I A e).2.2.2.2 k < (mKd I A e).2.1 at g; change 0 ≤ (mKd I A e).2.1 ∧ (mKd I A e).2.1 ≤ _ ∧ (mKd I A e).2.1 ≤ _ at g1; omega
        have hsw9 : (0 ≤ I 3 * I 4 ∧ I 3 * I 4 ≤ 9) ∧ (0 ≤ (tCnt (A 11 e) (I 3) (I 4)) ∧ (tCnt (A 11 e) (I 3) (I 4)) ≤ 7) ∧ 0 ≤ (mKd I A e).2.1 ∧ (mKd I A e).2.1 ≤ I 3 * I 4 := ⟨by omega, by omega, hzr.1.1, hzr.1.2.2⟩
        have hd : (mKd I A e).2.2.2.1 ≠ 0 ∧ z40 (mKd I A e).2.2.2.1 := hzr.2.2.2.2
        have hent : eEnt (I 3 * I 4) (tCnt (A 11 e) (I 3) (I 4)) (mKd I A e) := hzr.2.2.2.1
        have hlh : ∀ k : Int, -1 ≤ (mKd I A e).2.2.2.2 k ∧ (mKd I A e).2.2.2.2 k < I 3 * I 4 := fun k => ⟨(hzr.2.2.1 k).1, Int.lt_of_lt_of_le (hzr.2.2.1 k).2 hzr.1.2.2⟩
        have hdv : ∀ p : Int, 0 < zNd (I 3) (I 4) (A 11 e) (mKd I A e) (tCnt (A 11 e) (I 3) (I 4)) p 1 ∧ zNd (I 3) (I 4) (A 11 e) (mKd I A e) (tCnt (A 11 e) (I 3) (I 4)) p 1 ∣ (mKd I A e).2.2.2.1 := fun p => ⟨(zPart_d hd.1).1, (zPart_d hd.1).2.1⟩
        have hal : 0 < (mAll I A e) ∧ (mAll I A e) ∣ (mKd I A e).2.2.2.1 := zLcs_d hdv (I 3 * I 4).toNat
        have hal2 := zLe_d hd.1 hal.2
        refine ga_aload_n (pc := 40) dX8_lay_40 rfl ?_
        refine k_X8_isSolved (pc := 41) (H := (I 3 * I 4)) (W := (tCnt (A 11 e) (I 3) (I 4))) (S := (mKd I A e)) ok (hst9) (hsw9) (hzr.2.2.2.1) ⟨Nat.le_of_ble_eq_true rfl, Nat.le_of_ble_eq_true rfl⟩ (Nat.le_of_ble_eq_true rfl) dX8_lay_41 (fun r41 I41 A41 hp41 => ?_)
        obtain ⟨⟨eI41, eA41⟩, hq41⟩ := hp41
        rw [eI41, eA41]
        have er41 := eSlv_o hsw9.2.2.2 hq41
        have hr41 : r41 = 0 ∨ r41 = 1 := by rcases hq41 with ⟨z, -⟩ | ⟨z, -⟩ <;> omega
        refine ga_if_ne (pc := 44) (tgt := 50) dX8_lay_44 rfl (by omega) (fun c44 => ?_) (fun c44 => ?_)
        · skip
          refine ga_aload_n (pc := 50) dX8_lay_50 rfl ?_
          refine ga_iload_n (pc := 51) dX8_lay_51 rfl ?_
          refine k_X8_leastScale (pc := 52) (kind := (A 11 e)) (H := (I 3 * I 4)) (W := (tCnt (A 11 e) (I 3) (I 4))) (S := (mKd I A e)) (z := (mAll I A e)) ok (hm9) (hst9) (hsw9) (by first | exact h1 | omega) (by rw [hI3, hI4]) (fun k => hzr.2.2.1 k) (by rw [hI3, hI4]; exact hpl9) (hent) (hd) (by rw [hI3, hI4]) ⟨Nat.le_of_ble_eq_true rfl, Nat.le_of_ble_eq_true rfl⟩ (Nat.le_of_ble_eq_true rfl) dX8_lay_52 ?_
          refine ga_lstore (pc := 55) (L1 := [some (.ref mo), some (.int (iI e)), some (.int (iI sh)), some (.int (iI (A 11 e))), some (.long (lI (mAll I A e))), none, none, none, none, none]) dX8_lay_55 rfl (by decide) rfl ?_
          have jn72 : ∀ (x : Int), (x = zBi (mVl I A e) (mAll I A e) 0) → G X (gR 6) RX8 10 cX8_lay (mH mo ad I37 A37) 0 0 72 [some (.ref mo), some (.int (iI e)), some (.int (iI sh)), some (.int (iI (A 11 e))), some (.long (lI (mAll I A e))), none, none, none, none, none] [.int (iI x)] := by
            intro x hx
            refine ga_istore (pc := 72) (L1 := [some (.ref mo), some (.int (iI e)), some (.int (iI sh)), some (.int (iI (A 11 e))), some (.long (lI (mAll I A e))), none, some (.int (iI x)), none, none, none]) dX8_lay_72 rfl (by decide) rfl ?_
            refine ga_iconst (pc := 74) dX8_lay_74 ?_
            refine ga_istore (pc := 75) (L1 := [some (.ref mo), some (.int (iI e)), some (.int (iI sh)), some (.int (iI (A 11 e))), some (.long (lI (mAll I A e))), none, some (.int (iI x)), some (.int (iI 0)), none, none]) dX8_lay_75 rfl (by decide) rfl ?_
            have lp77 : ∀ (N77 : Nat) (x p : Int), (0 ≤ p ∧ p ≤ I 3 * I 4) → (x = zBi (mVl I A e) (mAll I A e) p.toNat) → (I 3 * I 4 - p).toNat < N77 → G X (gR 6) RX8 10 cX8_lay (mH mo ad I37 A37) 0 0 77 [some (.ref mo), some (.int (iI e)), some (.int (iI sh)), some (.int (iI (A 11 e))), some (.long (lI (mAll I A e))), none, some (.int (iI x)), some (.int (iI p)), none, none] [] := by
              intro N77
              induction N77 with
              | zero => intro x p hp hx hN77; exact absurd hN77 (Nat.not_lt_zero _)
              | succ N77 ih77 =>
                intro x p hp hx hN77
                have hxr := zBi_r (mVl I A e) (mAll I A e) p.toNat
                rw [← hx] at hxr
                refine ga_iload (pc := 77) dX8_lay_77 rfl ?_
                refine ga_aload_n (pc := 79) dX8_lay_79 rfl ?_
                refine mm_g3 (pc := 80) (z := I37 3) rfl dX8_lay_80 ?_
                refine ga_topi (pc := 83) (b := I 3) (hI3) ?_
                refine ga_aload_n (pc := 83) dX8_lay_83 rfl ?_
                refine mm_g4 (pc := 84) (z := I37 4) rfl dX8_lay_84 ?_
                refine ga_topi (pc := 87) (b := I 4) (hI4) ?_
                refine ga_imul (pc := 87) dX8_lay_87 ?_
                refine ga_icmp_ge (pc := 88) (tgt := 181) dX8_lay_88 rfl (by omega) (by omega) (fun c88 => ?_) (fun c88 => ?_)
                · skip
                  refine ga_iload (pc := 181) dX8_lay_181 rfl ?_
                  refine ga_if_ne (pc := 183) (tgt := 189) dX8_lay_183 rfl (by omega) (fun c183 => ?_) (fun c183 => ?_)
                  · skip
                    have hb9 : zBi (mVl I A e) (mAll I A e) (I 3 * I 4).toNat = 1 := by rw [← show p = I 3 * I 4 by omega, ← hx]; omega
                    have hbz := zBi_i _ hb9
                    refine ga_aload_n (pc := 189) dX8_lay_189 rfl ?_
                    refine mm_g34 (pc := 190) dX8_lay_190 ?_
                    refine ga_iload_n (pc := 193) dX8_lay_193 rfl ?_
                    refine ga_iconst (pc := 194) dX8_lay_194 ?_
                    refine mm_ast34 (pc := 195) (f := A37 34) (A1 := (uN A37 34 (uZ (A37 34) sh 2))) ok (by omega) rfl (rfl) dX8_lay_195 ?_
                    refine ga_aload_n (pc := 196) dX8_lay_196 rfl ?_
                    refine mm_g35 (pc := 197) dX8_lay_197 ?_
                    refine ga_iload_n (pc := 200) dX8_lay_200 rfl ?_
                    refine ga_aload_n (pc := 201) dX8_lay_201 rfl ?_
                    refine mm_g3 (pc := 202) (z := I37 3) rfl dX8_lay_202 ?_
                    refine ga_topi (pc := 205) (b := I 3) (hI3) ?_
                    refine ga_aload_n (pc := 205) dX8_lay_205 rfl ?_
                    refine mm_g4 (pc := 206) (z := I37 4) rfl dX8_lay_206 ?_
                    refine ga_topi (pc := 209) (b := I 4) (hI4) ?_
                    refine ga_imul (pc := 209) dX8_lay_209 ?_
                    refine mm_ast35 (pc := 210) (f := A37 35) (A1 := (uN (uN A37 34 (uZ (A37 34) sh 2)) 35 (uZ (A37 35) sh ((I 3) * (I 4))))) ok (by omega) rfl (rfl) dX8_lay_210 ?_
                    refine ga_iconst (pc := 211) dX8_lay_211 ?_
                    refine ga_istore (pc := 212) (L1 := [some (.ref mo), some (.int (iI e)), some (.int (iI sh)), some (.int (iI (A 11 e))), some (.long (lI (mAll I A e))), none, some (.int (iI x)), some (.int (iI 0)), none, none]) dX8_lay_212 rfl (by decide) rfl ?_
                    refine ga_heq (pc := 214) (h1 := mH mo ad I37 (uN (uN (uN A37 34 (uZ (A37 34) sh 2)) 35 (uZ (A37 35) sh (I 3 * I 4))) 36 (mLy (A37 36) (mVl I A e) (40 * sh) (I 3 * I 4) 0))) (congr (congrArg (mH mo ad) (rfl)) (by funext j; by_cases e0 : j = 34; (subst e0; rfl); by_cases e1 : j = 35; (subst e1; rfl); by_cases e2 : j = 36; (subst e2; exact (show (A37 36) = (mLy (A37 36) (mVl I A e) (40 * sh) (I 3 * I 4) 0) from (mLy_0 _ _ _ _).symm)); simp only [uN, if_neg e0, if_neg e1, if_neg e2])) ?_
                    have lp214 : ∀ (N214 : Nat) (p : Int), (0 ≤ p ∧ p ≤ 40) → (40 - p).toNat < N214 → G X (gR 6) RX8 10 cX8_lay (mH mo ad I37 (uN (uN (uN A37 34 (uZ (A37 34) sh 2)) 35 (uZ (A37 35) sh (I 3 * I 4))) 36 (mLy (A37 36) (mVl I A e) (40 * sh) (I 3 * I 4) p))) 0 0 214 [some (.ref mo), some (.int (iI e)), some (.int (iI sh)), some (.int (iI (A 11 e))), some (.long (lI (mAll I A e))), none, some (.int (iI x)), some (.int (iI p)), none, none] [] := by
                      intro N214
                      induction N214 with
                      | zero => intro p hp hN214; exact absurd hN214 (Nat.not_lt_zero _)
                      | succ N214 ih214 =>
                        intro p hp hN214
                        refine ga_iload (pc := 214) dX8_lay_214 rfl ?_
                        refine ga_bipush (pc := 216) dX8_lay_216 rfl ?_
                        refine ga_icmp_ge (pc := 218) (tgt := 317) dX8_lay_218 rfl (by omega) (by omega) (fun c218 => ?_) (fun c218 => ?_)
                        · skip
                          refine ga_lload (pc := 317) dX8_lay_317 rfl ?_
                          refine ga_l2i (pc := 319) dX8_lay_319 ?_
                          exact mm_iret hE dX8_lay_320 (⟨_, rfl, by dsimp only; (obtain rfl : p = 40 := by omega); rw [if_pos (by omega), if_pos hft, if_pos (by omega), if_pos hb9]; exact ⟨rfl, hsm37.lays⟩⟩)
                        · skip
                          refine ga_aload_n (pc := 221) dX8_lay_221 rfl ?_
                          refine mm_g36 (pc := 222) dX8_lay_222 ?_
                          refine ga_bipush (pc := 225) dX8_lay_225 rfl ?_
                          refine ga_iload_n (pc := 227) dX8_lay_227 rfl ?_
                          refine ga_imul (pc := 228) dX8_lay_228 ?_
                          refine ga_iload (pc := 229) dX8_lay_229 rfl ?_
                          refine ga_iadd (pc := 231) dX8_lay_231 ?_
                          have jn310 : ∀ (y : Int), (y = if p < I 3 * I 4 then (mVl I A e) p else 0) → G X (gR 6) RX8 10 cX8_lay (mH mo ad I37 (uN (uN (uN A37 34 (uZ (A37 34) sh 2)) 35 (uZ (A37 35) sh (I 3 * I 4))) 36 (mLy (A37 36) (mVl I A e) (40 * sh) (I 3 * I 4) p))) 0 0 310 [some (.ref mo), some (.int (iI e)), some (.int (iI sh)), some (.int (iI (A 11 e))), some (.long (lI (mAll I A e))), none, some (.int (iI x)), some (.int (iI p)), none, none] [.long (lI y), .int (iI ((40 * sh) + p)), .ref (ad 36)] := by
                            intro y hy
                            refine mm_ast36 (pc := 310) (f := mLy (A37 36) (mVl I A e) (40 * sh) (I 3 * I 4) p) (A1 := (uN (uN (uN A37 34 (uZ (A37 34) sh 2)) 35 (uZ (A37 35) sh (I 3 * I 4))) 36 (uZ (mLy (A37 36) (mVl I A e) (40 * sh) (I 3 * I 4) p) ((40 * sh) + p) y))) ok (by omega) rfl (by funext j; by_cases e0 : j = 36; (subst e0; rfl); simp only [uN, if_neg e0]) dX8_lay_310 ?_
                            refine ga_iinc (pc := 311) (L1 := [some (.ref mo), some (.int (iI e)), some (.int (iI sh)), some (.int (iI (A 11 e))), some (.long (lI (mAll I A e))), none, some (.int (iI x)), some (.int (iI (p + 1))), none, none]) dX8_lay_311 rfl rfl (by decide) rfl ?_
                            refine ga_goto (pc := 314) (tgt := 214) dX8_lay_314 rfl ?_
                            refine ga_heq (pc := 214) (h1 := mH mo ad I37 (uN (uN (uN A37 34 (uZ (A37 34) sh 2)) 35 (uZ (A37 35) sh (I 3 * I 4))) 36 (mLy (A37 36) (mVl I A e) (40 * sh) (I 3 * I 4) (p + 1)))) (congr (congrArg (mH mo ad) (rfl)) (by funext j; by_cases e0 : j = 34; (subst e0; rfl); by_cases e1 : j = 35; (subst e1; rfl); by_cases e2 : j = 36; (subst e2; exact (show (uZ (mLy (A37 36) (mVl I A e) (40 * sh) (I 3 * I 4) p) ((40 * sh) + p) y) = (mLy (A37 36) (mVl I A e) (40 * sh) (I 3 * I 4) (p + 1)) from mLy_s _ _ hp.1 hy)); simp only [uN, if_neg e0, if_neg e1, if_neg e2])) ?_
                            exact ih214 (p + 1) (by omega) (by omega)
                          refine ga_iload (pc := 232) dX8_lay_232 rfl ?_
                          refine ga_aload_n (pc := 234) dX8_lay_234 rfl ?_
                          refine mm_g3 (pc := 235) (z := I37 3) rfl dX8_lay_235 ?_
                          refine ga_topi (pc := 238) (b := I 3) (hI3) ?_
                          refine ga_aload_n (pc := 238) dX8_lay_238 rfl ?_
                          refine mm_g4 (pc := 239) (z := I37 4) rfl dX8_lay_239 ?_
                          refine ga_topi (pc := 242) (b := I 4) (hI4) ?_
                          refine ga_imul (pc := 242) dX8_lay_242 ?_
                          refine ga_icmp_ge (pc := 243) (tgt := 309) dX8_lay_243 rfl (by omega) (by omega) (fun c243 => ?_) (fun c243 => ?_)
                          · skip
                            refine ga_lconst (pc := 309) 0 dX8_lay_309 rfl ?_
                            exact jn310 0 (by first | (rw [if_pos (by omega)]; done) | rw [if_neg (by omega)])
                          · skip
                            have hdp := dm_r hm (show 0 ≤ p ∧ p < I 3 * I 4 by omega)
                            have hzs : -7696581394432 ≤ zShs (I 3) (I 4) (A 11 e) (mKd I A e) (tCnt (A 11 e) (I 3) (I 4)) (p.tdiv (I 4)) (p.tmod (I 4)) (-1) ∧ zShs (I 3) (I 4) (A 11 e) (mKd I A e) (tCnt (A 11 e) (I 3) (I 4)) (p.tdiv (I 4)) (p.tmod (I 4)) (-1) ≤ 7696581394432 := zShs_r (H := I 3 * I 4) (by omega) hent hd.2 hlh (by omega)
                            have hnd := zPart_d (a := zShs (I 3) (I 4) (A 11 e) (mKd I A e) (tCnt (A 11 e) (I 3) (I 4)) (p.tdiv (I 4)) (p.tmod (I 4)) (-1)) hd.1
                            have hnl := zLe_d hd.1 hnd.2.1
                            have hvr : (zNd (I 3) (I 4) (A 11 e) (mKd I A e) (tCnt (A 11 e) (I 3) (I 4)) p 0 * (mAll I A e).tdiv (zNd (I 3) (I 4) (A 11 e) (mKd I A e) (tCnt (A 11 e) (I 3) (I 4)) p 1)).natAbs ≤ (zShs (I 3) (I 4) (A 11 e) (mKd I A e) (tCnt (A 11 e) (I 3) (I 4)) (p.tdiv (I 4)) (p.tmod (I 4)) (-1)).natAbs := zVal_r hd.1 hal.1 hal.2
                            have hb1 := hdv p
                            have hb2 := zLe_d hd.1 hb1.2
                            have hvr2 : ((mVl I A e) p).natAbs ≤ (zShs (I 3) (I 4) (A 11 e) (mKd I A e) (tCnt (A 11 e) (I 3) (I 4)) (p.tdiv (I 4)) (p.tmod (I 4)) (-1)).natAbs := hvr
                            refine ga_aload_n (pc := 246) dX8_lay_246 rfl ?_
                            refine ga_iload_n (pc := 247) dX8_lay_247 rfl ?_
                            refine ga_iload (pc := 248) dX8_lay_248 rfl ?_
                            refine ga_aload_n (pc := 250) dX8_lay_250 rfl ?_
                            refine mm_g4 (pc := 251) (z := I37 4) rfl dX8_lay_251 ?_
                            refine ga_topi (pc := 254) (b := I 4) (hI4) ?_
                            refine ga_idiv (pc := 254) dX8_lay_254 (by omega) (by omega) (by omega) ?_
                            refine ga_iload (pc := 255) dX8_lay_255 rfl ?_
                            refine ga_aload_n (pc := 257) dX8_lay_257 rfl ?_
                            refine mm_g4 (pc := 258) (z := I37 4) rfl dX8_lay_258 ?_
                            refine ga_topi (pc := 261) (b := I 4) (hI4) ?_
                            refine ga_irem (pc := 261) dX8_lay_261 (by omega) (by omega) (by omega) ?_
                            refine ga_iconst (pc := 262) dX8_lay_262 ?_
                            refine k_X8_shapedSum (pc := 263) (kind := (A 11 e)) (i := (p.tdiv (I 4))) (j := (p.tmod (I 4))) (c := (-1)) (H := (I 3 * I 4)) (W := (tCnt (A 11 e) (I 3) (I 4))) (S := (mKd I A e)) (z := (zShs (I 3) (I 4) (A 11 e) (mKd I A e) (tCnt (A 11 e) (I 3) (I 4)) (p.tdiv (I 4)) (p.tmod (I 4)) (-1))) ok (show (1 ≤ I37 3 ∧ I37 3 ≤ 3) ∧ 1 ≤ I37 4 ∧ I37 4 ≤ 3 from hm9) (show mSt I37 (uN (uN (uN A37 34 (uZ (A37 34) sh 2)) 35 (uZ (A37 35) sh (I 3 * I 4))) 36 (mLy (A37 36) (mVl I A e) (40 * sh) (I 3 * I 4) p)) (I 3 * I 4) (tCnt (A 11 e) (I 3) (I 4)) (mKd I A e) from hst9) (show (0 ≤ (I 3 * I 4) ∧ (I 3 * I 4) ≤ 9) ∧ (0 ≤ (tCnt (A 11 e) (I 3) (I 4)) ∧ (tCnt (A 11 e) (I 3) (I 4)) ≤ 7) ∧ 0 ≤ (mKd I A e).2.1 ∧ (mKd I A e).2.1 ≤ (I 3 * I 4) from hsw9) (show (0 ≤ (A 11 e) ∧ (A 11 e) ≤ 6) ∧ (0 ≤ (p.tdiv (I 4)) ∧ (p.tdiv (I 4)) ≤ 2) ∧ (0 ≤ (p.tmod (I 4)) ∧ (p.tmod (I 4)) ≤ 2) ∧ -1 ≤ (-1) ∧ (-1) ≤ 8 from by omega) (show (-1) < (tCnt (A 11 e) (I 3) (I 4)) ∧ (tCnt (A 11 e) (I 3) (I 4)) = tCnt (A 11 e) (I37 3) (I37 4) from by rw [hI3, hI4]; exact ⟨by omega, rfl⟩) (show ∀ k : Int, -1 ≤ (mKd I A e).2.2.2.2 k ∧ (mKd I A e).2.2.2.2 k < (mKd I A e).2.1 from fun k => hzr.2.2.1 k) (show ∀ u : Int, 0 ≤ u → u < (tCnt (A 11 e) (I 3) (I 4)) → (A37 22) u = tPlc (A 11 e) (I37 3) (I37 4) u from by rw [hI3, hI4]; exact hpl9) (by rw [hI3, hI4]) ⟨Nat.le_of_ble_eq_true rfl, Nat.le_of_ble_eq_true rfl⟩ (Nat.le_of_ble_eq_true rfl) dX8_lay_263 ?_
                            refine ga_aload_n (pc := 266) dX8_lay_266 rfl ?_
                            refine mm_g30 (pc := 267) (z := I37 30) rfl dX8_lay_267 ?_
                            refine ga_topl (pc := 270) (b := (mKd I A e).2.2.2.1) (hst9.2.1.2.2) ?_
                            refine ga_iconst (pc := 270) dX8_lay_270 ?_
                            refine k_X8_partOf (pc := 271) (a := (zShs (I 3) (I 4) (A 11 e) (mKd I A e) (tCnt (A 11 e) (I 3) (I 4)) (p.tdiv (I 4)) (p.tmod (I 4)) (-1))) (b := ((mKd I A e).2.2.2.1)) (part := 0) (by omega) (by omega) (by omega) (rfl) ⟨Nat.le_of_ble_eq_true rfl, Nat.le_of_ble_eq_true rfl⟩ ⟨Nat.le_of_ble_eq_true rfl, Nat.le_of_ble_eq_true rfl⟩ (Nat.le_of_ble_eq_true rfl) dX8_lay_271 ?_
                            refine ga_topl (pc := 274) (b := zNd (I 3) (I 4) (A 11 e) (mKd I A e) (tCnt (A 11 e) (I 3) (I 4)) p 0) (rfl) ?_
                            refine ga_lload (pc := 274) dX8_lay_274 rfl ?_
                            refine ga_aload_n (pc := 276) dX8_lay_276 rfl ?_
                            refine ga_iload_n (pc := 277) dX8_lay_277 rfl ?_
                            refine ga_iload (pc := 278) dX8_lay_278 rfl ?_
                            refine ga_aload_n (pc := 280) dX8_lay_280 rfl ?_
                            refine mm_g4 (pc := 281) (z := I37 4) rfl dX8_lay_281 ?_
                            refine ga_topi (pc := 284) (b := I 4) (hI4) ?_
                            refine ga_idiv (pc := 284) dX8_lay_284 (by omega) (by omega) (by omega) ?_
                            refine ga_iload (pc := 285) dX8_lay_285 rfl ?_
                            refine ga_aload_n (pc := 287) dX8_lay_287 rfl ?_
                            refine mm_g4 (pc := 288) (z := I37 4) rfl dX8_lay_288 ?_
                            refine ga_topi (pc := 291) (b := I 4) (hI4) ?_
                            refine ga_irem (pc := 291) dX8_lay_291 (by omega) (by omega) (by omega) ?_
                            refine ga_iconst (pc := 292) dX8_lay_292 ?_
                            refine k_X8_shapedSum (pc := 293) (kind := (A 11 e)) (i := (p.tdiv (I 4))) (j := (p.tmod (I 4))) (c := (-1)) (H := (I 3 * I 4)) (W := (tCnt (A 11 e) (I 3) (I 4))) (S := (mKd I A e)) (z := (zShs (I 3) (I 4) (A 11 e) (mKd I A e) (tCnt (A 11 e) (I 3) (I 4)) (p.tdiv (I 4)) (p.tmod (I 4)) (-1))) ok (show (1 ≤ I37 3 ∧ I37 3 ≤ 3) ∧ 1 ≤ I37 4 ∧ I37 4 ≤ 3 from hm9) (show mSt I37 (uN (uN (uN A37 34 (uZ (A37 34) sh 2)) 35 (uZ (A37 35) sh (I 3 * I 4))) 36 (mLy (A37 36) (mVl I A e) (40 * sh) (I 3 * I 4) p)) (I 3 * I 4) (tCnt (A 11 e) (I 3) (I 4)) (mKd I A e) from hst9) (show (0 ≤ (I 3 * I 4) ∧ (I 3 * I 4) ≤ 9) ∧ (0 ≤ (tCnt (A 11 e) (I 3) (I 4)) ∧ (tCnt (A 11 e) (I 3) (I 4)) ≤ 7) ∧ 0 ≤ (mKd I A e).2.1 ∧ (mKd I A e).2.1 ≤ (I 3 * I 4) from hsw9) (show (0 ≤ (A 11 e) ∧ (A 11 e) ≤ 6) ∧ (0 ≤ (p.tdiv (I 4)) ∧ (p.tdiv (I 4)) ≤ 2) ∧ (0 ≤ (p.tmod (I 4)) ∧ (p.tmod (I 4)) ≤ 2) ∧ -1 ≤ (-1) ∧ (-1) ≤ 8 from by omega) (show (-1) < (tCnt (A 11 e) (I 3) (I 4)) ∧ (tCnt (A 11 e) (I 3) (I 4)) = tCnt (A 11 e) (I37 3) (I37 4) from by rw [hI3, hI4]; exact ⟨by omega, rfl⟩) (show ∀ k : Int, -1 ≤ (mKd I A e).2.2.2.2 k ∧ (mKd I A e).2.2.2.2 k < (mKd I A e).2.1 from fun k => hzr.2.2.1 k) (show ∀ u : Int, 0 ≤ u → u < (tCnt (A 11 e) (I 3) (I 4)) → (A37 22) u = tPlc (A 11 e) (I37 3) (I37 4) u from by rw [hI3, hI4]; exact hpl9) (by rw [hI3, hI4]) ⟨Nat.le_of_ble_eq_true rfl, Nat.le_of_ble_eq_true rfl⟩ (Nat.le_of_ble_eq_true rfl) dX8_lay_293 ?_
                            refine ga_aload_n (pc := 296) dX8_lay_296 rfl ?_
                            refine mm_g30 (pc := 297) (z := I37 30) rfl dX8_lay_297 ?_
                            refine ga_topl (pc := 300) (b := (mKd I A e).2.2.2.1) (hst9.2.1.2.2) ?_
                            refine ga_iconst (pc := 300) dX8_lay_300 ?_
                            refine k_X8_partOf (pc := 301) (a := (zShs (I 3) (I 4) (A 11 e) (mKd I A e) (tCnt (A 11 e) (I 3) (I 4)) (p.tdiv (I 4)) (p.tmod (I 4)) (-1))) (b := ((mKd I A e).2.2.2.1)) (part := 1) (by omega) (by omega) (by omega) (rfl) ⟨Nat.le_of_ble_eq_true rfl, Nat.le_of_ble_eq_true rfl⟩ ⟨Nat.le_of_ble_eq_true rfl, Nat.le_of_ble_eq_true rfl⟩ (Nat.le_of_ble_eq_true rfl) dX8_lay_301 ?_
                            refine ga_topl (pc := 304) (b := zNd (I 3) (I 4) (A 11 e) (mKd I A e) (tCnt (A 11 e) (I 3) (I 4)) p 1) (rfl) ?_
                            refine ga_ldiv (pc := 304) dX8_lay_304 (by omega) (by omega) (by omega) ?_
                            refine ga_lmul (pc := 305) dX8_lay_305 ?_
                            refine ga_topl (pc := 306) (b := (mVl I A e) p) (rfl) ?_
                            refine ga_goto (pc := 306) (tgt := 310) dX8_lay_306 rfl ?_
                            exact jn310 ((mVl I A e) p) (by first | (rw [if_pos (by omega)]; done) | rw [if_neg (by omega)])
                    exact lp214 _ 0 (by omega) (Nat.lt_succ_self _)
                  · skip
                    refine ga_bipush (pc := 186) dX8_lay_186 rfl ?_
                    exact mm_iret hE dX8_lay_188 (⟨_, rfl, by dsimp only; first | (rw [if_neg (by omega)]; exact ⟨rfl, hsm37⟩) | (rw [if_pos (by omega), if_neg (by assumption)]; exact ⟨rfl, hsm37⟩) | (rw [if_pos (by omega), if_pos (by assumption), if_neg (by omega)]; exact ⟨rfl, hsm37⟩) | (rw [if_pos (by omega), if_pos (by assumption), if_pos (by omega), if_neg (by rw [← show p = I 3 * I 4 by omega, ← hx]; omega)]; exact ⟨rfl, hsm37⟩)⟩)
                · skip
                  have hdp := dm_r hm (show 0 ≤ p ∧ p < I 3 * I 4 by omega)
                  have hzs : -7696581394432 ≤ zShs (I 3) (I 4) (A 11 e) (mKd I A e) (tCnt (A 11 e) (I 3) (I 4)) (p.tdiv (I 4)) (p.tmod (I 4)) (-1) ∧ zShs (I 3) (I 4) (A 11 e) (mKd I A e) (tCnt (A 11 e) (I 3) (I 4)) (p.tdiv (I 4)) (p.tmod (I 4)) (-1) ≤ 7696581394432 := zShs_r (H := I 3 * I 4) (by omega) hent hd.2 hlh (by omega)
                  have hnd := zPart_d (a := zShs (I 3) (I 4) (A 11 e) (mKd I A e) (tCnt (A 11 e) (I 3) (I 4)) (p.tdiv (I 4)) (p.tmod (I 4)) (-1)) hd.1
                  have hnl := zLe_d hd.1 hnd.2.1
                  have hvr : (zNd (I 3) (I 4) (A 11 e) (mKd I A e) (tCnt (A 11 e) (I 3) (I 4)) p 0 * (mAll I A e).tdiv (zNd (I 3) (I 4) (A 11 e) (mKd I A e) (tCnt (A 11 e) (I 3) (I 4)) p 1)).natAbs ≤ (zShs (I 3) (I 4) (A 11 e) (mKd I A e) (tCnt (A 11 e) (I 3) (I 4)) (p.tdiv (I 4)) (p.tmod (I 4)) (-1)).natAbs := zVal_r hd.1 hal.1 hal.2
                  have hb1 := hdv p
                  have hb2 := zLe_d hd.1 hb1.2
                  have hvr2 : ((mVl I A e) p).natAbs ≤ (zShs (I 3) (I 4) (A 11 e) (mKd I A e) (tCnt (A 11 e) (I 3) (I 4)) (p.tdiv (I 4)) (p.tmod (I 4)) (-1)).natAbs := hvr
                  refine ga_aload_n (pc := 91) dX8_lay_91 rfl ?_
                  refine ga_iload_n (pc := 92) dX8_lay_92 rfl ?_
                  refine ga_iload (pc := 93) dX8_lay_93 rfl ?_
                  refine ga_aload_n (pc := 95) dX8_lay_95 rfl ?_
                  refine mm_g4 (pc := 96) (z := I37 4) rfl dX8_lay_96 ?_
                  refine ga_topi (pc := 99) (b := I 4) (hI4) ?_
                  refine ga_idiv (pc := 99) dX8_lay_99 (by omega) (by omega) (by omega) ?_
                  refine ga_iload (pc := 100) dX8_lay_100 rfl ?_
                  refine ga_aload_n (pc := 102) dX8_lay_102 rfl ?_
                  refine mm_g4 (pc := 103) (z := I37 4) rfl dX8_lay_103 ?_
                  refine ga_topi (pc := 106) (b := I 4) (hI4) ?_
                  refine ga_irem (pc := 106) dX8_lay_106 (by omega) (by omega) (by omega) ?_
                  refine ga_iconst (pc := 107) dX8_lay_107 ?_
                  refine k_X8_shapedSum (pc := 108) (kind := (A 11 e)) (i := (p.tdiv (I 4))) (j := (p.tmod (I 4))) (c := (-1)) (H := (I 3 * I 4)) (W := (tCnt (A 11 e) (I 3) (I 4))) (S := (mKd I A e)) (z := (zShs (I 3) (I 4) (A 11 e) (mKd I A e) (tCnt (A 11 e) (I 3) (I 4)) (p.tdiv (I 4)) (p.tmod (I 4)) (-1))) ok (hm9) (hst9) (hsw9) (by omega) (by rw [hI3, hI4]; exact ⟨by omega, rfl⟩) (fun k => hzr.2.2.1 k) (by rw [hI3, hI4]; exact hpl9) (by rw [hI3, hI4]) ⟨Nat.le_of_ble_eq_true rfl, Nat.le_of_ble_eq_true rfl⟩ (Nat.le_of_ble_eq_true rfl) dX8_lay_108 ?_
                  refine ga_aload_n (pc := 111) dX8_lay_111 rfl ?_
                  refine mm_g30 (pc := 112) (z := I37 30) rfl dX8_lay_112 ?_
                  refine ga_topl (pc := 115) (b := (mKd I A e).2.2.2.1) (hst9.2.1.2.2) ?_
                  refine ga_iconst (pc := 115) dX8_lay_115 ?_
                  refine k_X8_partOf (pc := 116) (a := (zShs (I 3) (I 4) (A 11 e) (mKd I A e) (tCnt (A 11 e) (I 3) (I 4)) (p.tdiv (I 4)) (p.tmod (I 4)) (-1))) (b := ((mKd I A e).2.2.2.1)) (part := 0) (by omega) (by omega) (by omega) (rfl) ⟨Nat.le_of_ble_eq_true rfl, Nat.le_of_ble_eq_true rfl⟩ ⟨Nat.le_of_ble_eq_true rfl, Nat.le_of_ble_eq_true rfl⟩ (Nat.le_of_ble_eq_true rfl) dX8_lay_116 ?_
                  refine ga_topl (pc := 119) (b := zNd (I 3) (I 4) (A 11 e) (mKd I A e) (tCnt (A 11 e) (I 3) (I 4)) p 0) (rfl) ?_
                  refine ga_lload (pc := 119) dX8_lay_119 rfl ?_
                  refine ga_aload_n (pc := 121) dX8_lay_121 rfl ?_
                  refine ga_iload_n (pc := 122) dX8_lay_122 rfl ?_
                  refine ga_iload (pc := 123) dX8_lay_123 rfl ?_
                  refine ga_aload_n (pc := 125) dX8_lay_125 rfl ?_
                  refine mm_g4 (pc := 126) (z := I37 4) rfl dX8_lay_126 ?_
                  refine ga_topi (pc := 129) (b := I 4) (hI4) ?_
                  refine ga_idiv (pc := 129) dX8_lay_129 (by omega) (by omega) (by omega) ?_
                  refine ga_iload (pc := 130) dX8_lay_130 rfl ?_
                  refine ga_aload_n (pc := 132) dX8_lay_132 rfl ?_
                  refine mm_g4 (pc := 133) (z := I37 4) rfl dX8_lay_133 ?_
                  refine ga_topi (pc := 136) (b := I 4) (hI4) ?_
                  refine ga_irem (pc := 136) dX8_lay_136 (by omega) (by omega) (by omega) ?_
                  refine ga_iconst (pc := 137) dX8_lay_137 ?_
                  refine k_X8_shapedSum (pc := 138) (kind := (A 11 e)) (i := (p.tdiv (I 4))) (j := (p.tmod (I 4))) (c := (-1)) (H := (I 3 * I 4)) (W := (tCnt (A 11 e) (I 3) (I 4))) (S := (mKd I A e)) (z := (zShs (I 3) (I 4) (A 11 e) (mKd I A e) (tCnt (A 11 e) (I 3) (I 4)) (p.tdiv (I 4)) (p.tmod (I 4)) (-1))) ok (hm9) (hst9) (hsw9) (by omega) (by rw [hI3, hI4]; exact ⟨by omega, rfl⟩) (fun k => hzr.2.2.1 k) (by rw [hI3, hI4]; exact hpl9) (by rw [hI3, hI4]) ⟨Nat.le_of_ble_eq_true rfl, Nat.le_of_ble_eq_true rfl⟩ (Nat.le_of_ble_eq_true rfl) dX8_lay_138 ?_
                  refine ga_aload_n (pc := 141) dX8_lay_141 rfl ?_
                  refine mm_g30 (pc := 142) (z := I37 30) rfl dX8_lay_142 ?_
                  refine ga_topl (pc := 145) (b := (mKd I A e).2.2.2.1) (hst9.2.1.2.2) ?_
                  refine ga_iconst (pc := 145) dX8_lay_145 ?_
                  refine k_X8_partOf (pc := 146) (a := (zShs (I 3) (I 4) (A 11 e) (mKd I A e) (tCnt (A 11 e) (I 3) (I 4)) (p.tdiv (I 4)) (p.tmod (I 4)) (-1))) (b := ((mKd I A e).2.2.2.1)) (part := 1) (by omega) (by omega) (by omega) (rfl) ⟨Nat.le_of_ble_eq_true rfl, Nat.le_of_ble_eq_true rfl⟩ ⟨Nat.le_of_ble_eq_true rfl, Nat.le_of_ble_eq_true rfl⟩ (Nat.le_of_ble_eq_true rfl) dX8_lay_146 ?_
                  refine ga_topl (pc := 149) (b := zNd (I 3) (I 4) (A 11 e) (mKd I A e) (tCnt (A 11 e) (I 3) (I 4)) p 1) (rfl) ?_
                  refine ga_ldiv (pc := 149) dX8_lay_149 (by omega) (by omega) (by omega) ?_
                  refine ga_lmul (pc := 150) dX8_lay_150 ?_
                  refine ga_topl (pc := 151) (b := (mVl I A e) p) (rfl) ?_
                  refine ga_lstore (pc := 151) (L1 := [some (.ref mo), some (.int (iI e)), some (.int (iI sh)), some (.int (iI (A 11 e))), some (.long (lI (mAll I A e))), none, some (.int (iI x)), some (.int (iI p)), some (.long (lI ((mVl I A e) p))), none]) dX8_lay_151 rfl (by decide) rfl ?_
                  have jn173 : ∀ (y : Int), (y = if x = 1 ∧ zI32 ((mVl I A e) p) then 1 else 0) → G X (gR 6) RX8 10 cX8_lay (mH mo ad I37 A37) 0 0 173 [some (.ref mo), some (.int (iI e)), some (.int (iI sh)), some (.int (iI (A 11 e))), some (.long (lI (mAll I A e))), none, some (.int (iI x)), some (.int (iI p)), some (.long (lI ((mVl I A e) p))), none] [.int (iI y)] := by
                    intro y hy
                    refine ga_istore (pc := 173) (L1 := [some (.ref mo), some (.int (iI e)), some (.int (iI sh)), some (.int (iI (A 11 e))), some (.long (lI (mAll I A e))), none, some (.int (iI y)), some (.int (iI p)), some (.long (lI ((mVl I A e) p))), none]) dX8_lay_173 rfl (by decide) rfl ?_
                    refine ga_iinc (pc := 175) (L1 := [some (.ref mo), some (.int (iI e)), some (.int (iI sh)), some (.int (iI (A 11 e))), some (.long (lI (mAll I A e))), none, some (.int (iI y)), some (.int (iI (p + 1))), some (.long (lI ((mVl I A e) p))), none]) dX8_lay_175 rfl rfl (by decide) rfl ?_
                    refine ga_goto (pc := 178) (tgt := 77) dX8_lay_178 rfl ?_
                    refine ga_kill (pc := 77) 8 (L1 := [some (.ref mo), some (.int (iI e)), some (.int (iI sh)), some (.int (iI (A 11 e))), some (.long (lI (mAll I A e))), none, some (.int (iI y)), some (.int (iI (p + 1))), none, none]) rfl ?_
                    exact ih77 y (p + 1) (by omega) (by rw [zBi_s _ _ hp.1, ← hx]; exact hy) (by omega)
                  refine ga_iload (pc := 153) dX8_lay_153 rfl ?_
                  refine ga_if_eq (pc := 155) (tgt := 172) dX8_lay_155 rfl (by omega) (fun c155 => ?_) (fun c155 => ?_)
                  · skip
                    refine ga_iconst (pc := 172) dX8_lay_172 ?_
                    exact jn173 0 (by first | (rw [if_pos ⟨by omega, iI_w32.mp (by omega)⟩]; done) | (rw [if_neg (fun z => by first | exact c165 (iI_w32.mpr z.2) | omega)]))
                  · skip
                    refine ga_lload (pc := 158) dX8_lay_158 rfl ?_
                    refine ga_lload (pc := 160) dX8_lay_160 rfl ?_
                    refine ga_l2i (pc := 162) dX8_lay_162 ?_
                    refine ga_wi (pc := 163) (b := zM ((mVl I A e) p)) (iI_m _) ?_
                    have hzm := zM_r ((mVl I A e) p)
                    refine ga_i2l (pc := 163) dX8_lay_163 (by omega) ?_
                    refine ga_lcmp (pc := 164) dX8_lay_164 (by omega) (by omega) ?_
                    refine ga_ifc_ne (pc := 165) (tgt := 172) dX8_lay_165 rfl (fun c165 => ?_) (fun c165 => ?_)
                    · skip
                      refine ga_iconst (pc := 172) dX8_lay_172 ?_
                      exact jn173 0 (by first | (rw [if_pos ⟨by omega, iI_w32.mp (by omega)⟩]; done) | (rw [if_neg (fun z => by first | exact c165 (iI_w32.mpr z.2) | omega)]))
                    · skip
                      refine ga_iconst (pc := 168) dX8_lay_168 ?_
                      refine ga_goto (pc := 169) (tgt := 173) dX8_lay_169 rfl ?_
                      exact jn173 1 (by first | (rw [if_pos ⟨by omega, iI_w32.mp (by omega)⟩]; done) | (rw [if_neg (fun z => by first | exact c165 (iI_w32.mpr z.2) | omega)]))
            exact lp77 _ x 0 (by omega) (hx) (Nat.lt_succ_self _)
          refine ga_lload (pc := 57) dX8_lay_57 rfl ?_
          refine ga_lload (pc := 59) dX8_lay_59 rfl ?_
          refine ga_l2i (pc := 61) dX8_lay_61 ?_
          refine ga_wi (pc := 62) (b := zM (mAll I A e)) (iI_m _) ?_
          have hzm := zM_r (mAll I A e)
          refine ga_i2l (pc := 62) dX8_lay_62 (by omega) ?_
          refine ga_lcmp (pc := 63) dX8_lay_63 (by omega) (by omega) ?_
          refine ga_ifc_ne (pc := 64) (tgt := 71) dX8_lay_64 rfl (fun c64 => ?_) (fun c64 => ?_)
          · skip
            refine ga_iconst (pc := 71) dX8_lay_71 ?_
            exact jn72 0 (by unfold zBi; first | (rw [if_neg (fun z => c64 (iI_w32.mpr z))]; done) | (rw [if_pos (iI_w32.mp (by omega))]))
          · skip
            refine ga_iconst (pc := 67) dX8_lay_67 ?_
            refine ga_goto (pc := 68) (tgt := 72) dX8_lay_68 rfl ?_
            exact jn72 1 (by unfold zBi; first | (rw [if_neg (fun z => c64 (iI_w32.mpr z))]; done) | (rw [if_pos (iI_w32.mp (by omega))]))
        · skip
          refine ga_bipush (pc := 47) dX8_lay_47 rfl ?_
          exact mm_iret hE dX8_lay_49 (⟨_, rfl, by dsimp only; first | (rw [if_neg (by omega)]; exact ⟨rfl, hsm37⟩) | (rw [if_pos (by omega), if_neg (by assumption)]; exact ⟨rfl, hsm37⟩) | (rw [if_pos (by omega), if_pos (by assumption), if_neg (by omega)]; exact ⟨rfl, hsm37⟩) | (rw [if_pos (by omega), if_pos (by assumption), if_pos (by omega), if_neg (by rw [← show p = I 3 * I 4 by omega, ← hx]; omega)]; exact ⟨rfl, hsm37⟩)⟩)
      · skip
        refine ga_bipush (pc := 32) dX8_lay_32 rfl ?_
        exact mm_iret hE dX8_lay_34 (⟨_, rfl, by dsimp only; first | (rw [if_neg (by omega)]; exact ⟨rfl, ((mSam.refl I A).uA (k := 22) (by decide))⟩) | (rw [if_pos (by omega), if_neg (by assumption)]; exact ⟨rfl, ((mSam.refl I A).uA (k := 22) (by decide))⟩) | (rw [if_pos (by omega), if_pos (by assumption), if_neg (by omega)]; exact ⟨rfl, ((mSam.refl I A).uA (k := 22) (by decide))⟩) | (rw [if_pos (by omega), if_pos (by assumption), if_pos (by omega), if_neg (by rw [← show p = I 3 * I 4 by omega, ← hx]; omega)]; exact ⟨rfl, ((mSam.refl I A).uA (k := 22) (by decide))⟩)⟩)
    · skip
      refine ga_iconst (pc := 15) dX8_lay_15 ?_
      exact mm_iret hE dX8_lay_16 (⟨_, rfl, by dsimp only; first | (rw [if_neg (by omega)]; exact ⟨rfl, (mSam.refl I A)⟩) | (rw [if_pos (by omega), if_neg (by assumption)]; exact ⟨rfl, (mSam.refl I A)⟩) | (rw [if_pos (by omega), if_pos (by assumption), if_neg (by omega)]; exact ⟨rfl, (mSam.refl I A)⟩) | (rw [if_pos (by omega), if_pos (by assumption), if_pos (by omega), if_neg (by rw [← show p = I 3 * I 4 by omega, ← hx]; omega)]; exact ⟨rfl, (mSam.refl I A)⟩)⟩)
