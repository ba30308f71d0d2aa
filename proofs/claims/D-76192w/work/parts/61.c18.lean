/-! THE CLASS: of, right, solution, base -/
def cOf (m n : Int) (E : Nat → Int → Int) (kd sh what : Int) : Int := if what = 0 then kd else if what = 1 then 10 + sh else if what = 2 then (if zFit m n kd then 1 else 0) else if what = 3 then (if zLike m n kd then tCnt kd m n else -4) else if ¬ zFit m n kd then -4 else if what = 4 then (zSy m n E kd kd sh 0).2.1 else if what = 5 then zFr (zSy m n E kd kd sh 0).2.2.2.2 (tCnt kd m n).toNat else eSlv (m * n) (tCnt kd m n) (zSy m n E kd kd sh 0)
theorem cOf_4 {m n kd sh what : Int} {E : Nat → Int → Int} (hm : (1 ≤ m ∧ m ≤ 3) ∧ 1 ≤ n ∧ n ≤ 3) (hk : 0 ≤ kd ∧ kd ≤ 6) (h : (what = 3 ∧ ¬ (m = n ∨ kd < 2)) ∨ (3 < what ∧ ¬ ((m = n ∨ kd < 2) ∧ zUn kd m n ≤ 6))) : cOf m n E kd sh what = -4 := by
  have hz := zFit_i hm hk
  unfold cOf
  rcases h with ⟨rfl, h⟩ | ⟨h1, h⟩
  · rw [if_neg (by decide), if_neg (by decide), if_neg (by decide), if_pos rfl, if_neg (by unfold zLike; omega)]
  · rw [if_neg (show ¬ what = 0 by omega), if_neg (show ¬ what = 1 by omega), if_neg (show ¬ what = 2 by omega), if_neg (show ¬ what = 3 by omega), if_pos (fun z => h (hz.mp z))]
theorem cOf_2 {m n kd sh : Int} {E : Nat → Int → Int} (hm : (1 ≤ m ∧ m ≤ 3) ∧ 1 ≤ n ∧ n ≤ 3) (hk : 0 ≤ kd ∧ kd ≤ 6) : cOf m n E kd sh 2 = if (m = n ∨ kd < 2) ∧ zUn kd m n ≤ 6 then 1 else 0 := by
  have hz := zFit_i hm hk
  show (if zFit m n kd then (1 : Int) else 0) = _
  by_cases h : zFit m n kd
  · rw [if_pos h, if_pos (hz.mp h)]
  · rw [if_neg h, if_neg (fun z => h (hz.mpr z))]
theorem cOf_3 {m n kd sh : Int} {E : Nat → Int → Int} (hl : m = n ∨ kd < 2) : cOf m n E kd sh 3 = tCnt kd m n := by
  show (if zLike m n kd then _ else (-4 : Int)) = _
  rw [if_pos (by unfold zLike; omega)]
theorem cOf_5 {m n kd sh what : Int} {E : Nat → Int → Int} (hf : zFit m n kd) (h3 : 3 < what) : cOf m n E kd sh what = if what = 4 then (zSy m n E kd kd sh 0).2.1 else if what = 5 then zFr (zSy m n E kd kd sh 0).2.2.2.2 (tCnt kd m n).toNat else eSlv (m * n) (tCnt kd m n) (zSy m n E kd kd sh 0) := by
  unfold cOf
  rw [if_neg (show ¬ what = 0 by omega), if_neg (show ¬ what = 1 by omega), if_neg (show ¬ what = 2 by omega), if_neg (show ¬ what = 3 by omega), if_neg (fun z => z hf)]
theorem zSy_b {m n kd sh : Int} {E : Nat → Int → Int} (hm : (1 ≤ m ∧ m ≤ 3) ∧ 1 ≤ n ∧ n ≤ 3) : (zSy m n E kd kd sh 0).2.1 ≤ m * n ∧ ∀ k : Int, (zSy m n E kd kd sh 0).2.2.2.2 k < m * n := by
  have hr := mn_r hm
  rw [eqS]
  have h := eRed_r (m * n) (mSys E m n kd kd sh 0) (by omega) (tCnt kd m n).toNat
  exact ⟨h.1.2.2, fun k => by have := h.2.2 k; omega⟩
set_option maxHeartbeats 4000000 in
set_option maxRecDepth 100000 in
theorem m_J9_bitCount (l : Launch) (D : ga_G) (v : Int)  : pS l D yJ9_bitCount (ws_ yJ9_bitCount cJ9_bitCount 1 (some .int)) (gR 0) [.int (iI v)] (some (.int (iI (zBc v)))) := by
  intro h
  refine ga_metF (own := RJ9) 0 (by decide +kernel) rfl (Nat.le_of_ble_eq_true rfl) (L0 := [some (.int (iI v))]) rfl (fun X _ _ hE => ?_)
  refine ga_iload_n (pc := 0) dJ9_bitCount_0 rfl ?_
  refine ga_iload_n (pc := 1) dJ9_bitCount_1 rfl ?_
  refine ga_iconst (pc := 2) dJ9_bitCount_2 ?_
  refine ga_iushr (pc := 3) dJ9_bitCount_3 ?_
  refine ga_ldcw (pc := 4) (1431655765) dJ9_bitCount_4 q996 rfl ?_
  refine ga_iand (pc := 7) dJ9_bitCount_7 ?_
  refine ga_isub (pc := 8) dJ9_bitCount_8 ?_
  refine ga_istore_n (pc := 9) (L1 := [some (.int (iI (v - (zand (zushr v 1) (1431655765)))))]) dJ9_bitCount_9 rfl (by decide) rfl ?_
  refine ga_iload_n (pc := 10) dJ9_bitCount_10 rfl ?_
  refine ga_ldcw (pc := 11) (858993459) dJ9_bitCount_11 q997 rfl ?_
  refine ga_iand (pc := 14) dJ9_bitCount_14 ?_
  refine ga_iload_n (pc := 15) dJ9_bitCount_15 rfl ?_
  refine ga_iconst (pc := 16) dJ9_bitCount_16 ?_
  refine ga_iushr (pc := 17) dJ9_bitCount_17 ?_
  refine ga_ldcw (pc := 18) (858993459) dJ9_bitCount_18 q997 rfl ?_
  refine ga_iand (pc := 21) dJ9_bitCount_21 ?_
  refine ga_iadd (pc := 22) dJ9_bitCount_22 ?_
  refine ga_istore_n (pc := 23) (L1 := [some (.int (iI ((zand (v - (zand (zushr v 1) (1431655765))) (858993459)) + (zand (zushr (v - (zand (zushr v 1) (1431655765))) 2) (858993459)))))]) dJ9_bitCount_23 rfl (by decide) rfl ?_
  refine ga_iload_n (pc := 24) dJ9_bitCount_24 rfl ?_
  refine ga_iload_n (pc := 25) dJ9_bitCount_25 rfl ?_
  refine ga_iconst (pc := 26) dJ9_bitCount_26 ?_
  refine ga_iushr (pc := 27) dJ9_bitCount_27 ?_
  refine ga_iadd (pc := 28) dJ9_bitCount_28 ?_
  refine ga_ldcw (pc := 29) (252645135) dJ9_bitCount_29 q998 rfl ?_
  refine ga_iand (pc := 32) dJ9_bitCount_32 ?_
  refine ga_istore_n (pc := 33) (L1 := [some (.int (iI (zand (((zand (v - (zand (zushr v 1) (1431655765))) (858993459)) + (zand (zushr (v - (zand (zushr v 1) (1431655765))) 2) (858993459))) + (zushr ((zand (v - (zand (zushr v 1) (1431655765))) (858993459)) + (zand (zushr (v - (zand (zushr v 1) (1431655765))) 2) (858993459))) 4)) (252645135))))]) dJ9_bitCount_33 rfl (by decide) rfl ?_
  refine ga_iload_n (pc := 34) dJ9_bitCount_34 rfl ?_
  refine ga_iload_n (pc := 35) dJ9_bitCount_35 rfl ?_
  refine ga_bipush (pc := 36) dJ9_bitCount_36 rfl ?_
  refine ga_iushr (pc := 38) dJ9_bitCount_38 ?_
  refine ga_iadd (pc := 39) dJ9_bitCount_39 ?_
  refine ga_istore_n (pc := 40) (L1 := [some (.int (iI ((zand (((zand (v - (zand (zushr v 1) (1431655765))) (858993459)) + (zand (zushr (v - (zand (zushr v 1) (1431655765))) 2) (858993459))) + (zushr ((zand (v - (zand (zushr v 1) (1431655765))) (858993459)) + (zand (zushr (v - (zand (zushr v 1) (1431655765))) 2) (858993459))) 4)) (252645135)) + (zushr (zand (((zand (v - (zand (zushr v 1) (1431655765))) (858993459)) + (zand (zushr (v - (zand (zushr v 1) (1431655765))) 2) (858993459))) + (zushr ((zand (v - (zand (zushr v 1) (1431655765))) (858993459)) + (zand (zushr (v - (zand (zushr v 1) (1431655765))) 2) (858993459))) 4)) (252645135)) 8))))]) dJ9_bitCount_40 rfl (by decide) rfl ?_
  refine ga_iload_n (pc := 41) dJ9_bitCount_41 rfl ?_
  refine ga_iload_n (pc := 42) dJ9_bitCount_42 rfl ?_
  refine ga_bipush (pc := 43) dJ9_bitCount_43 rfl ?_
  refine ga_iushr (pc := 45) dJ9_bitCount_45 ?_
  refine ga_iadd (pc := 46) dJ9_bitCount_46 ?_
  refine ga_istore_n (pc := 47) (L1 := [some (.int (iI (((zand (((zand (v - (zand (zushr v 1) (1431655765))) (858993459)) + (zand (zushr (v - (zand (zushr v 1) (1431655765))) 2) (858993459))) + (zushr ((zand (v - (zand (zushr v 1) (1431655765))) (858993459)) + (zand (zushr (v - (zand (zushr v 1) (1431655765))) 2) (858993459))) 4)) (252645135)) + (zushr (zand (((zand (v - (zand (zushr v 1) (1431655765))) (858993459)) + (zand (zushr (v - (zand (zushr v 1) (1431655765))) 2) (858993459))) + (zushr ((zand (v - (zand (zushr v 1) (1431655765))) (858993459)) + (zand (zushr (v - (zand (zushr v 1) (1431655765))) 2) (858993459))) 4)) (252645135)) 8)) + (zushr ((zand (((zand (v - (zand (zushr v 1) (1431655765))) (858993459)) + (zand (zushr (v - (zand (zushr v 1) (1431655765))) 2) (858993459))) + (zushr ((zand (v - (zand (zushr v 1) (1431655765))) (858993459)) + (zand (zushr (v - (zand (zushr v 1) (1431655765))) 2) (858993459))) 4)) (252645135)) + (zushr (zand (((zand (v - (zand (zushr v 1) (1431655765))) (858993459)) + (zand (zushr (v - (zand (zushr v 1) (1431655765))) 2) (858993459))) + (zushr ((zand (v - (zand (zushr v 1) (1431655765))) (858993459)) + (zand (zushr (v - (zand (zushr v 1) (1431655765))) 2) (858993459))) 4)) (252645135)) 8)) 16))))]) dJ9_bitCount_47 rfl (by decide) rfl ?_
  refine ga_iload_n (pc := 48) dJ9_bitCount_48 rfl ?_
  refine ga_bipush (pc := 49) dJ9_bitCount_49 rfl ?_
  refine ga_iand (pc := 51) dJ9_bitCount_51 ?_
  exact ga_iret hE dJ9_bitCount_52 (Nat.le_of_ble_eq_true rfl) (Nat.le_of_ble_eq_true rfl) (⟨congrArg (fun z => some (Value.int (iI z))) (rfl), rfl⟩)
theorem k_J9_bitCount_X0 {X : ga_X} {R : Room} {nL : Nat} {cc : ByteArray} {h : ga_H} {k n pc : Nat} {L : List (Option Value)} {st : List Value} {v : Int} {z : Int}  (hz : (zBc v) = z) (hR : 0 + 1 ≤ R.frames ∧ 19 + 1 + 64 * 0 ≤ R.locals) (hk : k ≤ R.cells ∧ n ≤ R.slots) (hs : (st.map fun v => v.category).sum ≤ 8) (d : decode cc pc = .ok (.invokestatic 417, 3)) (kk : G X R RX0 nL cc h k n (pc + 3) L (.int (iI z) :: st)) : G X R RX0 nL cc h k n pc L (.int (iI v) :: st) := by
  subst hz
  exact ps_run (m_J9_bitCount _ _ v ) (lw_S q993 q994 q128 q995) (show ga_nn' yJ9_bitCount 1 from (by unfold ga_nn'; decide +kernel)) hR hk hs d rfl kk
set_option maxHeartbeats 4000000 in
set_option maxRecDepth 100000 in
theorem m_X0_of (l : Launch) (D : ga_G) (ad : Nat → Nat) (J : Nat → Int) (B : Nat → Int → Int) (Q : Nat → Int → Option Nat) (Z : ga_H) (e what : Int) (p : Nat) (kd y sh : Int) (E : Nat → Int → Int) (hm : (1 ≤ J 30 ∧ J 30 ≤ 3) ∧ 1 ≤ J 31 ∧ J 31 ≤ 3) (h8 : 0 ≤ J 8 ∧ J 8 ≤ 6) (hq : 0 ≤ e → e < J 8 → Q 0 e = some p ∧ Z p = some (oE (9 + kd.toNat) [.int (iI y), .int (iI sh)]) ∧ (0 ≤ kd ∧ kd ≤ 6) ∧ -2 ≤ sh ∧ sh ≤ 2) (he0 : ∀ k : Int, -50 ≤ B 0 k ∧ B 0 k ≤ 50) (he1 : ∀ k : Int, -50 ≤ B 1 k ∧ B 1 k ≤ 50) (he2 : ∀ k : Int, -50 ≤ B 2 k ∧ B 2 k ≤ 50) (hRl : tRel (J 30) (J 31) B E) (hTE : tEn (E 0)) (hri : (-2147483648 ≤ e ∧ e < 2147483648) ∧ (-2147483648 ≤ what ∧ what < 2147483648)) : cM l D yX0_of (ws_ yX0_of cX0_of 4 (some .int)) (gR 10) [.ref (ad 0), .int (iI e), .int (iI what)] ad J B Q Z (mI (fun r J1 B1 => r = (if (0 ≤ e ∧ e < J 8) ∧ 0 ≤ what ∧ what ≤ 6 then cOf (J 30) (J 31) E kd sh what else -1) ∧ cSam J B J1 B1)) := by
  refine cc_met (own := RX0) 1 (by decide) rfl (Nat.le_of_ble_eq_true rfl) (L0 := [some (.ref (ad 0)), some (.int (iI e)), some (.int (iI what)), none]) rfl (fun X h hc hE => ?_)
  refine ga_aload_n (pc := 0) dX0_of_0 rfl ?_
  refine ga_iload_n (pc := 1) dX0_of_1 rfl ?_
  refine k_X0_isEquation (pc := 2) (e := e) hc (by first | exact hq | omega) (by first | exact h1 | omega) (rfl) ⟨Nat.le_of_ble_eq_true rfl, Nat.le_of_ble_eq_true rfl⟩ ⟨Nat.le_of_ble_eq_true rfl, Nat.le_of_ble_eq_true rfl⟩ (Nat.le_of_ble_eq_true rfl) dX0_of_2 (fun h hc => ?_)
  refine ga_ifb_eq (pc := 5) (tgt := 18) dX0_of_5 rfl (fun c5 => ?_) (fun c5 => ?_)
  · skip
    refine ga_iconst (pc := 18) dX0_of_18 ?_
    exact cc_iret hc hE dX0_of_19 (⟨_, rfl, by dsimp only; exact ⟨by rw [if_neg (by omega)], cSam.refl _ _⟩⟩)
  · skip
    refine ga_iload_n (pc := 8) dX0_of_8 rfl ?_
    refine ga_iconst (pc := 9) dX0_of_9 ?_
    refine ga_bipush (pc := 10) dX0_of_10 rfl ?_
    refine k_X0_isIn (pc := 12) (a := what) (b := 0) (e := 6) (by omega) (rfl) ⟨Nat.le_of_ble_eq_true rfl, Nat.le_of_ble_eq_true rfl⟩ ⟨Nat.le_of_ble_eq_true rfl, Nat.le_of_ble_eq_true rfl⟩ (Nat.le_of_ble_eq_true rfl) dX0_of_12 ?_
    refine ga_ifb_ne (pc := 15) (tgt := 20) dX0_of_15 rfl (fun c15 => ?_) (fun c15 => ?_)
    · skip
      obtain ⟨hqe, hp, hkd, hsh⟩ := hq (by omega) (by omega)
      have hpo := pOn.of hkd hp
      refine ga_aload_n (pc := 20) dX0_of_20 rfl ?_
      refine cc_g_equations (pc := 21) hc dX0_of_21 ?_
      refine ga_iload_n (pc := 24) dX0_of_24 rfl ?_
      refine ga_aald (pc := 25) (N := 6) (f := Q 0) (hc.1 25 (by decide)) (by omega) (by decide) dX0_of_25 ?_
      refine ga_eq (pc := 26) (st1 := [.ref p]) rfl rfl (congrArg (fun x => va_rf x :: []) (hqe)) ?_
      refine ga_astore_n (pc := 26) (L1 := [some (.ref (ad 0)), some (.int (iI e)), some (.int (iI what)), some (.ref p)]) dX0_of_26 rfl (by decide) rfl ?_
      have jn56 : ∀ h : ga_H, cOn h ad J B Q Z → ((what = 3 → (J 30 = J 31 ∨ kd < 2)) ∧ (3 < what → (J 30 = J 31 ∨ kd < 2) ∧ zUn kd (J 30) (J 31) ≤ 6)) → G X (gR 10) RX0 4 cX0_of h 0 0 56 [some (.ref (ad 0)), some (.int (iI e)), some (.int (iI what)), some (.ref p)] [] := by
        intro h hc hcd
        refine ga_iload_n (pc := 56) dX0_of_56 rfl ?_
        by_cases c57_0 : what = 0
        · refine ga_tabIn (pc := 57) (tgt := 96) 0 dX0_of_57 (by omega) (by omega) (by decide) rfl rfl ?_
          refine ga_aload_n (pc := 96) dX0_of_96 rfl ?_
          refine v_kind_X0 (pc := 97) (p := p) (kd := kd) (y := y) (sh := sh)   (hc.2.2 p _ hp).1 hkd  (rfl) ⟨Nat.le_of_ble_eq_true rfl, Nat.le_of_ble_eq_true rfl⟩ ⟨Nat.le_of_ble_eq_true rfl, Nat.le_of_ble_eq_true rfl⟩ (Nat.le_of_ble_eq_true rfl) dX0_of_97 ?_
          exact cc_iret hc hE dX0_of_100 (⟨_, rfl, by dsimp only; exact ⟨by rw [if_pos (by omega)]; rw [c57_0]; rfl, cSam.refl _ _⟩⟩)
        by_cases c57_1 : what = 1
        · refine ga_tabIn (pc := 57) (tgt := 101) 1 dX0_of_57 (by omega) (by omega) (by decide) rfl rfl ?_
          refine ga_bipush (pc := 101) dX0_of_101 rfl ?_
          refine ga_aload_n (pc := 103) dX0_of_103 rfl ?_
          refine x_shift (pc := 104) (p := p) (q := 0) (kx := kd) (kd := kd) (y := y) (sh := sh) (fr := 0)   (hpo.mono (fun a e z => (hc.2.2 a e z).1))  (rfl) ⟨Nat.le_of_ble_eq_true rfl, Nat.le_of_ble_eq_true rfl⟩ ⟨Nat.le_of_ble_eq_true rfl, Nat.le_of_ble_eq_true rfl⟩ (Nat.le_of_ble_eq_true rfl) dX0_of_104 ?_
          refine ga_iadd (pc := 107) dX0_of_107 ?_
          exact cc_iret hc hE dX0_of_108 (⟨_, rfl, by dsimp only; exact ⟨by rw [if_pos (by omega)]; rw [c57_1]; rfl, cSam.refl _ _⟩⟩)
        by_cases c57_2 : what = 2
        · refine ga_tabIn (pc := 57) (tgt := 109) 2 dX0_of_57 (by omega) (by omega) (by decide) rfl rfl ?_
          refine ga_aload_n (pc := 109) dX0_of_109 rfl ?_
          refine ga_aload_n (pc := 110) dX0_of_110 rfl ?_
          refine k_X0_fits (pc := 111) (p := p) (kd := kd) (y := y) (sh := sh) hc (by first | exact hm | omega) (by first | exact hp | omega) (by first | exact hkd | omega) (rfl) ⟨Nat.le_of_ble_eq_true rfl, Nat.le_of_ble_eq_true rfl⟩ ⟨Nat.le_of_ble_eq_true rfl, Nat.le_of_ble_eq_true rfl⟩ (Nat.le_of_ble_eq_true rfl) dX0_of_111 (fun h hc => ?_)
          refine ga_ifb_eq (pc := 114) (tgt := 121) dX0_of_114 rfl (fun c114 => ?_) (fun c114 => ?_)
          · skip
            refine ga_iconst (pc := 121) dX0_of_121 ?_
            exact cc_iret hc hE dX0_of_122 (⟨_, rfl, by dsimp only; exact ⟨by rw [if_pos (by omega), c57_2, cOf_2 hm hkd]; rw [if_neg (by omega)], cSam.refl _ _⟩⟩)
          · skip
            refine ga_iconst (pc := 117) dX0_of_117 ?_
            refine ga_goto (pc := 118) (tgt := 122) dX0_of_118 rfl ?_
            exact cc_iret hc hE dX0_of_122 (⟨_, rfl, by dsimp only; exact ⟨by rw [if_pos (by omega), c57_2, cOf_2 hm hkd]; rw [if_pos (by omega)], cSam.refl _ _⟩⟩)
        by_cases c57_3 : what = 3
        · refine ga_tabIn (pc := 57) (tgt := 123) 3 dX0_of_57 (by omega) (by omega) (by decide) rfl rfl ?_
          refine ga_aload_n (pc := 123) dX0_of_123 rfl ?_
          refine ga_aload_n (pc := 124) dX0_of_124 rfl ?_
          refine cc_g_now (pc := 125) hc dX0_of_125 ?_
          refine ga_getN (pc := 128) (C := RX4) (T := TX4) (N := 5) (v := .int (iI (J 30))) in_X4 rfl (hc.1 4 (by decide)) 0 (by decide) (ga_nt q307 rfl) rfl rfl dX0_of_128 ?_
          refine ga_aload_n (pc := 131) dX0_of_131 rfl ?_
          refine cc_g_now (pc := 132) hc dX0_of_132 ?_
          refine ga_getN (pc := 135) (C := RX4) (T := TX4) (N := 5) (v := .int (iI (J 31))) in_X4 rfl (hc.1 4 (by decide)) 1 (by decide) (ga_nt q309 rfl) rfl rfl dX0_of_135 ?_
          refine x_unknowns (pc := 138) (p := p) (q := 0) (kx := kd) (kd := kd) (y := y) (sh := sh) (fr := 0) (m := (J 30)) (w := (J 31))  (hpo.mono (fun a e z => (hc.2.2 a e z).1)) (by omega) (rfl) ⟨Nat.le_of_ble_eq_true rfl, Nat.le_of_ble_eq_true rfl⟩ ⟨Nat.le_of_ble_eq_true rfl, Nat.le_of_ble_eq_true rfl⟩ (Nat.le_of_ble_eq_true rfl) dX0_of_138 ?_
          exact cc_iret hc hE dX0_of_141 (⟨_, rfl, by dsimp only; exact ⟨by rw [if_pos (by omega)]; rw [c57_3, cOf_3 (hcd.1 c57_3), w_cnt hkd hm (by have := hcd.1 c57_3; unfold zLike; omega)]; unfold xUn; rw [if_neg (by omega), if_neg (by omega)], cSam.refl _ _⟩⟩)
        by_cases c57_4 : what = 4
        · refine ga_tabIn (pc := 57) (tgt := 142) 4 dX0_of_57 (by omega) (by omega) (by decide) rfl rfl ?_
          have hD := eqD hm hkd (by omega) (by omega) hRl hTE hsh
          refine ga_aload_n (pc := 142) dX0_of_142 rfl ?_
          refine ga_aload_n (pc := 143) dX0_of_143 rfl ?_
          refine cc_g_now (pc := 144) hc dX0_of_144 ?_
          refine ga_getN (pc := 147) (C := RX4) (T := TX4) (N := 5) (v := .int (iI (J 30))) in_X4 rfl (hc.1 4 (by decide)) 0 (by decide) (ga_nt q307 rfl) rfl rfl dX0_of_147 ?_
          refine ga_aload_n (pc := 150) dX0_of_150 rfl ?_
          refine cc_g_now (pc := 151) hc dX0_of_151 ?_
          refine ga_getN (pc := 154) (C := RX4) (T := TX4) (N := 5) (v := .int (iI (J 31))) in_X4 rfl (hc.1 4 (by decide)) 1 (by decide) (ga_nt q309 rfl) rfl rfl dX0_of_154 ?_
          refine x_unknowns (pc := 157) (p := p) (q := 0) (kx := kd) (kd := kd) (y := y) (sh := sh) (fr := 0) (m := (J 30)) (w := (J 31))  (hpo.mono (fun a e z => (hc.2.2 a e z).1)) (by omega) (rfl) ⟨Nat.le_of_ble_eq_true rfl, Nat.le_of_ble_eq_true rfl⟩ ⟨Nat.le_of_ble_eq_true rfl, Nat.le_of_ble_eq_true rfl⟩ (Nat.le_of_ble_eq_true rfl) dX0_of_157 ?_
          refine ga_aload_n (pc := 160) dX0_of_160 rfl ?_
          refine ga_aload_n (pc := 161) dX0_of_161 rfl ?_
          refine k_X0_freeSet (pc := 162) (p := p) (q := 0) (kx := kd) (kd := kd) (y := y) (sh := sh) (fr := 0) (T := (mSys E (J 30) (J 31) kd kd sh 0)) hc (hm) (hpo) (by omega) (he0) (he1) (he2) (hsh) (by omega) (by have := hD.2.1; omega) (hD.2.2.1) (hD.2.2.2.1) ⟨Nat.le_of_ble_eq_true rfl, Nat.le_of_ble_eq_true rfl⟩ ⟨Nat.le_of_ble_eq_true rfl, Nat.le_of_ble_eq_true rfl⟩ (Nat.le_of_ble_eq_true rfl) dX0_of_162 (fun r162 J162 B162 hp162 h hc => ?_)
          refine k_J9_bitCount_X0 (pc := 165) (v := r162)  (rfl) ⟨Nat.le_of_ble_eq_true rfl, Nat.le_of_ble_eq_true rfl⟩ ⟨Nat.le_of_ble_eq_true rfl, Nat.le_of_ble_eq_true rfl⟩ (Nat.le_of_ble_eq_true rfl) dX0_of_165 ?_
          refine ga_isub (pc := 168) dX0_of_168 ?_
          exact cc_iret hc hE dX0_of_169 (⟨_, rfl, by dsimp only; exact ⟨by rw [if_pos (by omega)]; rw [c57_4, cOf_5 hD.2.2.2.2.1 (by decide), if_pos rfl, hp162.2, hD.2.2.2.2.2, zBc_fr (by have := hD.2.1; omega), hD.1, eqS, eRed_free _ _ (by have := mn_r hm; omega)]; have := hD.2.1; rw [hD.1] at this; omega, hp162.1.sam⟩⟩)
        by_cases c57_5 : what = 5
        · refine ga_tabIn (pc := 57) (tgt := 170) 5 dX0_of_57 (by omega) (by omega) (by decide) rfl rfl ?_
          have hD := eqD hm hkd (by omega) (by omega) hRl hTE hsh
          refine ga_aload_n (pc := 170) dX0_of_170 rfl ?_
          refine ga_aload_n (pc := 171) dX0_of_171 rfl ?_
          refine k_X0_freeSet (pc := 172) (p := p) (q := 0) (kx := kd) (kd := kd) (y := y) (sh := sh) (fr := 0) (T := (mSys E (J 30) (J 31) kd kd sh 0)) hc (hm) (hpo) (by omega) (he0) (he1) (he2) (hsh) (by omega) (by have := hD.2.1; omega) (hD.2.2.1) (hD.2.2.2.1) ⟨Nat.le_of_ble_eq_true rfl, Nat.le_of_ble_eq_true rfl⟩ ⟨Nat.le_of_ble_eq_true rfl, Nat.le_of_ble_eq_true rfl⟩ (Nat.le_of_ble_eq_true rfl) dX0_of_172 (fun r172 J172 B172 hp172 h hc => ?_)
          exact cc_iret hc hE dX0_of_175 (⟨_, rfl, by dsimp only; exact ⟨by rw [if_pos (by omega)]; rw [c57_5, cOf_5 hD.2.2.2.2.1 (by decide), if_neg (by decide), if_pos rfl, hp172.2, hD.2.2.2.2.2, hD.1], hp172.1.sam⟩⟩)
        refine ga_tabOut (pc := 57) (tgt := 176) dX0_of_57 (by omega) (by omega) rfl ?_
        have hD := eqD hm hkd (by omega) (by omega) hRl hTE hsh
        refine ga_aload_n (pc := 176) dX0_of_176 rfl ?_
        refine ga_aload_n (pc := 177) dX0_of_177 rfl ?_
        refine k_X0_isSolvable (pc := 178) (p := p) (q := 0) (kx := kd) (kd := kd) (y := y) (sh := sh) (fr := 0) (T := (mSys E (J 30) (J 31) kd kd sh 0)) hc (hm) (hpo) (by omega) (he0) (he1) (he2) (hsh) (by omega) (by have := hD.2.1; omega) (hD.2.2.1) (hD.2.2.2.1) ⟨Nat.le_of_ble_eq_true rfl, Nat.le_of_ble_eq_true rfl⟩ ⟨Nat.le_of_ble_eq_true rfl, Nat.le_of_ble_eq_true rfl⟩ (Nat.le_of_ble_eq_true rfl) dX0_of_178  (fun r178 J178 B178 hp178 h hc => ?_)
        refine ga_if_eq (pc := 181) (tgt := 188) dX0_of_181 rfl (by omega) (fun c181 => ?_) (fun c181 => ?_)
        · skip
          refine ga_iconst (pc := 188) dX0_of_188 ?_
          exact cc_iret hc hE dX0_of_189 (⟨_, rfl, by dsimp only; exact ⟨by rw [if_pos (by omega), cOf_5 hD.2.2.2.2.1 (by omega), if_neg (show ¬ what = 4 by omega), if_neg (show ¬ what = 5 by omega)]; have h9 := hp178.2; rw [hD.2.2.2.2.2, hD.1] at h9; have h0 := eSlv_o (zSy_b hm).1 h9; omega, hp178.1.sam⟩⟩)
        · skip
          refine ga_iconst (pc := 184) dX0_of_184 ?_
          refine ga_goto (pc := 185) (tgt := 189) dX0_of_185 rfl ?_
          exact cc_iret hc hE dX0_of_189 (⟨_, rfl, by dsimp only; exact ⟨by rw [if_pos (by omega), cOf_5 hD.2.2.2.2.1 (by omega), if_neg (show ¬ what = 4 by omega), if_neg (show ¬ what = 5 by omega)]; have h9 := hp178.2; rw [hD.2.2.2.2.2, hD.1] at h9; have h0 := eSlv_o (zSy_b hm).1 h9; omega, hp178.1.sam⟩⟩)
      refine ga_iload_n (pc := 27) dX0_of_27 rfl ?_
      refine ga_iconst (pc := 28) dX0_of_28 ?_
      refine ga_icmp_ne (pc := 29) (tgt := 40) dX0_of_29 rfl (by omega) (by omega) (fun c29 => ?_) (fun c29 => ?_)
      · skip
        refine ga_iload_n (pc := 40) dX0_of_40 rfl ?_
        refine ga_iconst (pc := 41) dX0_of_41 ?_
        refine ga_icmp_le (pc := 42) (tgt := 56) dX0_of_42 rfl (by omega) (by omega) (fun c42 => ?_) (fun c42 => ?_)
        · skip
          exact jn56 h hc (by omega)
        · skip
          refine ga_aload_n (pc := 45) dX0_of_45 rfl ?_
          refine ga_aload_n (pc := 46) dX0_of_46 rfl ?_
          refine k_X0_fits (pc := 47) (p := p) (kd := kd) (y := y) (sh := sh) hc (by first | exact hm | omega) (by first | exact hp | omega) (by first | exact hkd | omega) (rfl) ⟨Nat.le_of_ble_eq_true rfl, Nat.le_of_ble_eq_true rfl⟩ ⟨Nat.le_of_ble_eq_true rfl, Nat.le_of_ble_eq_true rfl⟩ (Nat.le_of_ble_eq_true rfl) dX0_of_47 (fun h hc => ?_)
          refine ga_ifb_ne (pc := 50) (tgt := 56) dX0_of_50 rfl (fun c50 => ?_) (fun c50 => ?_)
          · skip
            exact jn56 h hc (by omega)
          · skip
            refine ga_bipush (pc := 53) dX0_of_53 rfl ?_
            exact cc_iret hc hE dX0_of_55 (⟨_, rfl, by dsimp only; exact ⟨by rw [if_pos (by omega)]; exact (cOf_4 hm hkd (by omega)).symm, cSam.refl _ _⟩⟩)
      · skip
        refine ga_aload_n (pc := 32) dX0_of_32 rfl ?_
        refine ga_aload_n (pc := 33) dX0_of_33 rfl ?_
        refine k_X0_mayStand (pc := 34) (p := p) (kd := kd) (y := y) (sh := sh) hc (by first | exact hm | omega) (by first | exact hp | omega) (by first | exact hkd | omega) (rfl) ⟨Nat.le_of_ble_eq_true rfl, Nat.le_of_ble_eq_true rfl⟩ ⟨Nat.le_of_ble_eq_true rfl, Nat.le_of_ble_eq_true rfl⟩ (Nat.le_of_ble_eq_true rfl) dX0_of_34 (fun h hc => ?_)
        refine ga_ifb_eq (pc := 37) (tgt := 53) dX0_of_37 rfl (fun c37 => ?_) (fun c37 => ?_)
        · skip
          refine ga_bipush (pc := 53) dX0_of_53 rfl ?_
          exact cc_iret hc hE dX0_of_55 (⟨_, rfl, by dsimp only; exact ⟨by rw [if_pos (by omega)]; exact (cOf_4 hm hkd (by omega)).symm, cSam.refl _ _⟩⟩)
        · skip
          refine ga_iload_n (pc := 40) dX0_of_40 rfl ?_
          refine ga_iconst (pc := 41) dX0_of_41 ?_
          refine ga_icmp_le (pc := 42) (tgt := 56) dX0_of_42 rfl (by omega) (by omega) (fun c42 => ?_) (fun c42 => ?_)
          · skip
            exact jn56 h hc (by omega)
          · skip
            refine ga_aload_n (pc := 45) dX0_of_45 rfl ?_
            refine ga_aload_n (pc := 46) dX0_of_46 rfl ?_
            refine k_X0_fits (pc := 47) (p := p) (kd := kd) (y := y) (sh := sh) hc (by first | exact hm | omega) (by first | exact hp | omega) (by first | exact hkd | omega) (rfl) ⟨Nat.le_of_ble_eq_true rfl, Nat.le_of_ble_eq_true rfl⟩ ⟨Nat.le_of_ble_eq_true rfl, Nat.le_of_ble_eq_true rfl⟩ (Nat.le_of_ble_eq_true rfl) dX0_of_47 (fun h hc => ?_)
            refine ga_ifb_ne (pc := 50) (tgt := 56) dX0_of_50 rfl (fun c50 => ?_) (fun c50 => ?_)
            · skip
              exact jn56 h hc (by omega)
            · skip
              refine ga_bipush (pc := 53) dX0_of_53 rfl ?_
              exact cc_iret hc hE dX0_of_55 (⟨_, rfl, by dsimp only; exact ⟨by rw [if_pos (by omega)]; exact (cOf_4 hm hkd (by omega)).symm, cSam.refl _ _⟩⟩)
    · skip
      refine ga_iconst (pc := 18) dX0_of_18 ?_
      exact cc_iret hc hE dX0_of_19 (⟨_, rfl, by dsimp only; exact ⟨by rw [if_neg (by omega)], cSam.refl _ _⟩⟩)
