/-! THE CLASS: of, right, solution, base -/
def cOf (m n : Int) (E : Nat → Int → Int) (kd sh what : Int) : Int := if what = 0 then kd else if what = 1 then 10 + sh else if what = 2 then (if zFit m n kd then 1 else 0) else if what = 3 then (if zLike m n kd then tCnt kd m n else -4) else if ¬ zFit m n kd then -4 else if what = 4 then (zSy m n E kd kd sh 0).2.1 else if what = 5 then zFr (zSy m n E kd kd sh 0).2.2.2.2 (tCnt kd m n).toNat else eSlv (m * n) (tCnt kd m n) (zSy m n E kd kd sh 0)
theorem cOf_4 {m n kd sh what : Int} {E : Nat → Int → Int} (hm : (1 ≤ m ∧ m ≤ 3) ∧ 1 ≤ n ∧ n ≤ 3) (hk : 0 ≤ kd ∧ kd ≤ 6) (h : (what = 3 ∧ ¬ (m = n ∨ kd < 2)) ∨ (3 < what ∧ ¬ ((m = n ∨ kd < 2) ∧ zUn kd m n ≤ 6))) : cOf m n E kd sh what = -4 := by
  have hz := zFit_i hm hk
  unfold cOf
  rcases h with ⟨rfl, h⟩ | ⟨h1, h⟩
  · rw [if_neg (by decide), if_neg (by decide), if_neg (by decide), if_pos rfl, if_neg (by unfold zLike; omega)]
  · rw [if_neg (show ¬ what = 0 by omega), if_neg (show ¬ what = 1 by omega), if_neg (show ¬ what = 2 by omega), if_neg (show ¬ what = 3 by omega), if_pos (fun z => h (hz.mp z))]
theorem cOf_2 {m n kd sh : Int} {E : Nat → Int → Int} (hm : (1 ≤ m ∧ m ≤ 3) ∧ 1 ≤ n ∧ n ≤ 3) (hk : 0 ≤ kd ∧ kd ≤ 6) : cOf m n E kd sh 2 = if (m = n ∨ kd < 2) ∧ zUn kd m n ≤ 6 then 1 else 0 := by
  have hz := zFit_i hm hk
  show (if zFit m n kd then (1 : Int) else 0) = _
  by_cases h : zFit m n kd
  · rw [if_pos h, if_pos (hz.mp h)]
  · rw [if_neg h, if_neg (fun z => h (hz.mpr z))]
theorem cOf_3 {m n kd sh : Int} {E : Nat → Int → Int} (hl : m = n ∨ kd < 2) : cOf m n E kd sh 3 = tCnt kd m n := by
  show (if zLike m n kd then _ else (-4 : Int)) = _
  rw [if_pos (by unfold zLike; omega)]
theorem cOf_5 {m n kd sh what : Int} {E : Nat → Int → Int} (hf : zFit m n kd) (h3 : 3 < what) : cOf m n E kd sh what = if what = 4 then (zSy m n E kd kd sh 0).2.1 else if what = 5 then zFr (zSy m n E kd kd sh 0).2.2.2.2 (tCnt kd m n).toNat else eSlv (m * n) (tCnt kd m n) (zSy m n E kd kd sh 0) := by
  unfold cOf
  rw [if_neg (show ¬ what = 0 by omega), if_neg (show ¬ what = 1 by omega), if_neg (show ¬ what = 2 by omega), if_neg (show ¬ what = 3 by omega), if_neg (fun z => z hf)]
theorem zSy_b {m n kd sh : Int} {E : Nat → Int → Int} (hm : (1 ≤ m ∧ m ≤ 3) ∧ 1 ≤ n ∧ n ≤ 3) : (zSy m n E kd kd sh 0).2.1 ≤ m * n ∧ ∀ k : Int, (zSy m n E kd kd sh 0).2.2.2.2 k < m * n := by
  have hr := mn_r hm
  rw [eqS]
  have h := eRed_r (m * n) (mSys E m n kd kd sh 0) (by omega) (tCnt kd m n).toNat
  exact ⟨h.1.2.2, fun k => by have := h.2.2 k; omega⟩
set_option maxHeartbeats 4000000 in
set_option maxRecDepth 100000 in
theorem m_J9_bitCount (l : Launch) (D : ga_G) (v : Int)  : pS l D yJ9_bitCount (ws_ yJ9_bitCount cJ9_bitCount 1 (some .int)) (gR 0) [.int (iI v)] (some (.int (iI (zBc v)))) := by
  intro h
  refine ga_metF (own := RJ9) 0 (by decide +kernel) rfl (Nat.le_of_ble_eq_true rfl) (L0 := [some (.int (iI v))]) rfl (fun X _ _ hE => ?_)
  refine ga_iload_n (pc := 0) dJ9_bitCount_0 rfl ?_
  refine ga_iload_n (pc := 1) dJ9_bitCount_1 rfl ?_
  refine ga_iconst (pc := 2) dJ9_bitCount_2 ?_
  refine ga_iushr (pc := 3) dJ9_bitCount_3 ?_
  refine ga_ldcw (pc := 4) (1431655765) dJ9_bitCount_4 q996 rfl ?_
  refine ga_iand (pc := 7) dJ9_bitCount_7 ?_
  refine ga_isub (pc := 8) dJ9_bitCount_8 ?_
  refine ga_istore_n (pc := 9) (L1 := [some (.int (iI (v - (zand (zushr v 1) (1431655765)))))]) dJ9_bitCount_9 rfl (by decide) rfl ?_
  refine ga_iload_n (pc := 10) dJ9_bitCount_10 rfl ?_
  refine ga_ldcw (pc := 11) (858993459) dJ9_bitCount_11 q997 rfl ?_
  refine ga_iand (pc := 14) dJ9_bitCount_14 ?_
  refine ga_iload_n (pc := 15) dJ9_bitCount_15 rfl ?_
  refine ga_iconst (pc := 16) dJ9_bitCount_16 ?_
  refine ga_iushr (pc := 17) dJ9_bitCount_17 ?_
  refine ga_ldcw (pc := 18) (858993459) dJ9_bitCount_18 q997 rfl ?_
  refine ga_iand (pc := 21) dJ9_bitCount_21 ?_
  refine ga_iadd (pc := 22) dJ9_bitCount_22 ?_
  refine ga_istore_n (pc := 23) (L1 := [some (.int (iI ((zand (v - (zand (zushr v 1) (1431655765))) (858993459)) + (zand (zushr (v - (zand (zushr v 1) (1431655765))) 2) (858993459)))))]) dJ9_bitCount_23 rfl (by decide) rfl ?_
  refine ga_iload_n (pc := 24) dJ9_bitCount_24 rfl ?_
  refine ga_iload_n (pc := 25) dJ9_bitCount_25 rfl ?_
  refine ga_iconst (pc := 26) dJ9_bitCount_26 ?_
  refine ga_iushr (pc := 27) dJ9_bitCount_27 ?_
  refine ga_iadd (pc := 28) dJ9_bitCount_28 ?_
  refine ga_ldcw (pc := 29) (252645135) dJ9_bitCount_29 q998 rfl ?_
  refine ga_iand (pc := 32) dJ9_bitCount_32 ?_
  refine ga_istore_n (pc := 33) (L1 := [some (.int (iI (zand (((zand (v - (zand (zushr v 1) (1431655765))) (858993459)) + (zand (zushr (v - (zand (zushr v 1) (1431655765))) 2) (858993459))) + (zushr ((zand (v - (zand (zushr v 1) (1431655765))) (858993459)) + (zand (zushr (v - (zand (zushr v 1) (1431655765))) 2) (858993459))) 4)) (252645135))))]) dJ9_bitCount_33 rfl (by decide) rfl ?_
  refine ga_iload_n (pc := 34) dJ9_bitCount_34 rfl ?_
  refine ga_iload_n (pc := 35) dJ9_bitCount_35 rfl ?_
  refine ga_bipush (pc := 36) dJ9_bitCount_36 rfl ?_
  refine ga_iushr (pc := 38) dJ9_bitCount_38 ?_
  refine ga_iadd (pc := 39) dJ9_bitCount_39 ?_
  refine ga_istore_n (pc := 40) (L1 := [some (.int (iI ((zand (((zand (v - (zand (zushr v 1) (1431655765))) (858993459)) + (zand (zushr (v - (zand (zushr v 1) (1431655765))) 2) (858993459))) + (zushr ((zand (v - (zand (zushr v 1) (1431655765))) (858993459)) + (zand (zushr (v - (zand (zushr v 1) (1431655765))) 2) (858993459))) 4)) (252645135)) + (zushr (zand (((zand (v - (zand (zushr v 1) (1431655765))) (858993459)) + (zand (zushr (v - (zand (zushr v 1) (1431655765))) 2) (858993459))) + (zushr ((zand (v - (zand (zushr v 1) (1431655765))) (858993459)) + (zand (zushr (v - (zand (zushr v 1) (1431655765))) 2) (858993459))) 4)) (252645135)) 8))))]) dJ9_bitCount_40 rfl (by decide) rfl ?_
  refine ga_iload_n (pc := 41) dJ9_bitCount_41 rfl ?_
  refine ga_iload_n (pc := 42) dJ9_bitCount_42 rfl ?_
  refine ga_bipush (pc := 43) dJ9_bitCount_43 rfl ?_
  refine ga_iushr (pc := 45) dJ9_bitCount_45 ?_
  refine ga_iadd (pc := 46) dJ9_bitCount_46 ?_
  refine ga_istore_n (pc := 47) (L1 := [some (.int (iI (((zand (((zand (v - (zand (zushr v 1) (1431655765))) (858993459)) + (zand (zushr (v - (zand (zushr v 1) (1431655765))) 2) (858993459))) + (zushr ((zand (v - (zand (zushr v 1) (1431655765))) (858993459)) + (zand (zushr (v - (zand (zushr v 1) (1431655765))) 2) (858993459))) 4)) (252645135)) + (zushr (zand (((zand (v - (zand (zushr v 1) (1431655765))) (858993459)) + (zand (zushr (v - (zand (zushr v 1) (1431655765))) 2) (858993459))) + (zushr ((zand (v - (zand (zushr v 1) (1431655765))) (858993459)) + (zand (zushr (v - (zand (zushr v 1) (1431655765))) 2) (858993459))) 4)) (252645135)) 8)) + (zushr ((zand (((zand (v - (zand (zushr v 1) (1431655765))) (858993459)) + (zand (zushr (v - (zand (zushr v 1) (1431655765))) 2) (858993459))) + (zushr ((zand (v - (zand (zushr v 1) (1431655765))) (858993459)) + (zand (zushr (v - (zand (zushr v 1) (1431655765))) 2) (858993459))) 4)) (252645135)) + (zushr (zand (((zand (v - (zand (zushr v 1) (1431655765))) (858993459)) + (zand (zushr (v - (zand (zushr v 1) (1431655765))) 2) (858993459))) + (zushr ((zand (v - (zand (zushr v 1) (1431655765))) (858993459)) + (zand (zushr (v - (zand (zushr v 1) (1431655765))) 2) (858993459))) 4)) (252645135)) 8)) 16))))]) dJ9_bitCount_47 rfl (by decide) rfl ?_
  refine ga_iload_n (pc := 48) dJ9_bitCount_48 rfl ?_
  refine ga_bipush (pc := 49) dJ9_bitCount_49 rfl ?_
  refine ga_iand (pc := 51) dJ9_bitCount_51 ?_
  exact ga_iret hE dJ9_bitCount_52 (Nat.le_of_ble_eq_true rfl) (Nat.le_of_ble_eq_true rfl) (⟨congrArg (fun z => some (Value.int (iI z))) (rfl), rfl⟩)
theorem k_J9_bitCount_X0 {X : ga_X} {R : Room} {nL : Nat} {cc : ByteArray} {h : ga_H} {k n pc : Nat} {L : List (Option Value)} {st : List Value} {v : Int} {z : Int}  (hz : (zBc v) = z) (hR : 0 + 1 ≤ R.frames ∧ 19 + 1 + 64 * 0 ≤ R.locals) (hk : k ≤ R.cells ∧ n ≤ R.slots) (hs : (st.map fun v => v.category).sum ≤ 8) (d : decode cc pc = .ok (.invokestatic 417, 3)) (kk : G X R RX0 nL cc h k n (pc + 3) L (.int (iI z) :: st)) : G X R RX0 nL cc h k n pc L (.int (iI v) :: st) := by
  subst hz
  exact ps_run (m_J9_bitCount _ _ v ) (lw_S q993 q994 q128 q995) (show ga_nn' yJ9_bitCount 1 from (by unfold ga_nn'; decide +kernel)) hR hk hs d rfl kk
set_option maxHeartbeats 4000000 in
set_option maxRecDepth 100000 in
theorem m_X0_of (l : Launch) (D : ga_G) (ad : Nat → Nat) (J : Nat → Int) (B : Nat → Int → Int) (Q : Nat → Int → Option Nat) (Z : ga_H) (e what : Int) (p : Nat) (kd y sh : Int) (E : Nat → Int → Int) (hm : (1 ≤ J 30 ∧ J 30 ≤ 3) ∧ 1 ≤ J 31 ∧ J 31 ≤ 3) (h8 : 0 ≤ J 8 ∧ J 8 ≤ 6) (hq : 0 ≤ e → e < J 8 → Q 0 e = some p ∧ Z p = some (oE (9 + kd.toNat) [.int (iI y), .int (iI sh)]) ∧ (0 ≤ kd ∧ kd ≤ 6) ∧ -2 ≤ sh ∧ sh ≤ 2) (he0 : ∀ k : Int, -50 ≤ B 0 k ∧ B 0 k ≤ 50) (he1 : ∀ k : Int, -50 ≤ B 1 k ∧ B 1 k ≤ 50) (he2 : ∀ k : Int, -50 ≤ B 2 k ∧ B 2 k ≤ 50) (hRl : tRel (J 30) (J 31) B E) (hTE : tEn (E 0)) (hri : (-2147483648 ≤ e ∧ e < 2147483648) ∧ (-2147483648 ≤ what ∧ what < 2147483648)) : cM l D yX0_of (ws_ yX0_of cX0_of 4 (some .int)) (gR 10) [.ref (ad 0), .int (iI e), .int (iI what)] ad J B Q Z (mI (fun r J1 B1 => r = (if (0 ≤ e ∧ e < J 8) ∧ 0 ≤ what ∧ what ≤ 6 then cOf (J 30) (J 31) E kd sh what else -1) ∧ cSam J B J1 B1)) := by
  refine cc_met (own := RX0) 1 (by decide) rfl (Nat.le_of_ble_eq_true rfl) (L0 := [some (.ref (ad 0)), some (.int (iI e)), some (.int (iI what)), none]) rfl (fun X h hc hE => ?_)
  refine ga_aload_n (pc := 0) dX0_of_0 rfl ?_
  refine ga_iload_n (pc := 1) dX0_of_1 rfl ?_
  refine k_X0_isEquation (pc := 2) (e := e) hc (by first | exact hq | omega) (by first | exact h1 | omega) (rfl) ⟨Nat.le_of_ble_eq_true rfl, Nat.le_of_ble_eq_true rfl⟩ ⟨Nat.le_of_ble_eq_true rfl, Nat.le_of_ble_eq_true rfl⟩ (Nat.le_of_ble_eq_true rfl) dX0_of_2 (fun h hc => ?_)
  refine ga_ifb_eq (pc := 5) (tgt := 18) dX0_of_5 rfl (fun c5 => ?_) (fun c5 => ?_)
  · skip
    refine ga_iconst (pc := 18) dX0_of_18 ?_
    exact cc_iret hc hE dX0_of_19 (⟨_, rfl, by dsimp only; exact ⟨by rw [if_neg (by omega)], cSam.refl _ _⟩⟩)
  · skip
    refine ga_iload_n (pc := 8) dX0_of_8 rfl ?_
    refine ga_iconst (pc := 9) dX0_of_9 ?_
    refine ga_bipush (pc := 10) dX0_of_10 rfl ?_
    refine k_X0_isIn (pc := 12) (a := what) (b := 0) (e := 6) (by omega) (rfl) ⟨Nat.le_of_ble_eq_true rfl, Nat.le_of_ble_eq_true rfl⟩ ⟨Nat.le_of_ble_eq_true rfl, Nat.le_of_ble_eq_true rfl⟩ (Nat.le_of_ble_eq_true rfl) dX0_of_12 ?_
    refine ga_ifb_ne (pc := 15) (tgt := 20) dX0_of_15 rfl (fun c15 => ?_) (fun c15 => ?_)
    · skip
      obtain ⟨hqe, hp, hkd, hsh⟩ := hq (by omega) (by omega)
      have hpo := pOn.of hkd hp
      refine ga_aload_n (pc := 20) dX0_of_20 rfl ?_
      refine cc_g_equations (pc := 21) hc dX0_of_21 ?_
      refine ga_iload_n (pc := 24) dX0_of_24 rfl ?_
      refine ga_aald (pc := 25) (N := 6) (f := Q 0) (hc.1 25 (by decide)) (by omega) (by decide) dX0_of_25 ?_
      refine ga_eq (pc := 26) (st1 := [.ref p]) rfl rfl (congrArg (fun x => va_rf x :: []) (hqe)) ?_
      refine ga_astore_n (pc := 26) (L1 := [some (.ref (ad 0)), some (.int (iI e)), some (.int (iI what)), some (.ref p)]) dX0_of_26 rfl (by decide) rfl ?_
      have jn56 : ∀ h : ga_H, cOn h ad J B Q Z → ((what = 3 → (J 30 = J 31 ∨ kd < 2)) ∧ (3 < what → (J 30 = J 31 ∨ kd < 2) ∧ zUn kd (J 30) (J 31) ≤ 6)) → G X (gR 10) RX0 4 cX0_of h 0 0 56 [some (.ref (ad 0)), some (.int (iI e)), some (.int (iI what)), some (.ref p)] [] := by
        intro h hc hcd
        refine ga_iload_n (pc := 56) dX0_of_56 rfl ?_
        by_cases c57_0 : what = 0
        · refine ga_tabIn (pc := 57) (tgt := 96) 0 dX0_of_57 (by omega) (by omega) (by decide) rfl rfl ?_
          refine ga_aload_n (pc := 96) dX0_of_96 rfl ?_
          refine v_kind_X0 (pc := 97) (p := p) (kd := kd) (y := y) (sh := sh)   (hc.2.2 p _ hp).1 hkd  (rfl) ⟨Nat.le_of_ble_eq_true rfl, Nat.le_of_ble_eq_true rfl⟩ ⟨Nat.le_of_ble_eq_true rfl, Nat.le_of_ble_eq_true rfl⟩ (Nat.le_of_ble_eq_true rfl) dX0_of_97 ?_
          exact cc_iret hc hE dX0_of_100 (⟨_, rfl, by dsimp only; exact ⟨by rw [if_pos (by omega)]; rw [c57_0]; rfl, cSam.refl _ _⟩⟩)
        by_cases c57_1 : what = 1
        · refine ga_tabIn (pc := 57) (tgt := 101) 1 dX0_of_57 (by omega) (by omega) (by decide) rfl rfl ?_
          refine ga_bipush (pc := 101) dX0_of_101 rfl ?_
          refine ga_aload_n (pc := 103) dX0_of_103 rfl ?_
          refine x_shift (pc := 104) (p := p) (q := 0) (kx := kd) (kd := kd) (y := y) (sh := sh) (fr := 0)   (hpo.mono (fun a e z => (hc.2.2 a e z).1))  (rfl) ⟨Nat.le_of_ble_eq_true rfl, Nat.le_of_ble_eq_true rfl⟩ ⟨Nat.le_of_ble_eq_true rfl, Nat.le_of_ble_eq_true rfl⟩ (Nat.le_of_ble_eq_true rfl) dX0_of_104 ?_
          refine ga_iadd (pc := 107) dX0_of_107 ?_
          exact cc_iret hc hE dX0_of_108 (⟨_, rfl, by dsimp only; exact ⟨by rw [if_pos (by omega)]; rw [c57_1]; rfl, cSam.refl _ _⟩⟩)
        by_cases c57_2 : what = 2
        · refine ga_tabIn (pc := 57) (tgt := 109) 2 dX0_of_57 (by omega) (by omega) (by decide) rfl rfl ?_
          refine ga_aload_n (pc := 109) dX0_of_109 rfl ?_
          refine ga_aload_n (pc := 110) dX0_of_110 rfl ?_
          refine k_X0_fits (pc := 111) (p := p) (kd := kd) (y := y) (sh := sh) hc (by first | exact hm | omega) (by first | exact hp | omega) (by first | exact hkd | omega) (rfl) ⟨Nat.le_of_ble_eq_true rfl, Nat.le_of_ble_eq_true rfl⟩ ⟨Nat.le_of_ble_eq_true rfl, Nat.le_of_ble_eq_true rfl⟩ (Nat.le_of_ble_eq_true rfl) dX0_of_111 (fun h hc => ?_)
          refine ga_ifb_eq (pc := 114) (tgt := 121) dX0_of_114 rfl (fun c114 => ?_) (fun c114 => ?_)
          · skip
            refine ga_iconst (pc := 121) dX0_of_121 ?_
            exact cc_iret hc hE dX0_of_122 (⟨_, rfl, by dsimp only; exact ⟨by rw [if_pos (by omega), c57_2, cOf_2 hm hkd]; rw [if_neg (by omega)], cSam.refl _ _⟩⟩)
          · skip
            refine ga_iconst (pc := 117) dX0_of_117 ?_
            refine ga_goto (pc := 118) (tgt := 122) dX0_of_118 rfl ?_
            exact cc_iret hc hE dX0_of_122 (⟨_, rfl, by dsimp only; exact ⟨by rw [if_pos (by omega), c57_2, cOf_2 hm hkd]; rw [if_pos (by omega)], cSam.refl _ _⟩⟩)
        by_cases c57_3 : what = 3
        · refine ga_tabIn (pc := 57) (tgt := 123) 3 dX0_of_57 (by omega) (by omega) (by decide) rfl rfl ?_
          refine ga_aload_n (pc := 123) dX0_of_123 rfl ?_
          refine ga_aload_n (pc := 124) dX0_of_124 rfl ?_
          refine cc_g_now (pc := 125) hc dX0_of_125 ?_
          refine ga_getN (pc := 128) (C := RX4) (T := TX4) (N := 5) (v := .int (iI (J 30))) in_X4 rfl (hc.1 4 (by decide)) 0 (by decide) (ga_nt q307 rfl) rfl rfl dX0_of_128 ?_
          refine ga_aload_n (pc := 131) dX0_of_131 rfl ?_
          refine cc_g_now (pc := 132) hc dX0_of_132 ?_
          refine ga_getN (pc := 135) (C := RX4) (T := TX4) (N := 5) (v := .int (iI (J 31))) in_X4 rfl (hc.1 4 (by decide)) 1 (by decide) (ga_nt q309 rfl) rfl rfl dX0_of_135 ?_
          refine x_unknowns (pc := 138) (p := p) (q := 0) (kx := kd) (kd := kd) (y := y) (sh := sh) (fr := 0) (m := (J 30)) (w := (J 31))  (hpo.mono (fun a e z => (hc.2.2 a e z).1)) (by omega) (rfl) ⟨Nat.le_of_ble_eq_true rfl, Nat.le_of_ble_eq_true rfl⟩ ⟨Nat.le_of_ble_eq_true rfl, Nat.le_of_ble_eq_true rfl⟩ (Nat.le_of_ble_eq_true rfl) dX0_of_138 ?_
          exact cc_iret hc hE dX0_of_141 (⟨_, rfl, by dsimp only; exact ⟨by rw [if_pos (by omega)]; rw [c57_3, cOf_3 (hcd.1 c57_3), w_cnt hkd hm (by have := hcd.1 c57_3; unfold zLike; omega)]; unfold xUn; rw [if_neg (by omega), if_neg (by omega)], cSam.refl _ _⟩⟩)
        by_cases c57_4 : what = 4
        · refine ga_tabIn (pc := 57) (tgt := 142) 4 dX0_of_57 (by omega) (by omega) (by decide) rfl rfl ?_
          have hD := eqD hm hkd (by omega) (by omega) hRl hTE hsh
          refine ga_aload_n (pc := 142) dX0_of_142 rfl ?_
          refine ga_aload_n (pc := 143) dX0_of_143 rfl ?_
          refine cc_g_now (pc := 144) hc dX0_of_144 ?_
          refine ga_getN (pc := 147) (C := RX4) (T := TX4) (N := 5) (v := .int (iI (J 30))) in_X4 rfl (hc.1 4 (by decide)) 0 (by decide) (ga_nt q307 rfl) rfl rfl dX0_of_147 ?_
          refine ga_aload_n (pc := 150) dX0_of_150 rfl ?_
          refine cc_g_now (pc := 151) hc dX0_of_151 ?_
          refine ga_getN (pc := 154) (C := RX4) (T := TX4) (N := 5) (v := .int (iI (J 31))) in_X4 rfl (hc.1 4 (by decide)) 1 (by decide) (ga_nt q309 rfl) rfl rfl dX0_of_154 ?_
          refine x_unknowns (pc := 157) (p := p) (q := 0) (kx := kd) (kd := kd) (y := y) (sh := sh) (fr := 0) (m := (J 30)) (w := (J 31))  (hpo.mono (fun a e z => (hc.2.2 a e z).1)) (by omega) (rfl) ⟨Nat.le_of_ble_eq_true rfl, Nat.le_of_ble_eq_true rfl⟩ ⟨Nat.le_of_ble_eq_true rfl, Nat.le_of_ble_eq_true rfl⟩ (Nat.le_of_ble_eq_true rfl) dX0_of_157 ?_
          refine ga_aload_n (pc := 160) dX0_of_160 rfl ?_
          refine ga_aload_n (pc := 161) dX0_of_161 rfl ?_
          refine k_X0_freeSet (pc := 162) (p := p) (q := 0) (kx := kd) (kd := kd) (y := y) (sh := sh) (fr := 0) (T := (mSys E (J 30) (J 31) kd kd sh 0)) hc (hm) (hpo) (by omega) (he0) (he1) (he2) (hsh) (by omega) (by have := hD.2.1; omega) (hD.2.2.1) (hD.2.2.2.1) ⟨Nat.le_of_ble_eq_true rfl, Nat.le_of_ble_eq_true rfl⟩ ⟨Nat.le_of_ble_eq_true rfl, Nat.le_of_ble_eq_true rfl⟩ (Nat.le_of_ble_eq_true rfl) dX0_of_162 (fun r162 J162 B162 hp162 h hc => ?_)
          refine k_J9_bitCount_X0 (pc := 165) (v := r162)  (rfl) ⟨Nat.le_of_ble_eq_true rfl, Nat.le_of_ble_eq_true rfl⟩ ⟨Nat.le_of_ble_eq_true rfl, Nat.le_of_ble_eq_true rfl⟩ (Nat.le_of_ble_eq_true rfl) dX0_of_165 ?_
          refine ga_isub (pc := 168) dX0_of_168 ?_
          exact cc_iret hc hE dX0_of_169 (⟨_, rfl, by dsimp only; exact ⟨by rw [if_pos (by omega)]; rw [c57_4, cOf_5 hD.2.2.2.2.1 (by decide), if_pos rfl, hp162.2, hD.2.2.2.2.2, zBc_fr (by have := hD.2.1; omega), hD.1, eqS, eRed_free _ _ (by have := mn_r hm; omega)]; have := hD.2.1; rw [hD.1] at this; omega, hp162.1.sam⟩⟩)
        by_cases c57_5 : what = 5
        · refine ga_tabIn (pc := 57) (tgt := 170) 5 dX0_of_57 (by omega) (by omega) (by decide) rfl rfl ?_
          have hD := eqD hm hkd (by omega) (by omega) hRl hTE hsh
          refine ga_aload_n (pc := 170) dX0_of_170 rfl ?_
          refine ga_aload_n (pc := 171) dX0_of_171 rfl ?_
          refine k_X0_freeSet (pc := 172) (p := p) (q := 0) (kx := kd) (kd := kd) (y := y) (sh := sh) (fr := 0) (T := (mSys E (J 30) (J 31) kd kd sh 0)) hc (hm) (hpo) (by omega) (he0) (he1) (he2) (hsh) (by omega) (by have := hD.2.1; omega) (hD.2.2.1) (hD.2.2.2.1) ⟨Nat.le_of_ble_eq_true rfl, Nat.le_of_ble_eq_true rfl⟩ ⟨Nat.le_of_ble_eq_true rfl, Nat.le_of_ble_eq_true rfl⟩ (Nat.le_of_ble_eq_true rfl) dX0_of_172 (fun r172 J172 B172 hp172 h hc => ?_)
          exact cc_iret hc hE dX0_of_175 (⟨_, rfl, by dsimp only; exact ⟨by rw [if_pos (by omega)]; rw [c57_5, cOf_5 hD.2.2.2.2.1 (by decide), if_neg (by decide), if_pos rfl, hp172.2, hD.2.2.2.2.2, hD.1], hp172.1.sam⟩⟩)
        refine ga_tabOut (pc := 57) (tgt := 176) dX0_of_57 (by omega) (by omega) rfl ?_
        have hD := eqD hm hkd (by omega) (by omega) hRl hTE hsh
        refine ga_aload_n (pc := 176) dX0_of_176 rfl ?_
        refine ga_aload_n (pc := 177) dX0_of_177 rfl ?_
        refine k_X0_isSolvable (pc := 178) (p := p) (q := 0) (kx := kd) (kd := kd) (y := y) (sh := sh) (fr := 0) (T := (mSys E (J 30) (J 31) kd kd sh 0)) hc (hm) (hpo) (by omega) (he0) (he1) (he2) (hsh) (by omega) (by have := hD.2.1; omega) (hD.2.2.1) (hD.2.2.2.1) ⟨Nat.le_of_ble_eq_true rfl, Nat.le_of_ble_eq_true rfl⟩ ⟨Nat.le_of_ble_eq_true rfl, Nat.le_of_ble_eq_true rfl⟩ (Nat.le_of_ble_eq_true rfl) dX0_of_178  (fun r178 J178 B178 hp178 h hc => ?_)
        refine ga_if_eq (pc := 181) (tgt := 188) dX0_of_181 rfl (by omega) (fun c181 => ?_) (fun c181 => ?_)
        · skip
          refine ga_iconst (pc := 188) dX0_of_188 ?_
          exact cc_iret hc hE dX0_of_189 (⟨_, rfl, by dsimp only; exact ⟨by rw [if_pos (by omega), cOf_5 hD.2.2.2.2.1 (by omega), if_neg (show ¬ what = 4 by omega), if_neg (show ¬ what = 5 by omega)]; have h9 := hp178.2; rw [hD.2.2.2.2.2, hD.1] at h9; have h0 := eSlv_o (zSy_b hm).1 h9; omega, hp178.1.sam⟩⟩)
        · skip
          refine ga_iconst (pc := 184) dX0_of_184 ?_
          refine ga_goto (pc := 185) (tgt := 189) dX0_of_185 rfl ?_
          exact cc_iret hc hE dX0_of_189 (⟨_, rfl, by dsimp only; exact ⟨by rw [if_pos (by omega), cOf_5 hD.2.2.2.2.1 (by omega), if_neg (show ¬ what = 4 by omega), if_neg (show ¬ what = 5 by omega)]; have h9 := hp178.2; rw [hD.2.2.2.2.2, hD.1] at h9; have h0 := eSlv_o (zSy_b hm).1 h9; omega, hp178.1.sam⟩⟩)
      refine ga_iload_n (pc := 27) dX0_of_27 rfl ?_
      refine ga_iconst (pc := 28) dX0_of_28 ?_
      refine ga_icmp_ne (pc := 29) (tgt := 40) dX0_of_29 rfl (by omega) (by omega) (fun c29 => ?_) (fun c29 => ?_)
      · skip
        refine ga_iload_n (pc := 40) dX0_of_40 rfl ?_
        refine ga_iconst (pc := 41) dX0_of_41 ?_
        refine ga_icmp_le (pc := 42) (tgt := 56) dX0_of_42 rfl (by omega) (by omega) (fun c42 => ?_) (fun c42 => ?_)
        · skip
          exact jn56 h hc (by omega)
        · skip
          refine ga_aload_n (pc := 45) dX0_of_45 rfl ?_
          refine ga_aload_n (pc := 46) dX0_of_46 rfl ?_
          refine k_X0_fits (pc := 47) (p := p) (kd := kd) (y := y) (sh := sh) hc (by first | exact hm | omega) (by first | exact hp | omega) (by first | exact hkd | omega) (rfl) ⟨Nat.le_of_ble_eq_true rfl, Nat.le_of_ble_eq_true rfl⟩ ⟨Nat.le_of_ble_eq_true rfl, Nat.le_of_ble_eq_true rfl⟩ (Nat.le_of_ble_eq_true rfl) dX0_of_47 (fun h hc => ?_)
          refine ga_ifb_ne (pc := 50) (tgt := 56) dX0_of_50 rfl (fun c50 => ?_) (fun c50 => ?_)
          · skip
            exact jn56 h hc (by omega)
          · skip
            refine ga_bipush (pc := 53) dX0_of_53 rfl ?_
            exact cc_iret hc hE dX0_of_55 (⟨_, rfl, by dsimp only; exact ⟨by rw [if_pos (by omega)]; exact (cOf_4 hm hkd (by omega)).symm, cSam.refl _ _⟩⟩)
      · skip
        refine ga_aload_n (pc := 32) dX0_of_32 rfl ?_
        refine ga_aload_n (pc := 33) dX0_of_33 rfl ?_
        refine k_X0_mayStand (pc := 34) (p := p) (kd := kd) (y := y) (sh := sh) hc (by first | exact hm | omega) (by first | exact hp | omega) (by first | exact hkd | omega) (rfl) ⟨Nat.le_of_ble_eq_true rfl, Nat.le_of_ble_eq_true rfl⟩ ⟨Nat.le_of_ble_eq_true rfl, Nat.le_of_ble_eq_true rfl⟩ (Nat.le_of_ble_eq_true rfl) dX0_of_34 (fun h hc => ?_)
        refine ga_ifb_eq (pc := 37) (tgt := 53) dX0_of_37 rfl (fun c37 => ?_) (fun c37 => ?_)
        · skip
          refine ga_bipush (pc := 53) dX0_of_53 rfl ?_
          exact cc_iret hc hE dX0_of_55 (⟨_, rfl, by dsimp only; exact ⟨by rw [if_pos (by omega)]; exact (cOf_4 hm hkd (by omega)).symm, cSam.refl _ _⟩⟩)
        · skip
          refine ga_iload_n (pc := 40) dX0_of_40 rfl ?_
          refine ga_iconst (pc := 41) dX0_of_41 ?_
          refine ga_icmp_le (pc := 42) (tgt := 56) dX0_of_42 rfl (by omega) (by omega) (fun c42 => ?_) (fun c42 => ?_)
          · skip
            exact jn56 h hc (by omega)
          · skip
            refine ga_aload_n (pc := 45) dX0_of_45 rfl ?_
            refine ga_aload_n (pc := 46) dX0_of_46 rfl ?_
            refine k_X0_fits (pc := 47) (p := p) (kd := kd) (y := y) (sh := sh) hc (by first | exact hm | omega) (by first | exact hp | omega) (by first | exact hkd | omega) (rfl) ⟨Nat.le_of_ble_eq_true rfl, Nat.le_of_ble_eq_true rfl⟩ ⟨Nat.le_of_ble_eq_true rfl, Nat.le_of_ble_eq_true rfl⟩ (Nat.le_of_ble_eq_true rfl) dX0_of_47 (fun h hc => ?_)
            refine ga_ifb_ne (pc := 50) (tgt := 56) dX0_of_50 rfl (fun c50 => ?_) (fun c50 => ?_)
            · skip
              exact jn56 h hc (by omega)
            · skip
              refine ga_bipush (pc := 53) dX0_of_53 rfl ?_
              exact cc_iret hc hE dX0_of_55 (⟨_, rfl, by dsimp only; exact ⟨by rw [if_pos (by omega)]; exact (cOf_4 hm hkd (by omega)).symm, cSam.refl _ _⟩⟩)
    · skip
      refine ga_iconst (pc := 18) dX0_of_18 ?_
      exact cc_iret hc hE dX0_of_19 (⟨_, rfl, by dsimp only; exact ⟨by rw [if_neg (by omega)], cSam.refl _ _⟩⟩)
theorem eqD2 {m n kd sh : Int} {B E : Nat → Int → Int} (hm : (1 ≤ m ∧ m ≤ 3) ∧ 1 ≤ n ∧ n ≤ 3) (hD : xUn kd 0 m n = tCnt kd m n ∧ (0 ≤ xUn kd 0 m n ∧ xUn kd 0 m n ≤ 6) ∧ (∀ p q : Int, 0 ≤ p → p < m * n → 0 ≤ q → q ≤ xUn kd 0 m n → cTs kd kd 0 sh m n (xUn kd 0 m n) 0 (B 0) (B 1) (B 2) p q = mSys E m n kd kd sh 0 p q) ∧ eSafe (m * n) (xUn kd 0 m n) (mSys E m n kd kd sh 0) ∧ zFit m n kd ∧ eRed (m * n) (mSys E m n kd kd sh 0) (xUn kd 0 m n).toNat = zSy m n E kd kd sh 0) :
    (∀ p q : Int, 0 ≤ p → p < m * n → 0 ≤ q → q ≤ tCnt kd m n → z40 ((zSy m n E kd kd sh 0).1 p q)) ∧ ((zSy m n E kd kd sh 0).2.2.2.1 ≠ 0 ∧ z40 (zSy m n E kd kd sh 0).2.2.2.1) ∧ (∀ k : Int, -1 ≤ (zSy m n E kd kd sh 0).2.2.2.2 k ∧ (zSy m n E kd kd sh 0).2.2.2.2 k < m * n) ∧ 0 ≤ tCnt kd m n ∧ tCnt kd m n ≤ 6 := by
  have hr := mn_r hm
  have h := hD.2.2.2.1 (xUn kd 0 m n) hD.2.1.1 (Int.le_refl _)
  have h2 := eRed_r (m * n) (mSys E m n kd kd sh 0) (by omega) (xUn kd 0 m n).toNat
  rw [hD.2.2.2.2.2, hD.1] at h
  rw [hD.2.2.2.2.2] at h2
  have h3 := hD.2.1
  rw [hD.1] at h3
  exact ⟨fun p q p0 p1 q0 q1 => h.1 p q p0 p1 q0 q1, h.2.1, fun k => ⟨(h2.2.2 k).1, by have := (h2.2.2 k).2; omega⟩, h3⟩
def w_fbB : Bool := decide (∀ (n : Fin 7) (b : Fin 64) (u : Fin 9), zand (zshr (zFb (fun k => b.val.testBit k) n.val) u.val) 1 = if u.val < n.val && b.val.testBit u.val then 1 else 0)
theorem w_fbB_t : w_fbB = true := by decide +kernel
theorem zFr_b {led : Int → Int} {W u : Int} (hW : 0 ≤ W ∧ W ≤ 6) (hu : 0 ≤ u ∧ u ≤ 8) : zand (zshr (zFr led W.toNat) u) 1 = if u < W ∧ led u < 0 then 1 else 0 := by
  obtain ⟨b, hb, h⟩ := w_bits (fun k => decide (led k < 0)) W.toNat
  have h64 : b < 64 := Nat.lt_of_lt_of_le hb (Nat.pow_le_pow_right (n := 2) (by decide) (show W.toNat ≤ 6 by omega))
  have e := of_decide_eq_true w_fbB_t ⟨W.toNat, by omega⟩ ⟨b, h64⟩ ⟨u.toNat, by omega⟩
  have eu : ((u.toNat : Nat) : Int) = u := by omega
  dsimp only at e
  rw [eu] at e
  have c := zFb_c W.toNat h
  rw [(zFb_e led W.toNat).1, ← c.1, e]
  by_cases hc : u < W
  · have hk := h u.toNat (by omega)
    rw [hk, eu]
    by_cases hl : led u < 0
    · rw [if_pos (show u < W ∧ led u < 0 from ⟨hc, hl⟩), decide_eq_true hl, decide_eq_true (show u.toNat < W.toNat by omega)]
      rfl
    · rw [if_neg (show ¬ (u < W ∧ led u < 0) from fun z => hl z.2), decide_eq_false hl, Bool.and_false]
      rfl
  · rw [if_neg (show ¬ (u < W ∧ led u < 0) from fun z => hc z.1), decide_eq_false (show ¬ u.toNat < W.toNat by omega), Bool.false_and]
    rfl
abbrev cPrt (k8 m n e i j part : Int) : Prop := (0 ≤ e ∧ e < k8) ∧ (0 ≤ i ∧ i < m) ∧ (0 ≤ j ∧ j < n) ∧ 0 ≤ part ∧ part ≤ 1
set_option maxHeartbeats 4000000 in
set_option maxRecDepth 100000 in
theorem m_X0_right (l : Launch) (D : ga_G) (ad : Nat → Nat) (J : Nat → Int) (B : Nat → Int → Int) (Q : Nat → Int → Option Nat) (Z : ga_H) (e i j : Int) (p : Nat) (kd y sh : Int) (E : Nat → Int → Int) (hm : (1 ≤ J 30 ∧ J 30 ≤ 3) ∧ 1 ≤ J 31 ∧ J 31 ≤ 3) (h8 : 0 ≤ J 8 ∧ J 8 ≤ 6) (hq : 0 ≤ e → e < J 8 → Q 0 e = some p ∧ Z p = some (oE (9 + kd.toNat) [.int (iI y), .int (iI sh)]) ∧ (0 ≤ kd ∧ kd ≤ 6) ∧ -2 ≤ sh ∧ sh ≤ 2) (he0 : ∀ k : Int, -50 ≤ B 0 k ∧ B 0 k ≤ 50) (he1 : ∀ k : Int, -50 ≤ B 1 k ∧ B 1 k ≤ 50) (he2 : ∀ k : Int, -50 ≤ B 2 k ∧ B 2 k ≤ 50) (hRl : tRel (J 30) (J 31) B E) (hTE : tEn (E 0)) (hri : (-2147483648 ≤ e ∧ e < 2147483648) ∧ (-2147483648 ≤ i ∧ i < 2147483648) ∧ (-2147483648 ≤ j ∧ j < 2147483648)) : cM l D yX0_right (ws_ yX0_right cX0_right 4 (some .long)) (gR 5) [.ref (ad 0), .int (iI e), .int (iI i), .int (iI j)] ad J B Q Z (mL (fun r J1 B1 => r = (if (0 ≤ e ∧ e < J 8) ∧ (0 ≤ i ∧ i < J 31) ∧ 0 ≤ j ∧ j < J 31 then (if zLike (J 30) (J 31) kd then mRight E kd i j else -4000000000000000004) else -4000000000000000001) ∧ J1 = J ∧ B1 = B)) := by
  refine cc_met (own := RX0) 0 (by decide) rfl (Nat.le_of_ble_eq_true rfl) (L0 := [some (.ref (ad 0)), some (.int (iI e)), some (.int (iI i)), some (.int (iI j))]) rfl (fun X h hc hE => ?_)
  refine ga_aload_n (pc := 0) dX0_right_0 rfl ?_
  refine ga_iload_n (pc := 1) dX0_right_1 rfl ?_
  have jn28 : ∀ h : ga_H, cOn h ad J B Q Z → ((0 ≤ e ∧ e < J 8) ∧ (0 ≤ i ∧ i < J 31) ∧ 0 ≤ j ∧ j < J 31) → G X (gR 5) RX0 4 cX0_right h 0 0 28 [some (.ref (ad 0)), some (.int (iI e)), some (.int (iI i)), some (.int (iI j))] [] := by
    intro h hc hv
    obtain ⟨hqe, hp, hkd, hsh⟩ := hq (by omega) (by omega)
    have hpo := pOn.of hkd hp
    refine ga_aload_n (pc := 28) dX0_right_28 rfl ?_
    refine ga_aload_n (pc := 29) dX0_right_29 rfl ?_
    refine cc_g_equations (pc := 30) hc dX0_right_30 ?_
    refine ga_iload_n (pc := 33) dX0_right_33 rfl ?_
    refine ga_aald (pc := 34) (N := 6) (f := Q 0) (hc.1 25 (by decide)) (by omega) (by decide) dX0_right_34 ?_
    refine ga_eq (pc := 35) (st1 := [.ref p, .ref (ad 0)]) rfl rfl (congrArg (fun x => va_rf x :: [.ref (ad 0)]) (hqe)) ?_
    refine k_X0_mayStand (pc := 35) (p := p) (kd := kd) (y := y) (sh := sh) hc (by first | exact hm | omega) (by first | exact hp | omega) (by first | exact hkd | omega) (rfl) ⟨Nat.le_of_ble_eq_true rfl, Nat.le_of_ble_eq_true rfl⟩ ⟨Nat.le_of_ble_eq_true rfl, Nat.le_of_ble_eq_true rfl⟩ (Nat.le_of_ble_eq_true rfl) dX0_right_35 (fun h hc => ?_)
    refine ga_ifb_eq (pc := 38) (tgt := 59) dX0_right_38 rfl (fun c38 => ?_) (fun c38 => ?_)
    · skip
      refine ga_bipush (pc := 59) dX0_right_59 rfl ?_
      refine k_X0_far (pc := 61) (a := (-4)) (by omega) (rfl) ⟨Nat.le_of_ble_eq_true rfl, Nat.le_of_ble_eq_true rfl⟩ ⟨Nat.le_of_ble_eq_true rfl, Nat.le_of_ble_eq_true rfl⟩ (Nat.le_of_ble_eq_true rfl) dX0_right_61 ?_
      exact cc_lret hc hE dX0_right_64 (⟨_, rfl, by rw [if_pos hv]; first | (rw [if_pos (by unfold zLike; omega)]; exact xRg hRl (by unfold zLike; omega) (by omega) (by omega) hkd) | (rw [if_neg (by unfold zLike; omega)]; omega), rfl, rfl⟩)
    · skip
      refine ga_aload_n (pc := 41) dX0_right_41 rfl ?_
      refine cc_g_equations (pc := 42) hc dX0_right_42 ?_
      refine ga_iload_n (pc := 45) dX0_right_45 rfl ?_
      refine ga_aald (pc := 46) (N := 6) (f := Q 0) (hc.1 25 (by decide)) (by omega) (by decide) dX0_right_46 ?_
      refine ga_eq (pc := 47) (st1 := [.ref p]) rfl rfl (congrArg (fun x => va_rf x :: []) (hqe)) ?_
      refine ga_aload_n (pc := 47) dX0_right_47 rfl ?_
      refine cc_g_now (pc := 48) hc dX0_right_48 ?_
      refine ga_iload_n (pc := 51) dX0_right_51 rfl ?_
      refine ga_iload_n (pc := 52) dX0_right_52 rfl ?_
      refine x_right (pc := 53) (p := p) (q := 0) (kx := kd) (kd := kd) (y := y) (sh := sh) (fr := 0) (t := (ad 4)) (i := i) (j := j) (ta := ad 7) (tb := ad 8) (tc := ad 9) (ea := ad 16) (eb := ad 17) (m := J 30) (w := J 31) (ra := J 30) (ca := J 30) (rb := J 31) (cb := J 31) (fa := B 0) (fb := B 1) (hpo.mono (fun a e z => (hc.2.2 a e z).1)) (hc.1 4 (by decide)) (hc.1 7 (by decide)) (hc.1 16 (by decide)) (hc.1 8 (by decide)) (hc.1 17 (by decide)) (fun z => zIx hm.2 (by omega) (by omega) (by omega)) (fun z => zIx hm.1 (by omega) (by omega) (by omega)) (fun z => zIx hm.1 (by omega) (by omega) (by omega)) (rfl) ⟨Nat.le_of_ble_eq_true rfl, Nat.le_of_ble_eq_true rfl⟩ ⟨Nat.le_of_ble_eq_true rfl, Nat.le_of_ble_eq_true rfl⟩ (Nat.le_of_ble_eq_true rfl) dX0_right_53 ?_
      refine ga_goto (pc := 56) (tgt := 64) dX0_right_56 rfl ?_
      exact cc_lret hc hE dX0_right_64 (⟨_, rfl, by rw [if_pos hv]; first | (rw [if_pos (by unfold zLike; omega)]; exact xRg hRl (by unfold zLike; omega) (by omega) (by omega) hkd) | (rw [if_neg (by unfold zLike; omega)]; omega), rfl, rfl⟩)
  refine k_X0_isEquation (pc := 2) (e := e) hc (by first | exact hq | omega) (by first | exact h1 | omega) (rfl) ⟨Nat.le_of_ble_eq_true rfl, Nat.le_of_ble_eq_true rfl⟩ ⟨Nat.le_of_ble_eq_true rfl, Nat.le_of_ble_eq_true rfl⟩ (Nat.le_of_ble_eq_true rfl) dX0_right_2 (fun h hc => ?_)
  refine ga_ifb_eq (pc := 5) (tgt := 23) dX0_right_5 rfl (fun c5 => ?_) (fun c5 => ?_)
  · skip
    refine ga_iconst (pc := 23) dX0_right_23 ?_
    refine k_X0_far (pc := 24) (a := (-1)) (by omega) (rfl) ⟨Nat.le_of_ble_eq_true rfl, Nat.le_of_ble_eq_true rfl⟩ ⟨Nat.le_of_ble_eq_true rfl, Nat.le_of_ble_eq_true rfl⟩ (Nat.le_of_ble_eq_true rfl) dX0_right_24 ?_
    exact cc_lret hc hE dX0_right_27 (⟨_, rfl, by rw [if_neg (by omega)]; omega, rfl, rfl⟩)
  · skip
    refine ga_aload_n (pc := 8) dX0_right_8 rfl ?_
    refine cc_g_now (pc := 9) hc dX0_right_9 ?_
    refine ga_getN (pc := 12) (C := RX4) (T := TX4) (N := 5) (v := .ref (ad 8)) in_X4 rfl (hc.1 4 (by decide)) 3 (by decide) (ga_nt q316 rfl) rfl rfl dX0_right_12 ?_
    refine ga_iload_n (pc := 15) dX0_right_15 rfl ?_
    refine ga_iload_n (pc := 16) dX0_right_16 rfl ?_
    refine k_X5_has_X0 (pc := 17) (b := (ad 8)) (e := (ad 17)) (ro := (J 31)) (co := (J 31)) (i := i) (j := j) (f := (B 1)) (hc.1 8 (by decide)) (hc.1 17 (by decide)) (by first | exact hrc | omega) (by first | exact h1 | omega) (rfl) ⟨Nat.le_of_ble_eq_true rfl, Nat.le_of_ble_eq_true rfl⟩ ⟨Nat.le_of_ble_eq_true rfl, Nat.le_of_ble_eq_true rfl⟩ (Nat.le_of_ble_eq_true rfl) dX0_right_17 ?_
    refine ga_ifb_ne (pc := 20) (tgt := 28) dX0_right_20 rfl (fun c20 => ?_) (fun c20 => ?_)
    · skip
      obtain ⟨hqe, hp, hkd, hsh⟩ := hq (by omega) (by omega)
      have hpo := pOn.of hkd hp
      exact jn28 h hc (by omega)
    · skip
      refine ga_iconst (pc := 23) dX0_right_23 ?_
      refine k_X0_far (pc := 24) (a := (-1)) (by omega) (rfl) ⟨Nat.le_of_ble_eq_true rfl, Nat.le_of_ble_eq_true rfl⟩ ⟨Nat.le_of_ble_eq_true rfl, Nat.le_of_ble_eq_true rfl⟩ (Nat.le_of_ble_eq_true rfl) dX0_right_24 ?_
      exact cc_lret hc hE dX0_right_27 (⟨_, rfl, by rw [if_neg (by omega)]; omega, rfl, rfl⟩)
set_option maxHeartbeats 4000000 in
set_option maxRecDepth 100000 in
theorem m_X0_solution (l : Launch) (D : ga_G) (ad : Nat → Nat) (J : Nat → Int) (B : Nat → Int → Int) (Q : Nat → Int → Option Nat) (Z : ga_H) (e i j part : Int) (p : Nat) (kd y sh : Int) (E : Nat → Int → Int) (hm : (1 ≤ J 30 ∧ J 30 ≤ 3) ∧ 1 ≤ J 31 ∧ J 31 ≤ 3) (h8 : 0 ≤ J 8 ∧ J 8 ≤ 6) (hq : 0 ≤ e → e < J 8 → Q 0 e = some p ∧ Z p = some (oE (9 + kd.toNat) [.int (iI y), .int (iI sh)]) ∧ (0 ≤ kd ∧ kd ≤ 6) ∧ -2 ≤ sh ∧ sh ≤ 2) (he0 : ∀ k : Int, -50 ≤ B 0 k ∧ B 0 k ≤ 50) (he1 : ∀ k : Int, -50 ≤ B 1 k ∧ B 1 k ≤ 50) (he2 : ∀ k : Int, -50 ≤ B 2 k ∧ B 2 k ≤ 50) (hRl : tRel (J 30) (J 31) B E) (hTE : tEn (E 0)) (hri : (-2147483648 ≤ e ∧ e < 2147483648) ∧ (-2147483648 ≤ i ∧ i < 2147483648) ∧ (-2147483648 ≤ j ∧ j < 2147483648) ∧ (-2147483648 ≤ part ∧ part < 2147483648)) : kM l D yX0_solution (wsW_ yX0_solution cX0_solution 7 (some .long) [((59 : Nat), (90 : Nat), (91 : Nat), (52 : Nat))]) (gK 9 0 0) [.ref (ad 0), .int (iI e), .int (iI i), .int (iI j), .int (iI part)] ad J B Q Z (kL (fun r ad1 J1 B1 Q1 Z1 => (ad1 = ad ∧ Q1 = Q ∧ Z1 = Z) ∧ r = (if cPrt (J 8) (J 30) (J 31) e i j part then (if zFit (J 30) (J 31) kd then (if eSlv (J 30 * J 31) (tCnt kd (J 30) (J 31)) (zSy (J 30) (J 31) E kd kd sh 0) = 1 then zPart (zShs (J 30) (J 31) kd (zSy (J 30) (J 31) E kd kd sh 0) (tCnt kd (J 30) (J 31)) i j (-1)) (zSy (J 30) (J 31) E kd kd sh 0).2.2.2.1 part else -4000000000000000003) else -4000000000000000004) else -4000000000000000001) ∧ cSam J B J1 B1)) kX0 0 0 := by
  refine kc_metW (own := RX0) 2 (by decide) rfl (Nat.le_of_ble_eq_true rfl) (L0 := [some (.ref (ad 0)), some (.int (iI e)), some (.int (iI i)), some (.int (iI j)), some (.int (iI part)), none, none]) rfl (fun X h hc hE => ?_)
  refine ga_aload_n (pc := 0) dX0_solution_0 rfl ?_
  refine ga_iload_n (pc := 1) dX0_solution_1 rfl ?_
  have jn36 : ∀ h : ga_H, cOn h ad J B Q Z → (cPrt (J 8) (J 30) (J 31) e i j part) → G X (gK 9 0 0) RX0 7 cX0_solution h 0 0 36 [some (.ref (ad 0)), some (.int (iI e)), some (.int (iI i)), some (.int (iI j)), some (.int (iI part)), none, none] [] := by
    intro h hc hv
    obtain ⟨hqe, hp, hkd, hsh⟩ := hq (by omega) (by omega)
    have hpo := pOn.of hkd hp
    refine ga_aload_n (pc := 36) dX0_solution_36 rfl ?_
    refine cc_g_equations (pc := 37) hc dX0_solution_37 ?_
    refine ga_iload_n (pc := 40) dX0_solution_40 rfl ?_
    refine ga_aald (pc := 41) (N := 6) (f := Q 0) (hc.1 25 (by decide)) (by omega) (by decide) dX0_solution_41 ?_
    refine ga_eq (pc := 42) (st1 := [.ref p]) rfl rfl (congrArg (fun x => va_rf x :: []) (hqe)) ?_
    refine ga_astore (pc := 42) (L1 := [some (.ref (ad 0)), some (.int (iI e)), some (.int (iI i)), some (.int (iI j)), some (.int (iI part)), some (.ref p), none]) dX0_solution_42 rfl (by decide) rfl ?_
    refine ga_aload_n (pc := 44) dX0_solution_44 rfl ?_
    refine ga_aload (pc := 45) dX0_solution_45 rfl ?_
    refine k_X0_fits (pc := 47) (p := p) (kd := kd) (y := y) (sh := sh) hc (by first | exact hm | omega) (by first | exact hp | omega) (by first | exact hkd | omega) (rfl) ⟨Nat.le_of_ble_eq_true rfl, Nat.le_of_ble_eq_true rfl⟩ ⟨Nat.le_of_ble_eq_true rfl, Nat.le_of_ble_eq_true rfl⟩ (Nat.le_of_ble_eq_true rfl) dX0_solution_47 (fun h hc => ?_)
    refine ga_ifb_ne (pc := 50) (tgt := 59) dX0_solution_50 rfl (fun c50 => ?_) (fun c50 => ?_)
    · skip
      have hD := eqD hm hkd (by omega) (by omega) hRl hTE hsh
      refine ga_aload_n (pc := 59) dX0_solution_59 rfl ?_
      refine ga_aload (pc := 60) dX0_solution_60 rfl ?_
      refine k_X0_solves (pc := 62) (p := p) (q := 0) (kx := kd) (kd := kd) (y := y) (sh := sh) (fr := 0) (T := (mSys E (J 30) (J 31) kd kd sh 0)) hc (hm) (hpo) (by omega) (he0) (he1) (he2) (hsh) (by omega) (by have := hD.2.1; omega) (hD.2.2.1) (hD.2.2.2.1) ⟨Nat.le_of_ble_eq_true rfl, Nat.le_of_ble_eq_true rfl⟩ ⟨Nat.le_of_ble_eq_true rfl, Nat.le_of_ble_eq_true rfl⟩ (Nat.le_of_ble_eq_true rfl) dX0_solution_62 (fun J62 B62 hp62 h hc => ?_) (fun J62 B62 hp62 h hc => ?_)
      · skip
        refine ga_catch (nm := "TwoSidedTables$Unsolvable") hE (tableOf []) _ (tableOf []) rfl (fun z hz => by cases hz) (by decide) (by decide) q254 (ga_nt q256 rfl) ?_
        refine ga_astore (pc := 91) (L1 := [some (.ref (ad 0)), some (.int (iI e)), some (.int (iI i)), some (.int (iI j)), some (.int (iI part)), some (.ref p), some (.ref (ad 3))]) dX0_solution_91 rfl (by decide) rfl ?_
        refine ga_bipush (pc := 93) dX0_solution_93 rfl ?_
        refine k_X0_far (pc := 95) (a := (-3)) (by omega) (rfl) ⟨Nat.le_of_ble_eq_true rfl, Nat.le_of_ble_eq_true rfl⟩ ⟨Nat.le_of_ble_eq_true rfl, Nat.le_of_ble_eq_true rfl⟩ (Nat.le_of_ble_eq_true rfl) dX0_solution_95 ?_
        exact kc_lret hc hE dX0_solution_98 (by omega) (by omega) (⟨_, rfl, ⟨⟨rfl, rfl, rfl⟩, by (try dsimp only); exact ⟨by rw [if_pos hv, if_pos hD.2.2.2.2.1]; have h9 := hp62.2; rw [hD.2.2.2.2.2, hD.1] at h9; rw [if_neg (by rw [← eSlv_o (zSy_b hm).1 (Or.inr ⟨rfl, h9⟩)]; decide)]; omega, hp62.1.sam⟩⟩⟩)
      obtain ⟨⟨eJ6, f6, g6, eB6, hf6, hg6⟩, hs6⟩ := hp62
      rw [hD.2.2.2.2.2] at eJ6 hf6 hg6
      rw [hD.1] at eJ6 hf6 hg6
      subst eJ6
      subst eB6
      have hD2 := eqD2 hm hD
      rw [hD.2.2.2.2.2, hD.1] at hs6
      replace hc : cOn h ad (uN (uN (uN (uN (uN J 20 (J 30 * J 31)) 21 (tCnt kd (J 30) (J 31))) 22 ((zSy (J 30) (J 31) E kd kd sh 0).2.1)) 23 (zSg (zSy (J 30) (J 31) E kd kd sh 0).2.2.1)) 24 ((zSy (J 30) (J 31) E kd kd sh 0).2.2.2.1)) (uN (uN B 10 f6) 11 g6) Q Z := hc
      refine ga_aload_n (pc := 65) dX0_solution_65 rfl ?_
      refine ga_aload (pc := 66) dX0_solution_66 rfl ?_
      refine ga_iload_n (pc := 68) dX0_solution_68 rfl ?_
      refine ga_iload_n (pc := 69) dX0_solution_69 rfl ?_
      refine ga_aload_n (pc := 70) dX0_solution_70 rfl ?_
      refine cc_g_now (pc := 71) hc dX0_solution_71 ?_
      refine ga_getN (pc := 74) (C := RX4) (T := TX4) (N := 5) (v := .int (iI (J 31))) in_X4 rfl (hc.1 4 (by decide)) 1 (by decide) (ga_nt q309 rfl) rfl rfl dX0_solution_74 ?_
      have hco := w_co hkd hm (by unfold zLike; omega : zLike (J 30) (J 31) kd) (by omega : 0 ≤ i ∧ i < J 30) (by omega : 0 ≤ j ∧ j < J 31)
      have hcr := zCo_r (kd := kd) hm.2 (by omega : 0 ≤ i ∧ i ≤ 2) (by omega : 0 ≤ j ∧ j ≤ 2)
      have hmn := mn_r hm
      obtain ⟨co, hcoe⟩ : ∃ x, x = zCo kd (J 31) i j := ⟨_, rfl⟩
      rw [← hcoe] at hco hcr
      refine x_codeAt (pc := 77) (p := p) (q := 0) (kx := kd) (kd := kd) (y := y) (sh := sh) (fr := 0) (i := i) (j := j) (w := (J 31))  (z := co) (hpo.mono (fun a e z => (hc.2.2 a e z).1)) (by omega) (by omega) (by rw [hcoe]; unfold xCo; rw [if_neg (by omega), if_neg (by omega)]) ⟨Nat.le_of_ble_eq_true rfl, Nat.le_of_ble_eq_true rfl⟩ ⟨Nat.le_of_ble_eq_true rfl, Nat.le_of_ble_eq_true rfl⟩ (Nat.le_of_ble_eq_true rfl) dX0_solution_77 ?_
      refine ga_aload_n (pc := 80) dX0_solution_80 rfl ?_
      refine cc_g_gridUnknowns (pc := 81) (z := (tCnt kd (J 30) (J 31))) hc rfl dX0_solution_81 ?_
      refine ga_iconst (pc := 84) dX0_solution_84 ?_
      refine ga_iload (pc := 85) dX0_solution_85 rfl ?_
      refine k_X0_bound (pc := 87) (code := co) (col := (tCnt kd (J 30) (J 31))) (less := 0) (part := part) (z := cBn (g6) (f6) (((zSy (J 30) (J 31) E kd kd sh 0).2.2.2.1)) co (tCnt kd (J 30) (J 31)) 0 part) hc (show (-10 ≤ co ∧ co ≤ 10) ∧ (0 ≤ (tCnt kd (J 30) (J 31)) ∧ (tCnt kd (J 30) (J 31)) ≤ 9) ∧ (0 = 0 ∨ 0 = 1) ∧ (part = 0 ∨ part = 1) from by omega) (show co ≠ 0 → -1 ≤ g6 ((co.natAbs : Int) - 1) ∧ g6 ((co.natAbs : Int) - 1) ≤ 9 from fun z => by rw [hg6 _ (by omega) (by omega)]; have := hD2.2.2.1 ((co.natAbs : Int) - 1); omega) (show co ≠ 0 → 0 ≤ g6 ((co.natAbs : Int) - 1) → z40 (f6 (10 * g6 ((co.natAbs : Int) - 1) + (tCnt kd (J 30) (J 31)))) from fun z z2 => by rw [hg6 _ (by omega) (by omega)] at z2 ⊢; have := hD2.2.2.1 ((co.natAbs : Int) - 1); rw [hf6 _ _ z2 this.2 (by omega) (by omega)]; exact hD2.1 _ _ z2 this.2 (by omega) (by omega)) (show z40 (((zSy (J 30) (J 31) E kd kd sh 0).2.2.2.1)) ∧ ((zSy (J 30) (J 31) E kd kd sh 0).2.2.2.1) ≠ 0 from ⟨hD2.2.1.2, hD2.2.1.1⟩) (rfl) ⟨Nat.le_of_ble_eq_true rfl, Nat.le_of_ble_eq_true rfl⟩ ⟨Nat.le_of_ble_eq_true rfl, Nat.le_of_ble_eq_true rfl⟩ (Nat.le_of_ble_eq_true rfl) dX0_solution_87 (fun h hc => ?_)
      exact kc_lret hc hE dX0_solution_90 (by omega) (by omega) (⟨_, rfl, ⟨⟨rfl, rfl, rfl⟩, by (try dsimp only); refine ⟨by rw [if_pos hv, if_pos hD.2.2.2.2.1, if_pos (eSlv_o (zSy_b hm).1 (Or.inl ⟨rfl, hs6⟩)).symm]; rw [hcoe]; exact cBn_sol hkd hm hD.2.2.2.2.1.1 (by omega) (by omega) hf6 hg6 (zSy_b hm).2 hD2.2.1.1 (by omega), ?_⟩; exact ((((((cSam.refl J B).uJ (by decide)).uJ (by decide)).uJ (by decide)).uJ (by decide)).uJ (by decide)).uB (by decide) |>.uB (by decide)⟩⟩)
    · skip
      refine ga_bipush (pc := 53) dX0_solution_53 rfl ?_
      refine k_X0_far (pc := 55) (a := (-4)) (by omega) (rfl) ⟨Nat.le_of_ble_eq_true rfl, Nat.le_of_ble_eq_true rfl⟩ ⟨Nat.le_of_ble_eq_true rfl, Nat.le_of_ble_eq_true rfl⟩ (Nat.le_of_ble_eq_true rfl) dX0_solution_55 ?_
      exact kc_lret hc hE dX0_solution_58 (by omega) (by omega) (⟨_, rfl, ⟨⟨rfl, rfl, rfl⟩, by (try dsimp only); exact ⟨by rw [if_pos hv, if_neg (fun z => by have := (zFit_i hm hkd).mp z; omega)]; omega, cSam.refl _ _⟩⟩⟩)
  refine k_X0_isEquation (pc := 2) (e := e) hc (by first | exact hq | omega) (by first | exact h1 | omega) (rfl) ⟨Nat.le_of_ble_eq_true rfl, Nat.le_of_ble_eq_true rfl⟩ ⟨Nat.le_of_ble_eq_true rfl, Nat.le_of_ble_eq_true rfl⟩ (Nat.le_of_ble_eq_true rfl) dX0_solution_2 (fun h hc => ?_)
  refine ga_ifb_eq (pc := 5) (tgt := 31) dX0_solution_5 rfl (fun c5 => ?_) (fun c5 => ?_)
  · skip
    refine ga_iconst (pc := 31) dX0_solution_31 ?_
    refine k_X0_far (pc := 32) (a := (-1)) (by omega) (rfl) ⟨Nat.le_of_ble_eq_true rfl, Nat.le_of_ble_eq_true rfl⟩ ⟨Nat.le_of_ble_eq_true rfl, Nat.le_of_ble_eq_true rfl⟩ (Nat.le_of_ble_eq_true rfl) dX0_solution_32 ?_
    exact kc_lret hc hE dX0_solution_35 (by omega) (by omega) (⟨_, rfl, ⟨⟨rfl, rfl, rfl⟩, by (try dsimp only); exact ⟨by rw [if_neg (by unfold cPrt; omega)]; omega, cSam.refl _ _⟩⟩⟩)
  · skip
    refine ga_aload_n (pc := 8) dX0_solution_8 rfl ?_
    refine cc_g_now (pc := 9) hc dX0_solution_9 ?_
    refine ga_getN (pc := 12) (C := RX4) (T := TX4) (N := 5) (v := .ref (ad 9)) in_X4 rfl (hc.1 4 (by decide)) 4 (by decide) (ga_nt q318 rfl) rfl rfl dX0_solution_12 ?_
    refine ga_iload_n (pc := 15) dX0_solution_15 rfl ?_
    refine ga_iload_n (pc := 16) dX0_solution_16 rfl ?_
    refine k_X5_has_X0 (pc := 17) (b := (ad 9)) (e := (ad 18)) (ro := (J 30)) (co := (J 31)) (i := i) (j := j) (f := (B 2)) (hc.1 9 (by decide)) (hc.1 18 (by decide)) (by first | exact hrc | omega) (by first | exact h1 | omega) (rfl) ⟨Nat.le_of_ble_eq_true rfl, Nat.le_of_ble_eq_true rfl⟩ ⟨Nat.le_of_ble_eq_true rfl, Nat.le_of_ble_eq_true rfl⟩ (Nat.le_of_ble_eq_true rfl) dX0_solution_17 ?_
    refine ga_ifb_eq (pc := 20) (tgt := 31) dX0_solution_20 rfl (fun c20 => ?_) (fun c20 => ?_)
    · skip
      refine ga_iconst (pc := 31) dX0_solution_31 ?_
      refine k_X0_far (pc := 32) (a := (-1)) (by omega) (rfl) ⟨Nat.le_of_ble_eq_true rfl, Nat.le_of_ble_eq_true rfl⟩ ⟨Nat.le_of_ble_eq_true rfl, Nat.le_of_ble_eq_true rfl⟩ (Nat.le_of_ble_eq_true rfl) dX0_solution_32 ?_
      exact kc_lret hc hE dX0_solution_35 (by omega) (by omega) (⟨_, rfl, ⟨⟨rfl, rfl, rfl⟩, by (try dsimp only); exact ⟨by rw [if_neg (by unfold cPrt; omega)]; omega, cSam.refl _ _⟩⟩⟩)
    · skip
      refine ga_iload (pc := 23) dX0_solution_23 rfl ?_
      refine k_X0_isPart (pc := 25) (a := part) (by omega) (rfl) ⟨Nat.le_of_ble_eq_true rfl, Nat.le_of_ble_eq_true rfl⟩ ⟨Nat.le_of_ble_eq_true rfl, Nat.le_of_ble_eq_true rfl⟩ (Nat.le_of_ble_eq_true rfl) dX0_solution_25 ?_
      refine ga_ifb_ne (pc := 28) (tgt := 36) dX0_solution_28 rfl (fun c28 => ?_) (fun c28 => ?_)
      · skip
        obtain ⟨hqe, hp, hkd, hsh⟩ := hq (by omega) (by omega)
        have hpo := pOn.of hkd hp
        exact jn36 h hc (by omega)
      · skip
        refine ga_iconst (pc := 31) dX0_solution_31 ?_
        refine k_X0_far (pc := 32) (a := (-1)) (by omega) (rfl) ⟨Nat.le_of_ble_eq_true rfl, Nat.le_of_ble_eq_true rfl⟩ ⟨Nat.le_of_ble_eq_true rfl, Nat.le_of_ble_eq_true rfl⟩ (Nat.le_of_ble_eq_true rfl) dX0_solution_32 ?_
        exact kc_lret hc hE dX0_solution_35 (by omega) (by omega) (⟨_, rfl, ⟨⟨rfl, rfl, rfl⟩, by (try dsimp only); exact ⟨by rw [if_neg (by unfold cPrt; omega)]; omega, cSam.refl _ _⟩⟩⟩)
set_option maxHeartbeats 4000000 in
set_option maxRecDepth 100000 in
theorem m_X0_base (l : Launch) (D : ga_G) (ad : Nat → Nat) (J : Nat → Int) (B : Nat → Int → Int) (Q : Nat → Int → Option Nat) (Z : ga_H) (e u i j part : Int) (p : Nat) (kd y sh : Int) (E : Nat → Int → Int) (hm : (1 ≤ J 30 ∧ J 30 ≤ 3) ∧ 1 ≤ J 31 ∧ J 31 ≤ 3) (h8 : 0 ≤ J 8 ∧ J 8 ≤ 6) (hq : 0 ≤ e → e < J 8 → Q 0 e = some p ∧ Z p = some (oE (9 + kd.toNat) [.int (iI y), .int (iI sh)]) ∧ (0 ≤ kd ∧ kd ≤ 6) ∧ -2 ≤ sh ∧ sh ≤ 2) (he0 : ∀ k : Int, -50 ≤ B 0 k ∧ B 0 k ≤ 50) (he1 : ∀ k : Int, -50 ≤ B 1 k ∧ B 1 k ≤ 50) (he2 : ∀ k : Int, -50 ≤ B 2 k ∧ B 2 k ≤ 50) (hRl : tRel (J 30) (J 31) B E) (hTE : tEn (E 0)) (hri : (-2147483648 ≤ e ∧ e < 2147483648) ∧ (-2147483648 ≤ u ∧ u < 2147483648) ∧ (-2147483648 ≤ i ∧ i < 2147483648) ∧ (-2147483648 ≤ j ∧ j < 2147483648) ∧ (-2147483648 ≤ part ∧ part < 2147483648)) : cM l D yX0_base (ws_ yX0_base cX0_base 8 (some .long)) (gR 9) [.ref (ad 0), .int (iI e), .int (iI u), .int (iI i), .int (iI j), .int (iI part)] ad J B Q Z (mL (fun r J1 B1 => r = (if cPrt (J 8) (J 30) (J 31) e i j part ∧ 0 ≤ u ∧ u ≤ 8 then (if zFit (J 30) (J 31) kd then (if u < (tCnt kd (J 30) (J 31)) ∧ (zSy (J 30) (J 31) E kd kd sh 0).2.2.2.2 u < 0 then zPart (zShs (J 30) (J 31) kd (zSy (J 30) (J 31) E kd kd sh 0) (tCnt kd (J 30) (J 31)) i j u) (zSy (J 30) (J 31) E kd kd sh 0).2.2.2.1 part else -4000000000000000003) else -4000000000000000004) else -4000000000000000001) ∧ cSam J B J1 B1)) := by
  refine cc_met (own := RX0) 2 (by decide) rfl (Nat.le_of_ble_eq_true rfl) (L0 := [some (.ref (ad 0)), some (.int (iI e)), some (.int (iI u)), some (.int (iI i)), some (.int (iI j)), some (.int (iI part)), none, none]) rfl (fun X h hc hE => ?_)
  refine ga_aload_n (pc := 0) dX0_base_0 rfl ?_
  refine ga_iload_n (pc := 1) dX0_base_1 rfl ?_
  have jn47 : ∀ h : ga_H, cOn h ad J B Q Z → (cPrt (J 8) (J 30) (J 31) e i j part ∧ 0 ≤ u ∧ u ≤ 8) → G X (gR 9) RX0 8 cX0_base h 0 0 47 [some (.ref (ad 0)), some (.int (iI e)), some (.int (iI u)), some (.int (iI i)), some (.int (iI j)), some (.int (iI part)), none, none] [] := by
    intro h hc hv
    obtain ⟨hqe, hp, hkd, hsh⟩ := hq (by omega) (by omega)
    have hpo := pOn.of hkd hp
    refine ga_aload_n (pc := 47) dX0_base_47 rfl ?_
    refine cc_g_equations (pc := 48) hc dX0_base_48 ?_
    refine ga_iload_n (pc := 51) dX0_base_51 rfl ?_
    refine ga_aald (pc := 52) (N := 6) (f := Q 0) (hc.1 25 (by decide)) (by omega) (by decide) dX0_base_52 ?_
    refine ga_eq (pc := 53) (st1 := [.ref p]) rfl rfl (congrArg (fun x => va_rf x :: []) (hqe)) ?_
    refine ga_astore (pc := 53) (L1 := [some (.ref (ad 0)), some (.int (iI e)), some (.int (iI u)), some (.int (iI i)), some (.int (iI j)), some (.int (iI part)), some (.ref p), none]) dX0_base_53 rfl (by decide) rfl ?_
    refine ga_aload_n (pc := 55) dX0_base_55 rfl ?_
    refine ga_aload (pc := 56) dX0_base_56 rfl ?_
    refine k_X0_fits (pc := 58) (p := p) (kd := kd) (y := y) (sh := sh) hc (by first | exact hm | omega) (by first | exact hp | omega) (by first | exact hkd | omega) (rfl) ⟨Nat.le_of_ble_eq_true rfl, Nat.le_of_ble_eq_true rfl⟩ ⟨Nat.le_of_ble_eq_true rfl, Nat.le_of_ble_eq_true rfl⟩ (Nat.le_of_ble_eq_true rfl) dX0_base_58 (fun h hc => ?_)
    refine ga_ifb_ne (pc := 61) (tgt := 70) dX0_base_61 rfl (fun c61 => ?_) (fun c61 => ?_)
    · skip
      have hD := eqD hm hkd (by omega) (by omega) hRl hTE hsh
      refine ga_aload_n (pc := 70) dX0_base_70 rfl ?_
      refine ga_aload (pc := 71) dX0_base_71 rfl ?_
      refine k_X0_freeSet (pc := 73) (p := p) (q := 0) (kx := kd) (kd := kd) (y := y) (sh := sh) (fr := 0) (T := (mSys E (J 30) (J 31) kd kd sh 0)) hc (hm) (hpo) (by omega) (he0) (he1) (he2) (hsh) (by omega) (by have := hD.2.1; omega) (hD.2.2.1) (hD.2.2.2.1) ⟨Nat.le_of_ble_eq_true rfl, Nat.le_of_ble_eq_true rfl⟩ ⟨Nat.le_of_ble_eq_true rfl, Nat.le_of_ble_eq_true rfl⟩ (Nat.le_of_ble_eq_true rfl) dX0_base_73 (fun r73 J73 B73 hp73 h hc => ?_)
      obtain ⟨⟨eJ6, f6, g6, eB6, hf6, hg6⟩, hs6⟩ := hp73
      rw [hD.2.2.2.2.2] at eJ6 hf6 hg6
      rw [hD.1] at eJ6 hf6 hg6
      subst eJ6
      subst eB6
      have hD2 := eqD2 hm hD
      rw [hD.2.2.2.2.2, hD.1] at hs6
      replace hc : cOn h ad (uN (uN (uN (uN (uN J 20 (J 30 * J 31)) 21 (tCnt kd (J 30) (J 31))) 22 ((zSy (J 30) (J 31) E kd kd sh 0).2.1)) 23 (zSg (zSy (J 30) (J 31) E kd kd sh 0).2.2.1)) 24 ((zSy (J 30) (J 31) E kd kd sh 0).2.2.2.1)) (uN (uN B 10 f6) 11 g6) Q Z := hc
      refine ga_iload_n (pc := 76) dX0_base_76 rfl ?_
      refine ga_ishr (pc := 77) dX0_base_77 ?_
      refine ga_iconst (pc := 78) dX0_base_78 ?_
      obtain ⟨bt, hbt⟩ : ∃ x, x = zand (zshr r73 u) 1 := ⟨_, rfl⟩
      have hbt2 : bt = if u < (tCnt kd (J 30) (J 31)) ∧ (zSy (J 30) (J 31) E kd kd sh 0).2.2.2.2 u < 0 then 1 else 0 := by rw [hbt, hs6]; exact zFr_b ⟨hD2.2.2.2.1, hD2.2.2.2.2⟩ (by omega)
      have hbt3 : 0 ≤ bt ∧ bt ≤ 1 := by rw [hbt2]; split <;> decide
      refine ga_iand (pc := 79) dX0_base_79 ?_
      refine ga_topi (pc := 80) (b := bt) (hbt.symm) ?_
      refine ga_if_ne (pc := 80) (tgt := 89) dX0_base_80 rfl (by omega) (fun c80 => ?_) (fun c80 => ?_)
      · skip
        have hub : u < (tCnt kd (J 30) (J 31)) ∧ (zSy (J 30) (J 31) E kd kd sh 0).2.2.2.2 u < 0 := by by_cases z : u < (tCnt kd (J 30) (J 31)) ∧ (zSy (J 30) (J 31) E kd kd sh 0).2.2.2.2 u < 0; exact z; (rw [if_neg z] at hbt2; omega)
        refine ga_aload (pc := 89) dX0_base_89 rfl ?_
        refine ga_iload_n (pc := 91) dX0_base_91 rfl ?_
        refine ga_iload (pc := 92) dX0_base_92 rfl ?_
        refine ga_aload_n (pc := 94) dX0_base_94 rfl ?_
        refine cc_g_now (pc := 95) hc dX0_base_95 ?_
        refine ga_getN (pc := 98) (C := RX4) (T := TX4) (N := 5) (v := .int (iI (J 31))) in_X4 rfl (hc.1 4 (by decide)) 1 (by decide) (ga_nt q309 rfl) rfl rfl dX0_base_98 ?_
        have hco := w_co hkd hm (by unfold zLike; omega : zLike (J 30) (J 31) kd) (by omega : 0 ≤ i ∧ i < J 30) (by omega : 0 ≤ j ∧ j < J 31)
        have hcr := zCo_r (kd := kd) hm.2 (by omega : 0 ≤ i ∧ i ≤ 2) (by omega : 0 ≤ j ∧ j ≤ 2)
        have hmn := mn_r hm
        obtain ⟨co, hcoe⟩ : ∃ x, x = zCo kd (J 31) i j := ⟨_, rfl⟩
        rw [← hcoe] at hco hcr
        refine x_codeAt (pc := 101) (p := p) (q := 0) (kx := kd) (kd := kd) (y := y) (sh := sh) (fr := 0) (i := i) (j := j) (w := (J 31))  (z := co) (hpo.mono (fun a e z => (hc.2.2 a e z).1)) (by omega) (by omega) (by rw [hcoe]; unfold xCo; rw [if_neg (by omega), if_neg (by omega)]) ⟨Nat.le_of_ble_eq_true rfl, Nat.le_of_ble_eq_true rfl⟩ ⟨Nat.le_of_ble_eq_true rfl, Nat.le_of_ble_eq_true rfl⟩ (Nat.le_of_ble_eq_true rfl) dX0_base_101 ?_
        refine ga_istore (pc := 104) (L1 := [some (.ref (ad 0)), some (.int (iI e)), some (.int (iI u)), some (.int (iI i)), some (.int (iI j)), some (.int (iI part)), some (.ref p), some (.int (iI co))]) dX0_base_104 rfl (by decide) rfl ?_
        refine ga_iload (pc := 106) dX0_base_106 rfl ?_
        refine k_J3_abs_X0 (pc := 108) (a := co) (by omega) (rfl) ⟨Nat.le_of_ble_eq_true rfl, Nat.le_of_ble_eq_true rfl⟩ ⟨Nat.le_of_ble_eq_true rfl, Nat.le_of_ble_eq_true rfl⟩ (Nat.le_of_ble_eq_true rfl) dX0_base_108 ?_
        refine ga_iload_n (pc := 111) dX0_base_111 rfl ?_
        refine ga_iconst (pc := 112) dX0_base_112 ?_
        refine ga_iadd (pc := 113) dX0_base_113 ?_
        refine ga_icmp_ne (pc := 114) (tgt := 136) dX0_base_114 rfl (by omega) (by omega) (fun c114 => ?_) (fun c114 => ?_)
        · skip
          refine ga_aload_n (pc := 136) dX0_base_136 rfl ?_
          refine ga_iload (pc := 137) dX0_base_137 rfl ?_
          refine ga_iload_n (pc := 139) dX0_base_139 rfl ?_
          refine ga_iconst (pc := 140) dX0_base_140 ?_
          refine ga_iload (pc := 141) dX0_base_141 rfl ?_
          refine k_X0_bound (pc := 143) (code := co) (col := u) (less := 1) (part := part) (z := cBn (g6) (f6) (((zSy (J 30) (J 31) E kd kd sh 0).2.2.2.1)) co u 1 part) hc (show (-10 ≤ co ∧ co ≤ 10) ∧ (0 ≤ u ∧ u ≤ 9) ∧ (1 = 0 ∨ 1 = 1) ∧ (part = 0 ∨ part = 1) from by omega) (show co ≠ 0 → -1 ≤ g6 ((co.natAbs : Int) - 1) ∧ g6 ((co.natAbs : Int) - 1) ≤ 9 from fun z => by rw [hg6 _ (by omega) (by omega)]; have := hD2.2.2.1 ((co.natAbs : Int) - 1); omega) (show co ≠ 0 → 0 ≤ g6 ((co.natAbs : Int) - 1) → z40 (f6 (10 * g6 ((co.natAbs : Int) - 1) + u)) from fun z z2 => by rw [hg6 _ (by omega) (by omega)] at z2 ⊢; have := hD2.2.2.1 ((co.natAbs : Int) - 1); rw [hf6 _ _ z2 this.2 (by omega) (by omega)]; exact hD2.1 _ _ z2 this.2 (by omega) (by omega)) (show z40 (((zSy (J 30) (J 31) E kd kd sh 0).2.2.2.1)) ∧ ((zSy (J 30) (J 31) E kd kd sh 0).2.2.2.1) ≠ 0 from ⟨hD2.2.1.2, hD2.2.1.1⟩) (rfl) ⟨Nat.le_of_ble_eq_true rfl, Nat.le_of_ble_eq_true rfl⟩ ⟨Nat.le_of_ble_eq_true rfl, Nat.le_of_ble_eq_true rfl⟩ (Nat.le_of_ble_eq_true rfl) dX0_base_143 (fun h hc => ?_)
          exact cc_lret hc hE dX0_base_146 (⟨_, rfl, by dsimp only; refine ⟨by rw [if_pos hv, if_pos hD.2.2.2.2.1, if_pos hub, ← cBn_bas (f := f6) (g := g6) hkd hm hD.2.2.2.2.1.1 (by omega) (by omega) hf6 hg6 (zSy_b hm).2 hD2.2.1.1 (by omega) ⟨by omega, hub.1⟩ hub.2, ← hcoe]; rw [if_neg (by omega)], ?_⟩; exact ((((((cSam.refl J B).uJ (by decide)).uJ (by decide)).uJ (by decide)).uJ (by decide)).uJ (by decide)).uB (by decide) |>.uB (by decide)⟩)
        · skip
          refine ga_iload (pc := 117) dX0_base_117 rfl ?_
          refine ga_iconst (pc := 119) dX0_base_119 ?_
          refine ga_icmp_eq (pc := 120) (tgt := 128) dX0_base_120 rfl (by omega) (by omega) (fun c120 => ?_) (fun c120 => ?_)
          · skip
            refine ga_lconst (pc := 128) 1 dX0_base_128 rfl ?_
            refine ga_goto (pc := 129) (tgt := 135) dX0_base_129 rfl ?_
            exact cc_lret hc hE dX0_base_135 (⟨_, rfl, by dsimp only; refine ⟨by rw [if_pos hv, if_pos hD.2.2.2.2.1, if_pos hub, ← cBn_bas (f := f6) (g := g6) hkd hm hD.2.2.2.2.1.1 (by omega) (by omega) hf6 hg6 (zSy_b hm).2 hD2.2.1.1 (by omega) ⟨by omega, hub.1⟩ hub.2, ← hcoe]; rw [if_pos (by omega)]; rw [if_pos (by omega)], ?_⟩; exact ((((((cSam.refl J B).uJ (by decide)).uJ (by decide)).uJ (by decide)).uJ (by decide)).uJ (by decide)).uB (by decide) |>.uB (by decide)⟩)
          · skip
            refine ga_iload (pc := 123) dX0_base_123 rfl ?_
            refine ga_if_le (pc := 125) (tgt := 132) dX0_base_125 rfl (by omega) (fun c125 => ?_) (fun c125 => ?_)
            · skip
              refine ga_ldc2 (pc := 132) (-1) dX0_base_132 q704 rfl ?_
              exact cc_lret hc hE dX0_base_135 (⟨_, rfl, by dsimp only; refine ⟨by rw [if_pos hv, if_pos hD.2.2.2.2.1, if_pos hub, ← cBn_bas (f := f6) (g := g6) hkd hm hD.2.2.2.2.1.1 (by omega) (by omega) hf6 hg6 (zSy_b hm).2 hD2.2.1.1 (by omega) ⟨by omega, hub.1⟩ hub.2, ← hcoe]; rw [if_pos (by omega)]; rw [if_neg (by omega)], ?_⟩; exact ((((((cSam.refl J B).uJ (by decide)).uJ (by decide)).uJ (by decide)).uJ (by decide)).uJ (by decide)).uB (by decide) |>.uB (by decide)⟩)
            · skip
              refine ga_lconst (pc := 128) 1 dX0_base_128 rfl ?_
              refine ga_goto (pc := 129) (tgt := 135) dX0_base_129 rfl ?_
              exact cc_lret hc hE dX0_base_135 (⟨_, rfl, by dsimp only; refine ⟨by rw [if_pos hv, if_pos hD.2.2.2.2.1, if_pos hub, ← cBn_bas (f := f6) (g := g6) hkd hm hD.2.2.2.2.1.1 (by omega) (by omega) hf6 hg6 (zSy_b hm).2 hD2.2.1.1 (by omega) ⟨by omega, hub.1⟩ hub.2, ← hcoe]; rw [if_pos (by omega)]; rw [if_pos (by omega)], ?_⟩; exact ((((((cSam.refl J B).uJ (by decide)).uJ (by decide)).uJ (by decide)).uJ (by decide)).uJ (by decide)).uB (by decide) |>.uB (by decide)⟩)
      · skip
        refine ga_bipush (pc := 83) dX0_base_83 rfl ?_
        refine k_X0_far (pc := 85) (a := (-3)) (by omega) (rfl) ⟨Nat.le_of_ble_eq_true rfl, Nat.le_of_ble_eq_true rfl⟩ ⟨Nat.le_of_ble_eq_true rfl, Nat.le_of_ble_eq_true rfl⟩ (Nat.le_of_ble_eq_true rfl) dX0_base_85 ?_
        exact cc_lret hc hE dX0_base_88 (⟨_, rfl, by dsimp only; refine ⟨by rw [if_pos hv, if_pos hD.2.2.2.2.1, if_neg (fun z => by rw [if_pos z] at hbt2; omega)]; omega, ?_⟩; exact ((((((cSam.refl J B).uJ (by decide)).uJ (by decide)).uJ (by decide)).uJ (by decide)).uJ (by decide)).uB (by decide) |>.uB (by decide)⟩)
    · skip
      refine ga_bipush (pc := 64) dX0_base_64 rfl ?_
      refine k_X0_far (pc := 66) (a := (-4)) (by omega) (rfl) ⟨Nat.le_of_ble_eq_true rfl, Nat.le_of_ble_eq_true rfl⟩ ⟨Nat.le_of_ble_eq_true rfl, Nat.le_of_ble_eq_true rfl⟩ (Nat.le_of_ble_eq_true rfl) dX0_base_66 ?_
      exact cc_lret hc hE dX0_base_69 (⟨_, rfl, by dsimp only; exact ⟨by rw [if_pos hv, if_neg (fun z => by have := (zFit_i hm hkd).mp z; omega)]; omega, cSam.refl _ _⟩⟩)
  refine k_X0_isEquation (pc := 2) (e := e) hc (by first | exact hq | omega) (by first | exact h1 | omega) (rfl) ⟨Nat.le_of_ble_eq_true rfl, Nat.le_of_ble_eq_true rfl⟩ ⟨Nat.le_of_ble_eq_true rfl, Nat.le_of_ble_eq_true rfl⟩ (Nat.le_of_ble_eq_true rfl) dX0_base_2 (fun h hc => ?_)
  refine ga_ifb_eq (pc := 5) (tgt := 42) dX0_base_5 rfl (fun c5 => ?_) (fun c5 => ?_)
  · skip
    refine ga_iconst (pc := 42) dX0_base_42 ?_
    refine k_X0_far (pc := 43) (a := (-1)) (by omega) (rfl) ⟨Nat.le_of_ble_eq_true rfl, Nat.le_of_ble_eq_true rfl⟩ ⟨Nat.le_of_ble_eq_true rfl, Nat.le_of_ble_eq_true rfl⟩ (Nat.le_of_ble_eq_true rfl) dX0_base_43 ?_
    exact cc_lret hc hE dX0_base_46 (⟨_, rfl, by dsimp only; exact ⟨by rw [if_neg (by unfold cPrt; omega)]; omega, cSam.refl _ _⟩⟩)
  · skip
    refine ga_iload_n (pc := 8) dX0_base_8 rfl ?_
    refine ga_iconst (pc := 9) dX0_base_9 ?_
    refine ga_bipush (pc := 10) dX0_base_10 rfl ?_
    refine k_X0_isIn (pc := 12) (a := u) (b := 0) (e := 8) (by omega) (rfl) ⟨Nat.le_of_ble_eq_true rfl, Nat.le_of_ble_eq_true rfl⟩ ⟨Nat.le_of_ble_eq_true rfl, Nat.le_of_ble_eq_true rfl⟩ (Nat.le_of_ble_eq_true rfl) dX0_base_12 ?_
    refine ga_ifb_eq (pc := 15) (tgt := 42) dX0_base_15 rfl (fun c15 => ?_) (fun c15 => ?_)
    · skip
      refine ga_iconst (pc := 42) dX0_base_42 ?_
      refine k_X0_far (pc := 43) (a := (-1)) (by omega) (rfl) ⟨Nat.le_of_ble_eq_true rfl, Nat.le_of_ble_eq_true rfl⟩ ⟨Nat.le_of_ble_eq_true rfl, Nat.le_of_ble_eq_true rfl⟩ (Nat.le_of_ble_eq_true rfl) dX0_base_43 ?_
      exact cc_lret hc hE dX0_base_46 (⟨_, rfl, by dsimp only; exact ⟨by rw [if_neg (by unfold cPrt; omega)]; omega, cSam.refl _ _⟩⟩)
    · skip
      refine ga_aload_n (pc := 18) dX0_base_18 rfl ?_
      refine cc_g_now (pc := 19) hc dX0_base_19 ?_
      refine ga_getN (pc := 22) (C := RX4) (T := TX4) (N := 5) (v := .ref (ad 9)) in_X4 rfl (hc.1 4 (by decide)) 4 (by decide) (ga_nt q318 rfl) rfl rfl dX0_base_22 ?_
      refine ga_iload_n (pc := 25) dX0_base_25 rfl ?_
      refine ga_iload (pc := 26) dX0_base_26 rfl ?_
      refine k_X5_has_X0 (pc := 28) (b := (ad 9)) (e := (ad 18)) (ro := (J 30)) (co := (J 31)) (i := i) (j := j) (f := (B 2)) (hc.1 9 (by decide)) (hc.1 18 (by decide)) (by first | exact hrc | omega) (by first | exact h1 | omega) (rfl) ⟨Nat.le_of_ble_eq_true rfl, Nat.le_of_ble_eq_true rfl⟩ ⟨Nat.le_of_ble_eq_true rfl, Nat.le_of_ble_eq_true rfl⟩ (Nat.le_of_ble_eq_true rfl) dX0_base_28 ?_
      refine ga_ifb_eq (pc := 31) (tgt := 42) dX0_base_31 rfl (fun c31 => ?_) (fun c31 => ?_)
      · skip
        refine ga_iconst (pc := 42) dX0_base_42 ?_
        refine k_X0_far (pc := 43) (a := (-1)) (by omega) (rfl) ⟨Nat.le_of_ble_eq_true rfl, Nat.le_of_ble_eq_true rfl⟩ ⟨Nat.le_of_ble_eq_true rfl, Nat.le_of_ble_eq_true rfl⟩ (Nat.le_of_ble_eq_true rfl) dX0_base_43 ?_
        exact cc_lret hc hE dX0_base_46 (⟨_, rfl, by dsimp only; exact ⟨by rw [if_neg (by unfold cPrt; omega)]; omega, cSam.refl _ _⟩⟩)
      · skip
        refine ga_iload (pc := 34) dX0_base_34 rfl ?_
        refine k_X0_isPart (pc := 36) (a := part) (by omega) (rfl) ⟨Nat.le_of_ble_eq_true rfl, Nat.le_of_ble_eq_true rfl⟩ ⟨Nat.le_of_ble_eq_true rfl, Nat.le_of_ble_eq_true rfl⟩ (Nat.le_of_ble_eq_true rfl) dX0_base_36 ?_
        refine ga_ifb_ne (pc := 39) (tgt := 47) dX0_base_39 rfl (fun c39 => ?_) (fun c39 => ?_)
        · skip
          obtain ⟨hqe, hp, hkd, hsh⟩ := hq (by omega) (by omega)
          have hpo := pOn.of hkd hp
          exact jn47 h hc (by omega)
        · skip
          refine ga_iconst (pc := 42) dX0_base_42 ?_
          refine k_X0_far (pc := 43) (a := (-1)) (by omega) (rfl) ⟨Nat.le_of_ble_eq_true rfl, Nat.le_of_ble_eq_true rfl⟩ ⟨Nat.le_of_ble_eq_true rfl, Nat.le_of_ble_eq_true rfl⟩ (Nat.le_of_ble_eq_true rfl) dX0_base_43 ?_
          exact cc_lret hc hE dX0_base_46 (⟨_, rfl, by dsimp only; exact ⟨by rw [if_neg (by unfold cPrt; omega)]; omega, cSam.refl _ _⟩⟩)
