/-! THE REFERENCE: acts -/
abbrev zRs : Type := Int × (Int → Int)
def zRan (b : Int) (t : zRs) : zRs := if t.1 < 30 then (t.1 + 1, uZ t.2 t.1 b) else t
theorem zRan_r (b : Int) {t : zRs} (h : 0 ≤ t.1 ∧ t.1 ≤ 30) : 0 ≤ (zRan b t).1 ∧ (zRan b t).1 ≤ 30 := by
  unfold zRan
  split
  · exact ⟨by show 0 ≤ t.1 + 1; omega, by show t.1 + 1 ≤ 30; omega⟩
  · exact h
abbrev zM (x : Int) : Int := x.bmod 4294967296
theorem zM_r (x : Int) : zI32 (zM x) := (bm_r x).2.2
theorem zxor_r (a b : Int) : zI32 (zxor a b) := iI_r _
def zPw (y x : Int) : Int := zM (x * 7 + y)
def zTw (y x : Int) : Int := zM (zPw y (x - 1) * 2)
def zTwr (t : zRs) : zRs := zRan 10 (zRan 40 t)
def zWe (kd y sh x : Int) : Int := if kd = 1 then zM (zPw y x + 4) else if kd = 3 ∨ kd = 5 then zTw y x else if kd = 6 then zxor (zTw y x) sh else zPw y x
def zWr (kd : Int) (t : zRs) : zRs := if kd = 1 then zRan 10 (zRan 20 t) else if kd = 3 ∨ kd = 5 then zTwr t else if kd = 6 then zTwr (zRan 70 t) else zRan 10 t
def zPt (kd y sh x : Int) : Int := zM (zWe kd y sh x - sh)
def zPr (kd : Int) (t : zRs) : zRs := zWr kd (zRan 11 t)
def zAt (kd y sh x : Int) : Int := zM (0 - zPt kd y sh x)
def zAr (kd : Int) (t : zRs) : zRs := zPr kd (zRan 30 t)
def zTu (kd y sh x : Int) : Int := if kd = 4 then zxor (zAt kd y sh (x + sh)) 3 else if kd = 2 then zAt kd y sh x else zPt kd y sh x
def zTr (kd : Int) (t : zRs) : zRs := if kd = 4 then zAr kd (zRan 50 t) else if kd = 2 then zAr kd t else zPr kd t
abbrev zOw (kd : Int) : Prop := kd = 3 ∨ 5 ≤ kd
def zDv (y sh x : Int) : Int := zM (if y - sh = -1 then 0 - x else x.tdiv (y - sh))
def zPa (kd y sh x : Int) : Int := if y = sh then 0 else if zOw kd then zM (zDv y sh x - zWe kd y sh y) else zDv y sh x
def zQr (kd y sh : Int) (t : zRs) : zRs := if y = sh then zRan 12 (if zOw kd then zRan 41 t else t) else if zOw kd then zWr kd (zRan 12 (zRan 41 t)) else zRan 12 t
def zPc (kd y sh x : Int) : Int := zxor (zTu kd y sh x) (zPa kd y sh (zM (x + 2)))
def zPcr (kd y sh : Int) (t : zRs) : zRs := zQr kd y sh (zTr kd (zRan 13 t))
def zEc (kd y sh x : Int) : Int := if y = sh then 0 else zM (zPc kd y sh x + zTu kd y sh 1)
def zEcr (kd y sh : Int) (t : zRs) : zRs := if y = sh then zPcr kd y sh (zRan 60 t) else zTr kd (zPcr kd y sh (zRan 60 t))
def zCl (kd y sh x : Int) : Int := if kd = 6 then zM (zEc kd y sh (x * 2) - 5) else if kd = 5 then zEc kd y sh x else zPc kd y sh x
def zClr (kd y sh : Int) (t : zRs) : zRs := if kd = 6 then zEcr kd y sh (zRan 71 t) else if kd = 5 then zEcr kd y sh t else zPcr kd y sh t
theorem zWr_r (kd : Int) {t : zRs} (h : 0 ≤ t.1 ∧ t.1 ≤ 30) : 0 ≤ (zWr kd t).1 ∧ (zWr kd t).1 ≤ 30 := by
  unfold zWr
  by_cases e0 : kd = 1
  · rw [if_pos e0]
    exact zRan_r _ (zRan_r _ h)
  rw [if_neg e0]
  by_cases e1 : kd = 3 ∨ kd = 5
  · rw [if_pos e1]
    exact zRan_r _ (zRan_r _ h)
  rw [if_neg e1]
  by_cases e2 : kd = 6
  · rw [if_pos e2]
    exact zRan_r _ (zRan_r _ (zRan_r _ h))
  rw [if_neg e2]
  exact zRan_r _ h
theorem zPr_r (kd : Int) {t : zRs} (h : 0 ≤ t.1 ∧ t.1 ≤ 30) : 0 ≤ (zPr kd t).1 ∧ (zPr kd t).1 ≤ 30 := zWr_r _ (zRan_r _ h)
theorem zAr_r (kd : Int) {t : zRs} (h : 0 ≤ t.1 ∧ t.1 ≤ 30) : 0 ≤ (zAr kd t).1 ∧ (zAr kd t).1 ≤ 30 := zPr_r _ (zRan_r _ h)
theorem zTr_r (kd : Int) {t : zRs} (h : 0 ≤ t.1 ∧ t.1 ≤ 30) : 0 ≤ (zTr kd t).1 ∧ (zTr kd t).1 ≤ 30 := by
  unfold zTr
  by_cases e0 : kd = 4
  · rw [if_pos e0]
    exact zAr_r _ (zRan_r _ h)
  rw [if_neg e0]
  by_cases e1 : kd = 2
  · rw [if_pos e1]
    exact zAr_r _ h
  rw [if_neg e1]
  exact zPr_r _ h
theorem zQr_r (kd y sh : Int) {t : zRs} (h : 0 ≤ t.1 ∧ t.1 ≤ 30) : 0 ≤ (zQr kd y sh t).1 ∧ (zQr kd y sh t).1 ≤ 30 := by
  have h1 : 0 ≤ (if zOw kd then zRan 41 t else t).1 ∧ (if zOw kd then zRan 41 t else t).1 ≤ 30 := by
    by_cases e : zOw kd
    · rw [if_pos e]; exact zRan_r _ h
    · rw [if_neg e]; exact h
  unfold zQr
  by_cases e0 : y = sh
  · rw [if_pos e0]
    exact zRan_r _ h1
  rw [if_neg e0]
  by_cases e1 : zOw kd
  · rw [if_pos e1]
    exact zWr_r _ (zRan_r _ (zRan_r _ h))
  rw [if_neg e1]
  exact zRan_r _ h
theorem zPcr_r (kd y sh : Int) {t : zRs} (h : 0 ≤ t.1 ∧ t.1 ≤ 30) : 0 ≤ (zPcr kd y sh t).1 ∧ (zPcr kd y sh t).1 ≤ 30 := zQr_r _ _ _ (zTr_r _ (zRan_r _ h))
theorem zEcr_r (kd y sh : Int) {t : zRs} (h : 0 ≤ t.1 ∧ t.1 ≤ 30) : 0 ≤ (zEcr kd y sh t).1 ∧ (zEcr kd y sh t).1 ≤ 30 := by
  unfold zEcr
  split
  · exact zPcr_r _ _ _ (zRan_r _ h)
  · exact zTr_r _ (zPcr_r _ _ _ (zRan_r _ h))
theorem zClr_r (kd y sh : Int) {t : zRs} (h : 0 ≤ t.1 ∧ t.1 ≤ 30) : 0 ≤ (zClr kd y sh t).1 ∧ (zClr kd y sh t).1 ≤ 30 := by
  unfold zClr
  by_cases e0 : kd = 6
  · rw [if_pos e0]
    exact zEcr_r _ _ _ (zRan_r _ h)
  rw [if_neg e0]
  by_cases e1 : kd = 5
  · rw [if_pos e1]
    exact zEcr_r _ _ _ h
  rw [if_neg e1]
  exact zPcr_r _ _ _ h
theorem zWe_r (kd y sh x : Int) : zI32 (zWe kd y sh x) := by
  unfold zWe zTw zPw
  (repeat' split) <;> first | exact zM_r _ | exact zxor_r _ _
theorem zPt_r (kd y sh x : Int) : zI32 (zPt kd y sh x) := zM_r _
theorem zAt_r (kd y sh x : Int) : zI32 (zAt kd y sh x) := zM_r _
theorem zTu_r (kd y sh x : Int) : zI32 (zTu kd y sh x) := by
  unfold zTu
  (repeat' split) <;> first | exact zxor_r _ _ | exact zAt_r _ _ _ _ | exact zPt_r _ _ _ _
theorem zDv_r (y sh x : Int) : zI32 (zDv y sh x) := zM_r _
theorem zPa_r (kd y sh x : Int) : zI32 (zPa kd y sh x) := by
  unfold zPa
  (repeat' split)
  · exact ⟨by decide, by decide⟩
  · exact zM_r _
  · exact zDv_r _ _ _
theorem zPc_r (kd y sh x : Int) : zI32 (zPc kd y sh x) := zxor_r _ _
theorem zEc_r (kd y sh x : Int) : zI32 (zEc kd y sh x) := by
  unfold zEc
  split
  · exact ⟨by decide, by decide⟩
  · exact zM_r _
theorem zCl_r (kd y sh x : Int) : zI32 (zCl kd y sh x) := by
  unfold zCl
  (repeat' split) <;> first | exact zM_r _ | exact zEc_r _ _ _ _ | exact zPc_r _ _ _ _
set_option maxHeartbeats 4000000 in
set_option maxRecDepth 100000 in
theorem m_X8_ran (l : Launch) (D : ga_G) (mo : Nat) (ad : Nat → Nat) (I : Nat → Int) (A : Nat → Int → Int) (b : Int) (t : zRs) (htt : I 42 = t.1 ∧ A 41 = t.2) (ht : 0 ≤ t.1 ∧ t.1 ≤ 30) : mM l D yX8_ran (ws_ yX8_ran cX8_ran 2 none) (gR 0) [.int (iI b)] mo ad I A (mV (fun I1 A1 => I1 = (uN I 42 ((zRan b t).1)) ∧ A1 = (uN A 41 ((zRan b t).2)))) := by
  refine mm_met 0 rfl (Nat.le_of_ble_eq_true rfl) (L0 := [some (.ref mo), some (.int (iI b))]) rfl (fun X ok hE => ?_)
  have e42 := htt.1
  refine ga_aload_n (pc := 0) dX8_ran_0 rfl ?_
  refine mm_g42 (pc := 1) (z := I 42) rfl dX8_ran_1 ?_
  refine ga_bipush (pc := 4) dX8_ran_4 rfl ?_
  refine ga_icmp_ge (pc := 6) (tgt := 29) dX8_ran_6 rfl (by omega) (by omega) (fun c6 => ?_) (fun c6 => ?_)
  · skip
    exact mm_vret hE dX8_ran_29 (⟨rfl, by funext j; by_cases e0 : j = 42; (subst e0; exact (show (I 42) = ((zRan b t).1) from by unfold zRan; first | (rw [if_pos (by omega), htt.1]; done) | (rw [if_neg (by omega)]; first | rfl | exact htt.1 | exact htt.1.symm))); simp only [uN, if_neg e0], by funext j; by_cases e0 : j = 41; (subst e0; exact (show (A 41) = ((zRan b t).2) from by unfold zRan; first | (rw [if_pos (by omega), htt.1, htt.2]; done) | (rw [if_neg (by omega)]; first | rfl | exact htt.2 | exact htt.2.symm))); simp only [uN, if_neg e0]⟩)
  · skip
    refine ga_aload_n (pc := 9) dX8_ran_9 rfl ?_
    refine mm_g41 (pc := 10) dX8_ran_10 ?_
    refine ga_aload_n (pc := 13) dX8_ran_13 rfl ?_
    refine mm_g42 (pc := 14) (z := I 42) rfl dX8_ran_14 ?_
    refine ga_iload_n (pc := 17) dX8_ran_17 rfl ?_
    refine mm_ast41 (pc := 18) (f := A 41) (A1 := (uN A 41 (uZ (A 41) (I 42) b))) ok (by omega) rfl (rfl) dX8_ran_18 ?_
    refine ga_aload_n (pc := 19) dX8_ran_19 rfl ?_
    refine ga_dup (pc := 20) dX8_ran_20 rfl ?_
    refine mm_g42 (pc := 21) (z := I 42) rfl dX8_ran_21 ?_
    refine ga_iconst (pc := 24) dX8_ran_24 ?_
    refine ga_iadd (pc := 25) dX8_ran_25 ?_
    refine mm_p42 (pc := 26) (I1 := (uN I 42 ((I 42) + 1))) (rfl) dX8_ran_26 ?_
    exact mm_vret hE dX8_ran_29 (⟨rfl, by funext j; by_cases e0 : j = 42; (subst e0; exact (show ((I 42) + 1) = ((zRan b t).1) from by unfold zRan; first | (rw [if_pos (by omega), htt.1]; done) | (rw [if_neg (by omega)]; first | rfl | exact htt.1 | exact htt.1.symm))); simp only [uN, if_neg e0], by funext j; by_cases e0 : j = 41; (subst e0; exact (show (uZ (A 41) (I 42) b) = ((zRan b t).2) from by unfold zRan; first | (rw [if_pos (by omega), htt.1, htt.2]; done) | (rw [if_neg (by omega)]; first | rfl | exact htt.2 | exact htt.2.symm))); simp only [uN, if_neg e0]⟩)
theorem k_X8_ran {X : ga_X} {nL : Nat} {cc : ByteArray} {mo : Nat} {ad : Nat → Nat} {I : Nat → Int} {A : Nat → Int → Int} {d pc : Nat} {L : List (Option Value)} {st : List Value} {b : Int} {t : zRs}  {I2 : Nat → Int} {A2 : Nat → Int → Int} (ok : mOk mo ad) (htt : I 42 = t.1 ∧ A 41 = t.2) (ht : 0 ≤ t.1 ∧ t.1 ≤ 30)  (hI2 : (uN I 42 ((zRan b t).1)) = I2) (hA2 : (uN A 41 ((zRan b t).2)) = A2) (hR : 0 + 1 ≤ d ∧ 19 + 2 + 64 * 0 ≤ 64 * d) (hs : (st.map fun v => v.category).sum ≤ 8) (dd : decode cc pc = .ok (.invokevirtual 351, 3)) (kk : G X (gR d) RX8 nL cc (mH mo ad I2 A2) 0 0 (pc + 3) L st) : G X (gR d) RX8 nL cc (mH mo ad I A) 0 0 pc L (.int (iI b) :: .ref mo :: st) :=
  mm_run ok (m_X8_ran _ _ mo ad I A b t htt ht) (lw_V q2089 q2091 qs89 q113 q2092) rfl (show ga_nn' yX8_ran 1 from (by unfold ga_nn'; decide +kernel)) hR hs dd rfl (fun v I1 A1 hp => by
    obtain ⟨rfl, hp⟩ := hp
    obtain ⟨rfl, rfl⟩ := hp
    subst hI2
    subst hA2
    exact kk)
set_option maxHeartbeats 4000000 in
set_option maxRecDepth 100000 in
theorem m_X8_plainWeighs (l : Launch) (D : ga_G) (mo : Nat) (ad : Nat → Nat) (I : Nat → Int) (A : Nat → Int → Int) (x : Int) (t : zRs) (htt : I 42 = t.1 ∧ A 41 = t.2) (ht : 0 ≤ t.1 ∧ t.1 ≤ 30) : mM l D yX8_plainWeighs (ws_ yX8_plainWeighs cX8_plainWeighs 2 (some .int)) (gR 1) [.int (iI x)] mo ad I A (mI (fun r I1 A1 => r = (zPw (I 44) x) ∧ I1 = (uN I 42 ((zRan 10 t).1)) ∧ A1 = (uN A 41 ((zRan 10 t).2)))) := by
  refine mm_met 0 rfl (Nat.le_of_ble_eq_true rfl) (L0 := [some (.ref mo), some (.int (iI x))]) rfl (fun X ok hE => ?_)
  refine ga_aload_n (pc := 0) dX8_plainWeighs_0 rfl ?_
  refine ga_bipush (pc := 1) dX8_plainWeighs_1 rfl ?_
  refine k_X8_ran (pc := 3) (b := 10) (t := t) (I2 := (uN I 42 ((zRan 10 t).1))) (A2 := (uN A 41 ((zRan 10 t).2))) ok (htt) (ht) (rfl) (rfl) ⟨Nat.le_of_ble_eq_true rfl, Nat.le_of_ble_eq_true rfl⟩ (Nat.le_of_ble_eq_true rfl) dX8_plainWeighs_3 ?_
  refine ga_iload_n (pc := 6) dX8_plainWeighs_6 rfl ?_
  refine ga_bipush (pc := 7) dX8_plainWeighs_7 rfl ?_
  refine ga_imul (pc := 9) dX8_plainWeighs_9 ?_
  refine ga_aload_n (pc := 10) dX8_plainWeighs_10 rfl ?_
  refine mm_g44 (pc := 11) (z := I 44) rfl dX8_plainWeighs_11 ?_
  refine ga_iadd (pc := 14) dX8_plainWeighs_14 ?_
  refine ga_wi (pc := 15) (b := zM ((x * 7) + (I 44))) (iI_m _) ?_
  exact mm_iret hE dX8_plainWeighs_15 (⟨_, rfl, rfl, rfl, rfl⟩)
theorem k_X8_plainWeighs {X : ga_X} {nL : Nat} {cc : ByteArray} {mo : Nat} {ad : Nat → Nat} {I : Nat → Int} {A : Nat → Int → Int} {d pc : Nat} {L : List (Option Value)} {st : List Value} {x : Int} {t : zRs} {z : Int} {I2 : Nat → Int} {A2 : Nat → Int → Int} (ok : mOk mo ad) (htt : I 42 = t.1 ∧ A 41 = t.2) (ht : 0 ≤ t.1 ∧ t.1 ≤ 30) (hz : (zPw (I 44) x) = z) (hI2 : (uN I 42 ((zRan 10 t).1)) = I2) (hA2 : (uN A 41 ((zRan 10 t).2)) = A2) (hR : 1 + 1 ≤ d ∧ 19 + 2 + 64 * 1 ≤ 64 * d) (hs : (st.map fun v => v.category).sum ≤ 8) (dd : decode cc pc = .ok (.invokevirtual 357, 3)) (kk : G X (gR d) RX8 nL cc (mH mo ad I2 A2) 0 0 (pc + 3) L (.int (iI z) :: st)) : G X (gR d) RX8 nL cc (mH mo ad I A) 0 0 pc L (.int (iI x) :: .ref mo :: st) :=
  mm_run ok (m_X8_plainWeighs _ _ mo ad I A x t htt ht) (lw_V q2093 q2095 qs90 q113 q2096) rfl (show ga_nn' yX8_plainWeighs 1 from (by unfold ga_nn'; decide +kernel)) hR hs dd rfl (fun v I1 A1 hp => by
    obtain ⟨r, rfl, hp⟩ := hp
    obtain ⟨e1, rfl, rfl⟩ := hp
    subst hz
    subst hI2
    subst hA2
    rw [e1]
    exact kk)
set_option maxHeartbeats 4000000 in
set_option maxRecDepth 100000 in
theorem m_X8_turnedWeighs (l : Launch) (D : ga_G) (mo : Nat) (ad : Nat → Nat) (I : Nat → Int) (A : Nat → Int → Int) (x : Int) (t : zRs) (htt : I 42 = t.1 ∧ A 41 = t.2) (ht : 0 ≤ t.1 ∧ t.1 ≤ 30) : mM l D yX8_turnedWeighs (ws_ yX8_turnedWeighs cX8_turnedWeighs 2 (some .int)) (gR 2) [.int (iI x)] mo ad I A (mI (fun r I1 A1 => r = (zTw (I 44) x) ∧ I1 = (uN I 42 ((zTwr t).1)) ∧ A1 = (uN A 41 ((zTwr t).2)))) := by
  refine mm_met 0 rfl (Nat.le_of_ble_eq_true rfl) (L0 := [some (.ref mo), some (.int (iI x))]) rfl (fun X ok hE => ?_)
  refine ga_aload_n (pc := 0) dX8_turnedWeighs_0 rfl ?_
  refine ga_bipush (pc := 1) dX8_turnedWeighs_1 rfl ?_
  refine k_X8_ran (pc := 3) (b := 40) (t := t) (I2 := (uN I 42 ((zRan 40 t).1))) (A2 := (uN A 41 ((zRan 40 t).2))) ok (htt) (ht) (rfl) (rfl) ⟨Nat.le_of_ble_eq_true rfl, Nat.le_of_ble_eq_true rfl⟩ (Nat.le_of_ble_eq_true rfl) dX8_turnedWeighs_3 ?_
  refine ga_aload_n (pc := 6) dX8_turnedWeighs_6 rfl ?_
  refine ga_iload_n (pc := 7) dX8_turnedWeighs_7 rfl ?_
  refine ga_iconst (pc := 8) dX8_turnedWeighs_8 ?_
  refine ga_isub (pc := 9) dX8_turnedWeighs_9 ?_
  refine k_X8_plainWeighs (pc := 10) (x := (x - 1)) (t := (zRan 40 t)) (z := zPw ((I 44)) (x - 1)) (I2 := (uN I 42 ((zRan 10 (zRan 40 t)).1))) (A2 := (uN A 41 ((zRan 10 (zRan 40 t)).2))) ok (show ((zRan 40 t).1) = (zRan 40 t).1 ∧ ((zRan 40 t).2) = (zRan 40 t).2 from ⟨rfl, rfl⟩) (show 0 ≤ (zRan 40 t).1 ∧ (zRan 40 t).1 ≤ 30 from zRan_r _ ht) (rfl) (by funext j; by_cases e0 : j = 42; (subst e0; rfl); simp only [uN, if_neg e0]) (by funext j; by_cases e0 : j = 41; (subst e0; rfl); simp only [uN, if_neg e0]) ⟨Nat.le_of_ble_eq_true rfl, Nat.le_of_ble_eq_true rfl⟩ (Nat.le_of_ble_eq_true rfl) dX8_turnedWeighs_10 ?_
  refine ga_iconst (pc := 13) dX8_turnedWeighs_13 ?_
  refine ga_imul (pc := 14) dX8_turnedWeighs_14 ?_
  refine ga_wi (pc := 15) (b := zM ((zPw ((I 44)) (x - 1)) * 2)) (iI_m _) ?_
  exact mm_iret hE dX8_turnedWeighs_15 (⟨_, rfl, rfl, by funext j; by_cases e0 : j = 42; (subst e0; rfl); simp only [uN, if_neg e0], by funext j; by_cases e0 : j = 41; (subst e0; rfl); simp only [uN, if_neg e0]⟩)
theorem k_X8_turnedWeighs {X : ga_X} {nL : Nat} {cc : ByteArray} {mo : Nat} {ad : Nat → Nat} {I : Nat → Int} {A : Nat → Int → Int} {d pc : Nat} {L : List (Option Value)} {st : List Value} {x : Int} {t : zRs} {z : Int} {I2 : Nat → Int} {A2 : Nat → Int → Int} (ok : mOk mo ad) (htt : I 42 = t.1 ∧ A 41 = t.2) (ht : 0 ≤ t.1 ∧ t.1 ≤ 30) (hz : (zTw (I 44) x) = z) (hI2 : (uN I 42 ((zTwr t).1)) = I2) (hA2 : (uN A 41 ((zTwr t).2)) = A2) (hR : 2 + 1 ≤ d ∧ 19 + 2 + 64 * 2 ≤ 64 * d) (hs : (st.map fun v => v.category).sum ≤ 8) (dd : decode cc pc = .ok (.invokevirtual 363, 3)) (kk : G X (gR d) RX8 nL cc (mH mo ad I2 A2) 0 0 (pc + 3) L (.int (iI z) :: st)) : G X (gR d) RX8 nL cc (mH mo ad I A) 0 0 pc L (.int (iI x) :: .ref mo :: st) :=
  mm_run ok (m_X8_turnedWeighs _ _ mo ad I A x t htt ht) (lw_V q2097 q2099 qs91 q113 q2100) rfl (show ga_nn' yX8_turnedWeighs 1 from (by unfold ga_nn'; decide +kernel)) hR hs dd rfl (fun v I1 A1 hp => by
    obtain ⟨r, rfl, hp⟩ := hp
    obtain ⟨e1, rfl, rfl⟩ := hp
    subst hz
    subst hI2
    subst hA2
    rw [e1]
    exact kk)
set_option maxHeartbeats 4000000 in
set_option maxRecDepth 100000 in
theorem m_X8_weighs (l : Launch) (D : ga_G) (mo : Nat) (ad : Nat → Nat) (I : Nat → Int) (A : Nat → Int → Int) (x : Int) (t : zRs) (htt : I 42 = t.1 ∧ A 41 = t.2) (ht : 0 ≤ t.1 ∧ t.1 ≤ 30) (hkd : (0 ≤ I 43 ∧ I 43 ≤ 6) ∧ (0 ≤ I 44 ∧ I 44 ≤ 5) ∧ -2 ≤ I 45 ∧ I 45 ≤ 2) : mM l D yX8_weighs (ws_ yX8_weighs cX8_weighs 2 (some .int)) (gR 3) [.int (iI x)] mo ad I A (mI (fun r I1 A1 => r = (zWe (I 43) (I 44) (I 45) x) ∧ I1 = (uN I 42 ((zWr (I 43) t).1)) ∧ A1 = (uN A 41 ((zWr (I 43) t).2)))) := by
  refine mm_met 0 rfl (Nat.le_of_ble_eq_true rfl) (L0 := [some (.ref mo), some (.int (iI x))]) rfl (fun X ok hE => ?_)
  refine ga_aload_n (pc := 0) dX8_weighs_0 rfl ?_
  refine mm_g43 (pc := 1) (z := I 43) rfl dX8_weighs_1 ?_
  by_cases c4_0 : I 43 = 1
  · refine ga_tabIn (pc := 4) (tgt := 44) 0 dX8_weighs_4 (by omega) (by omega) (by decide) rfl rfl ?_
    refine ga_aload_n (pc := 44) dX8_weighs_44 rfl ?_
    refine ga_bipush (pc := 45) dX8_weighs_45 rfl ?_
    refine k_X8_ran (pc := 47) (b := 20) (t := t) (I2 := (uN I 42 ((zRan 20 t).1))) (A2 := (uN A 41 ((zRan 20 t).2))) ok (htt) (ht) (rfl) (rfl) ⟨Nat.le_of_ble_eq_true rfl, Nat.le_of_ble_eq_true rfl⟩ (Nat.le_of_ble_eq_true rfl) dX8_weighs_47 ?_
    refine ga_aload_n (pc := 50) dX8_weighs_50 rfl ?_
    refine ga_iload_n (pc := 51) dX8_weighs_51 rfl ?_
    refine k_X8_plainWeighs (pc := 52) (x := x) (t := (zRan 20 t)) (z := zPw ((I 44)) x) (I2 := (uN I 42 ((zRan 10 (zRan 20 t)).1))) (A2 := (uN A 41 ((zRan 10 (zRan 20 t)).2))) ok (show ((zRan 20 t).1) = (zRan 20 t).1 ∧ ((zRan 20 t).2) = (zRan 20 t).2 from ⟨rfl, rfl⟩) (show 0 ≤ (zRan 20 t).1 ∧ (zRan 20 t).1 ≤ 30 from zRan_r _ ht) (rfl) (by funext j; by_cases e0 : j = 42; (subst e0; rfl); simp only [uN, if_neg e0]) (by funext j; by_cases e0 : j = 41; (subst e0; rfl); simp only [uN, if_neg e0]) ⟨Nat.le_of_ble_eq_true rfl, Nat.le_of_ble_eq_true rfl⟩ (Nat.le_of_ble_eq_true rfl) dX8_weighs_52 ?_
    refine ga_iconst (pc := 55) dX8_weighs_55 ?_
    refine ga_iadd (pc := 56) dX8_weighs_56 ?_
    refine ga_wi (pc := 57) (b := zM ((zPw ((I 44)) x) + 4)) (iI_m _) ?_
    exact mm_iret hE dX8_weighs_57 (⟨_, rfl, by unfold zWe; first | (rw [if_pos (by omega)]; done) | (rw [if_neg (by omega), if_pos (by omega)]; done) | (rw [if_neg (by omega), if_neg (by omega)]; done) | (rw [if_neg (by omega), if_neg (by omega), if_pos (by omega)]; done) | (rw [if_neg (by omega), if_neg (by omega), if_neg (by omega)]), by funext j; by_cases e0 : j = 42; (subst e0; exact (show ((zRan 10 (zRan 20 t)).1) = ((zWr (I 43) t).1) from by unfold zWr; first | (rw [if_pos (by omega)]; done) | (rw [if_neg (by omega), if_pos (by omega)]; done) | (rw [if_neg (by omega), if_neg (by omega)]; done) | (rw [if_neg (by omega), if_neg (by omega), if_pos (by omega)]; done) | (rw [if_neg (by omega), if_neg (by omega), if_neg (by omega)]))); simp only [uN, if_neg e0], by funext j; by_cases e0 : j = 41; (subst e0; exact (show ((zRan 10 (zRan 20 t)).2) = ((zWr (I 43) t).2) from by unfold zWr; first | (rw [if_pos (by omega)]; done) | (rw [if_neg (by omega), if_pos (by omega)]; done) | (rw [if_neg (by omega), if_neg (by omega)]; done) | (rw [if_neg (by omega), if_neg (by omega), if_pos (by omega)]; done) | (rw [if_neg (by omega), if_neg (by omega), if_neg (by omega)]))); simp only [uN, if_neg e0]⟩)
  by_cases c4_1 : I 43 = 2
  · refine ga_tabIn (pc := 4) (tgt := 81) 1 dX8_weighs_4 (by omega) (by omega) (by decide) rfl rfl ?_
    refine ga_aload_n (pc := 81) dX8_weighs_81 rfl ?_
    refine ga_iload_n (pc := 82) dX8_weighs_82 rfl ?_
    refine k_X8_plainWeighs (pc := 83) (x := x) (t := t) (z := zPw (I 44) x) (I2 := (uN I 42 ((zRan 10 t).1))) (A2 := (uN A 41 ((zRan 10 t).2))) ok (htt) (ht) (rfl) (rfl) (rfl) ⟨Nat.le_of_ble_eq_true rfl, Nat.le_of_ble_eq_true rfl⟩ (Nat.le_of_ble_eq_true rfl) dX8_weighs_83 ?_
    exact mm_iret hE dX8_weighs_86 (⟨_, rfl, by unfold zWe; first | (rw [if_pos (by omega)]; done) | (rw [if_neg (by omega), if_pos (by omega)]; done) | (rw [if_neg (by omega), if_neg (by omega)]; done) | (rw [if_neg (by omega), if_neg (by omega), if_pos (by omega)]; done) | (rw [if_neg (by omega), if_neg (by omega), if_neg (by omega)]), by funext j; by_cases e0 : j = 42; (subst e0; exact (show ((zRan 10 t).1) = ((zWr (I 43) t).1) from by unfold zWr; first | (rw [if_pos (by omega)]; done) | (rw [if_neg (by omega), if_pos (by omega)]; done) | (rw [if_neg (by omega), if_neg (by omega)]; done) | (rw [if_neg (by omega), if_neg (by omega), if_pos (by omega)]; done) | (rw [if_neg (by omega), if_neg (by omega), if_neg (by omega)]))); simp only [uN, if_neg e0], by funext j; by_cases e0 : j = 41; (subst e0; exact (show ((zRan 10 t).2) = ((zWr (I 43) t).2) from by unfold zWr; first | (rw [if_pos (by omega)]; done) | (rw [if_neg (by omega), if_pos (by omega)]; done) | (rw [if_neg (by omega), if_neg (by omega)]; done) | (rw [if_neg (by omega), if_neg (by omega), if_pos (by omega)]; done) | (rw [if_neg (by omega), if_neg (by omega), if_neg (by omega)]))); simp only [uN, if_neg e0]⟩)
  by_cases c4_2 : I 43 = 3
  · refine ga_tabIn (pc := 4) (tgt := 58) 2 dX8_weighs_4 (by omega) (by omega) (by decide) rfl rfl ?_
    refine ga_aload_n (pc := 58) dX8_weighs_58 rfl ?_
    refine ga_iload_n (pc := 59) dX8_weighs_59 rfl ?_
    refine k_X8_turnedWeighs (pc := 60) (x := x) (t := t) (z := zTw (I 44) x) (I2 := (uN I 42 ((zTwr t).1))) (A2 := (uN A 41 ((zTwr t).2))) ok (htt) (ht) (rfl) (rfl) (rfl) ⟨Nat.le_of_ble_eq_true rfl, Nat.le_of_ble_eq_true rfl⟩ (Nat.le_of_ble_eq_true rfl) dX8_weighs_60 ?_
    exact mm_iret hE dX8_weighs_63 (⟨_, rfl, by unfold zWe; first | (rw [if_pos (by omega)]; done) | (rw [if_neg (by omega), if_pos (by omega)]; done) | (rw [if_neg (by omega), if_neg (by omega)]; done) | (rw [if_neg (by omega), if_neg (by omega), if_pos (by omega)]; done) | (rw [if_neg (by omega), if_neg (by omega), if_neg (by omega)]), by funext j; by_cases e0 : j = 42; (subst e0; exact (show ((zTwr t).1) = ((zWr (I 43) t).1) from by unfold zWr; first | (rw [if_pos (by omega)]; done) | (rw [if_neg (by omega), if_pos (by omega)]; done) | (rw [if_neg (by omega), if_neg (by omega)]; done) | (rw [if_neg (by omega), if_neg (by omega), if_pos (by omega)]; done) | (rw [if_neg (by omega), if_neg (by omega), if_neg (by omega)]))); simp only [uN, if_neg e0], by funext j; by_cases e0 : j = 41; (subst e0; exact (show ((zTwr t).2) = ((zWr (I 43) t).2) from by unfold zWr; first | (rw [if_pos (by omega)]; done) | (rw [if_neg (by omega), if_pos (by omega)]; done) | (rw [if_neg (by omega), if_neg (by omega)]; done) | (rw [if_neg (by omega), if_neg (by omega), if_pos (by omega)]; done) | (rw [if_neg (by omega), if_neg (by omega), if_neg (by omega)]))); simp only [uN, if_neg e0]⟩)
  by_cases c4_3 : I 43 = 4
  · refine ga_tabIn (pc := 4) (tgt := 81) 3 dX8_weighs_4 (by omega) (by omega) (by decide) rfl rfl ?_
    refine ga_aload_n (pc := 81) dX8_weighs_81 rfl ?_
    refine ga_iload_n (pc := 82) dX8_weighs_82 rfl ?_
    refine k_X8_plainWeighs (pc := 83) (x := x) (t := t) (z := zPw (I 44) x) (I2 := (uN I 42 ((zRan 10 t).1))) (A2 := (uN A 41 ((zRan 10 t).2))) ok (htt) (ht) (rfl) (rfl) (rfl) ⟨Nat.le_of_ble_eq_true rfl, Nat.le_of_ble_eq_true rfl⟩ (Nat.le_of_ble_eq_true rfl) dX8_weighs_83 ?_
    exact mm_iret hE dX8_weighs_86 (⟨_, rfl, by unfold zWe; first | (rw [if_pos (by omega)]; done) | (rw [if_neg (by omega), if_pos (by omega)]; done) | (rw [if_neg (by omega), if_neg (by omega)]; done) | (rw [if_neg (by omega), if_neg (by omega), if_pos (by omega)]; done) | (rw [if_neg (by omega), if_neg (by omega), if_neg (by omega)]), by funext j; by_cases e0 : j = 42; (subst e0; exact (show ((zRan 10 t).1) = ((zWr (I 43) t).1) from by unfold zWr; first | (rw [if_pos (by omega)]; done) | (rw [if_neg (by omega), if_pos (by omega)]; done) | (rw [if_neg (by omega), if_neg (by omega)]; done) | (rw [if_neg (by omega), if_neg (by omega), if_pos (by omega)]; done) | (rw [if_neg (by omega), if_neg (by omega), if_neg (by omega)]))); simp only [uN, if_neg e0], by funext j; by_cases e0 : j = 41; (subst e0; exact (show ((zRan 10 t).2) = ((zWr (I 43) t).2) from by unfold zWr; first | (rw [if_pos (by omega)]; done) | (rw [if_neg (by omega), if_pos (by omega)]; done) | (rw [if_neg (by omega), if_neg (by omega)]; done) | (rw [if_neg (by omega), if_neg (by omega), if_pos (by omega)]; done) | (rw [if_neg (by omega), if_neg (by omega), if_neg (by omega)]))); simp only [uN, if_neg e0]⟩)
  by_cases c4_4 : I 43 = 5
  · refine ga_tabIn (pc := 4) (tgt := 58) 4 dX8_weighs_4 (by omega) (by omega) (by decide) rfl rfl ?_
    refine ga_aload_n (pc := 58) dX8_weighs_58 rfl ?_
    refine ga_iload_n (pc := 59) dX8_weighs_59 rfl ?_
    refine k_X8_turnedWeighs (pc := 60) (x := x) (t := t) (z := zTw (I 44) x) (I2 := (uN I 42 ((zTwr t).1))) (A2 := (uN A 41 ((zTwr t).2))) ok (htt) (ht) (rfl) (rfl) (rfl) ⟨Nat.le_of_ble_eq_true rfl, Nat.le_of_ble_eq_true rfl⟩ (Nat.le_of_ble_eq_true rfl) dX8_weighs_60 ?_
    exact mm_iret hE dX8_weighs_63 (⟨_, rfl, by unfold zWe; first | (rw [if_pos (by omega)]; done) | (rw [if_neg (by omega), if_pos (by omega)]; done) | (rw [if_neg (by omega), if_neg (by omega)]; done) | (rw [if_neg (by omega), if_neg (by omega), if_pos (by omega)]; done) | (rw [if_neg (by omega), if_neg (by omega), if_neg (by omega)]), by funext j; by_cases e0 : j = 42; (subst e0; exact (show ((zTwr t).1) = ((zWr (I 43) t).1) from by unfold zWr; first | (rw [if_pos (by omega)]; done) | (rw [if_neg (by omega), if_pos (by omega)]; done) | (rw [if_neg (by omega), if_neg (by omega)]; done) | (rw [if_neg (by omega), if_neg (by omega), if_pos (by omega)]; done) | (rw [if_neg (by omega), if_neg (by omega), if_neg (by omega)]))); simp only [uN, if_neg e0], by funext j; by_cases e0 : j = 41; (subst e0; exact (show ((zTwr t).2) = ((zWr (I 43) t).2) from by unfold zWr; first | (rw [if_pos (by omega)]; done) | (rw [if_neg (by omega), if_pos (by omega)]; done) | (rw [if_neg (by omega), if_neg (by omega)]; done) | (rw [if_neg (by omega), if_neg (by omega), if_pos (by omega)]; done) | (rw [if_neg (by omega), if_neg (by omega), if_neg (by omega)]))); simp only [uN, if_neg e0]⟩)
  by_cases c4_5 : I 43 = 6
  · refine ga_tabIn (pc := 4) (tgt := 64) 5 dX8_weighs_4 (by omega) (by omega) (by decide) rfl rfl ?_
    refine ga_aload_n (pc := 64) dX8_weighs_64 rfl ?_
    refine ga_bipush (pc := 65) dX8_weighs_65 rfl ?_
    refine k_X8_ran (pc := 67) (b := 70) (t := t) (I2 := (uN I 42 ((zRan 70 t).1))) (A2 := (uN A 41 ((zRan 70 t).2))) ok (htt) (ht) (rfl) (rfl) ⟨Nat.le_of_ble_eq_true rfl, Nat.le_of_ble_eq_true rfl⟩ (Nat.le_of_ble_eq_true rfl) dX8_weighs_67 ?_
    refine ga_aload_n (pc := 70) dX8_weighs_70 rfl ?_
    refine ga_iload_n (pc := 71) dX8_weighs_71 rfl ?_
    refine k_X8_turnedWeighs (pc := 72) (x := x) (t := (zRan 70 t)) (z := zTw ((I 44)) x) (I2 := (uN I 42 ((zTwr (zRan 70 t)).1))) (A2 := (uN A 41 ((zTwr (zRan 70 t)).2))) ok (show ((zRan 70 t).1) = (zRan 70 t).1 ∧ ((zRan 70 t).2) = (zRan 70 t).2 from ⟨rfl, rfl⟩) (show 0 ≤ (zRan 70 t).1 ∧ (zRan 70 t).1 ≤ 30 from zRan_r _ ht) (rfl) (by funext j; by_cases e0 : j = 42; (subst e0; rfl); simp only [uN, if_neg e0]) (by funext j; by_cases e0 : j = 41; (subst e0; rfl); simp only [uN, if_neg e0]) ⟨Nat.le_of_ble_eq_true rfl, Nat.le_of_ble_eq_true rfl⟩ (Nat.le_of_ble_eq_true rfl) dX8_weighs_72 ?_
    refine ga_aload_n (pc := 75) dX8_weighs_75 rfl ?_
    refine mm_g45 (pc := 76) (z := I 45) rfl dX8_weighs_76 ?_
    refine ga_ixor (pc := 79) dX8_weighs_79 ?_
    exact mm_iret hE dX8_weighs_80 (⟨_, rfl, by unfold zWe; first | (rw [if_pos (by omega)]; done) | (rw [if_neg (by omega), if_pos (by omega)]; done) | (rw [if_neg (by omega), if_neg (by omega)]; done) | (rw [if_neg (by omega), if_neg (by omega), if_pos (by omega)]; done) | (rw [if_neg (by omega), if_neg (by omega), if_neg (by omega)]), by funext j; by_cases e0 : j = 42; (subst e0; exact (show ((zTwr (zRan 70 t)).1) = ((zWr (I 43) t).1) from by unfold zWr; first | (rw [if_pos (by omega)]; done) | (rw [if_neg (by omega), if_pos (by omega)]; done) | (rw [if_neg (by omega), if_neg (by omega)]; done) | (rw [if_neg (by omega), if_neg (by omega), if_pos (by omega)]; done) | (rw [if_neg (by omega), if_neg (by omega), if_neg (by omega)]))); simp only [uN, if_neg e0], by funext j; by_cases e0 : j = 41; (subst e0; exact (show ((zTwr (zRan 70 t)).2) = ((zWr (I 43) t).2) from by unfold zWr; first | (rw [if_pos (by omega)]; done) | (rw [if_neg (by omega), if_pos (by omega)]; done) | (rw [if_neg (by omega), if_neg (by omega)]; done) | (rw [if_neg (by omega), if_neg (by omega), if_pos (by omega)]; done) | (rw [if_neg (by omega), if_neg (by omega), if_neg (by omega)]))); simp only [uN, if_neg e0]⟩)
  refine ga_tabOut (pc := 4) (tgt := 81) dX8_weighs_4 (by omega) (by omega) rfl ?_
  refine ga_aload_n (pc := 81) dX8_weighs_81 rfl ?_
  refine ga_iload_n (pc := 82) dX8_weighs_82 rfl ?_
  refine k_X8_plainWeighs (pc := 83) (x := x) (t := t) (z := zPw (I 44) x) (I2 := (uN I 42 ((zRan 10 t).1))) (A2 := (uN A 41 ((zRan 10 t).2))) ok (htt) (ht) (rfl) (rfl) (rfl) ⟨Nat.le_of_ble_eq_true rfl, Nat.le_of_ble_eq_true rfl⟩ (Nat.le_of_ble_eq_true rfl) dX8_weighs_83 ?_
  exact mm_iret hE dX8_weighs_86 (⟨_, rfl, by unfold zWe; first | (rw [if_pos (by omega)]; done) | (rw [if_neg (by omega), if_pos (by omega)]; done) | (rw [if_neg (by omega), if_neg (by omega)]; done) | (rw [if_neg (by omega), if_neg (by omega), if_pos (by omega)]; done) | (rw [if_neg (by omega), if_neg (by omega), if_neg (by omega)]), by funext j; by_cases e0 : j = 42; (subst e0; exact (show ((zRan 10 t).1) = ((zWr (I 43) t).1) from by unfold zWr; first | (rw [if_pos (by omega)]; done) | (rw [if_neg (by omega), if_pos (by omega)]; done) | (rw [if_neg (by omega), if_neg (by omega)]; done) | (rw [if_neg (by omega), if_neg (by omega), if_pos (by omega)]; done) | (rw [if_neg (by omega), if_neg (by omega), if_neg (by omega)]))); simp only [uN, if_neg e0], by funext j; by_cases e0 : j = 41; (subst e0; exact (show ((zRan 10 t).2) = ((zWr (I 43) t).2) from by unfold zWr; first | (rw [if_pos (by omega)]; done) | (rw [if_neg (by omega), if_pos (by omega)]; done) | (rw [if_neg (by omega), if_neg (by omega)]; done) | (rw [if_neg (by omega), if_neg (by omega), if_pos (by omega)]; done) | (rw [if_neg (by omega), if_neg (by omega), if_neg (by omega)]))); simp only [uN, if_neg e0]⟩)
theorem k_X8_weighs {X : ga_X} {nL : Nat} {cc : ByteArray} {mo : Nat} {ad : Nat → Nat} {I : Nat → Int} {A : Nat → Int → Int} {d pc : Nat} {L : List (Option Value)} {st : List Value} {x : Int} {t : zRs} {z : Int} {I2 : Nat → Int} {A2 : Nat → Int → Int} (ok : mOk mo ad) (htt : I 42 = t.1 ∧ A 41 = t.2) (ht : 0 ≤ t.1 ∧ t.1 ≤ 30) (hkd : (0 ≤ I 43 ∧ I 43 ≤ 6) ∧ (0 ≤ I 44 ∧ I 44 ≤ 5) ∧ -2 ≤ I 45 ∧ I 45 ≤ 2) (hz : (zWe (I 43) (I 44) (I 45) x) = z) (hI2 : (uN I 42 ((zWr (I 43) t).1)) = I2) (hA2 : (uN A 41 ((zWr (I 43) t).2)) = A2) (hR : 3 + 1 ≤ d ∧ 19 + 2 + 64 * 3 ≤ 64 * d) (hs : (st.map fun v => v.category).sum ≤ 8) (dd : decode cc pc = .ok (.invokevirtual 369, 3)) (kk : G X (gR d) RX8 nL cc (mH mo ad I2 A2) 0 0 (pc + 3) L (.int (iI z) :: st)) : G X (gR d) RX8 nL cc (mH mo ad I A) 0 0 pc L (.int (iI x) :: .ref mo :: st) :=
  mm_run ok (m_X8_weighs _ _ mo ad I A x t htt ht hkd) (lw_V q2085 q2087 qs88 q113 q2088) rfl (show ga_nn' yX8_weighs 1 from (by unfold ga_nn'; decide +kernel)) hR hs dd rfl (fun v I1 A1 hp => by
    obtain ⟨r, rfl, hp⟩ := hp
    obtain ⟨e1, rfl, rfl⟩ := hp
    subst hz
    subst hI2
    subst hA2
    rw [e1]
    exact kk)
set_option maxHeartbeats 4000000 in
set_option maxRecDepth 100000 in
theorem m_X8_plainTurns (l : Launch) (D : ga_G) (mo : Nat) (ad : Nat → Nat) (I : Nat → Int) (A : Nat → Int → Int) (x : Int) (t : zRs) (htt : I 42 = t.1 ∧ A 41 = t.2) (ht : 0 ≤ t.1 ∧ t.1 ≤ 30) (hkd : (0 ≤ I 43 ∧ I 43 ≤ 6) ∧ (0 ≤ I 44 ∧ I 44 ≤ 5) ∧ -2 ≤ I 45 ∧ I 45 ≤ 2) : mM l D yX8_plainTurns (ws_ yX8_plainTurns cX8_plainTurns 2 (some .int)) (gR 4) [.int (iI x)] mo ad I A (mI (fun r I1 A1 => r = (zPt (I 43) (I 44) (I 45) x) ∧ I1 = (uN I 42 ((zPr (I 43) t).1)) ∧ A1 = (uN A 41 ((zPr (I 43) t).2)))) := by
  refine mm_met 0 rfl (Nat.le_of_ble_eq_true rfl) (L0 := [some (.ref mo), some (.int (iI x))]) rfl (fun X ok hE => ?_)
  refine ga_aload_n (pc := 0) dX8_plainTurns_0 rfl ?_
  refine ga_bipush (pc := 1) dX8_plainTurns_1 rfl ?_
  refine k_X8_ran (pc := 3) (b := 11) (t := t) (I2 := (uN I 42 ((zRan 11 t).1))) (A2 := (uN A 41 ((zRan 11 t).2))) ok (htt) (ht) (rfl) (rfl) ⟨Nat.le_of_ble_eq_true rfl, Nat.le_of_ble_eq_true rfl⟩ (Nat.le_of_ble_eq_true rfl) dX8_plainTurns_3 ?_
  refine ga_aload_n (pc := 6) dX8_plainTurns_6 rfl ?_
  refine ga_iload_n (pc := 7) dX8_plainTurns_7 rfl ?_
  refine k_X8_weighs (pc := 8) (x := x) (t := (zRan 11 t)) (z := zWe ((I 43)) ((I 44)) ((I 45)) x) (I2 := (uN I 42 ((zWr ((I 43)) (zRan 11 t)).1))) (A2 := (uN A 41 ((zWr ((I 43)) (zRan 11 t)).2))) ok (show ((zRan 11 t).1) = (zRan 11 t).1 ∧ ((zRan 11 t).2) = (zRan 11 t).2 from ⟨rfl, rfl⟩) (show 0 ≤ (zRan 11 t).1 ∧ (zRan 11 t).1 ≤ 30 from zRan_r _ ht) (show (0 ≤ (I 43) ∧ (I 43) ≤ 6) ∧ (0 ≤ (I 44) ∧ (I 44) ≤ 5) ∧ -2 ≤ (I 45) ∧ (I 45) ≤ 2 from by first | exact hkd | omega) (rfl) (by funext j; by_cases e0 : j = 42; (subst e0; rfl); simp only [uN, if_neg e0]) (by funext j; by_cases e0 : j = 41; (subst e0; rfl); simp only [uN, if_neg e0]) ⟨Nat.le_of_ble_eq_true rfl, Nat.le_of_ble_eq_true rfl⟩ (Nat.le_of_ble_eq_true rfl) dX8_plainTurns_8 ?_
  refine ga_aload_n (pc := 11) dX8_plainTurns_11 rfl ?_
  refine mm_g45 (pc := 12) (z := I 45) rfl dX8_plainTurns_12 ?_
  refine ga_isub (pc := 15) dX8_plainTurns_15 ?_
  refine ga_wi (pc := 16) (b := zM ((zWe ((I 43)) ((I 44)) ((I 45)) x) - (I 45))) (iI_m _) ?_
  exact mm_iret hE dX8_plainTurns_16 (⟨_, rfl, rfl, by funext j; by_cases e0 : j = 42; (subst e0; rfl); simp only [uN, if_neg e0], by funext j; by_cases e0 : j = 41; (subst e0; rfl); simp only [uN, if_neg e0]⟩)
theorem k_X8_plainTurns {X : ga_X} {nL : Nat} {cc : ByteArray} {mo : Nat} {ad : Nat → Nat} {I : Nat → Int} {A : Nat → Int → Int} {d pc : Nat} {L : List (Option Value)} {st : List Value} {x : Int} {t : zRs} {z : Int} {I2 : Nat → Int} {A2 : Nat → Int → Int} (ok : mOk mo ad) (htt : I 42 = t.1 ∧ A 41 = t.2) (ht : 0 ≤ t.1 ∧ t.1 ≤ 30) (hkd : (0 ≤ I 43 ∧ I 43 ≤ 6) ∧ (0 ≤ I 44 ∧ I 44 ≤ 5) ∧ -2 ≤ I 45 ∧ I 45 ≤ 2) (hz : (zPt (I 43) (I 44) (I 45) x) = z) (hI2 : (uN I 42 ((zPr (I 43) t).1)) = I2) (hA2 : (uN A 41 ((zPr (I 43) t).2)) = A2) (hR : 4 + 1 ≤ d ∧ 19 + 2 + 64 * 4 ≤ 64 * d) (hs : (st.map fun v => v.category).sum ≤ 8) (dd : decode cc pc = .ok (.invokevirtual 372, 3)) (kk : G X (gR d) RX8 nL cc (mH mo ad I2 A2) 0 0 (pc + 3) L (.int (iI z) :: st)) : G X (gR d) RX8 nL cc (mH mo ad I A) 0 0 pc L (.int (iI x) :: .ref mo :: st) :=
  mm_run ok (m_X8_plainTurns _ _ mo ad I A x t htt ht hkd) (lw_V q2109 q2111 qs94 q113 q2112) rfl (show ga_nn' yX8_plainTurns 1 from (by unfold ga_nn'; decide +kernel)) hR hs dd rfl (fun v I1 A1 hp => by
    obtain ⟨r, rfl, hp⟩ := hp
    obtain ⟨e1, rfl, rfl⟩ := hp
    subst hz
    subst hI2
    subst hA2
    rw [e1]
    exact kk)
set_option maxHeartbeats 4000000 in
set_option maxRecDepth 100000 in
theorem m_X8_alikeTurns (l : Launch) (D : ga_G) (mo : Nat) (ad : Nat → Nat) (I : Nat → Int) (A : Nat → Int → Int) (x : Int) (t : zRs) (htt : I 42 = t.1 ∧ A 41 = t.2) (ht : 0 ≤ t.1 ∧ t.1 ≤ 30) (hkd : (0 ≤ I 43 ∧ I 43 ≤ 6) ∧ (0 ≤ I 44 ∧ I 44 ≤ 5) ∧ -2 ≤ I 45 ∧ I 45 ≤ 2) : mM l D yX8_alikeTurns (ws_ yX8_alikeTurns cX8_alikeTurns 2 (some .int)) (gR 5) [.int (iI x)] mo ad I A (mI (fun r I1 A1 => r = (zAt (I 43) (I 44) (I 45) x) ∧ I1 = (uN I 42 ((zAr (I 43) t).1)) ∧ A1 = (uN A 41 ((zAr (I 43) t).2)))) := by
  refine mm_met 0 rfl (Nat.le_of_ble_eq_true rfl) (L0 := [some (.ref mo), some (.int (iI x))]) rfl (fun X ok hE => ?_)
  refine ga_aload_n (pc := 0) dX8_alikeTurns_0 rfl ?_
  refine ga_bipush (pc := 1) dX8_alikeTurns_1 rfl ?_
  refine k_X8_ran (pc := 3) (b := 30) (t := t) (I2 := (uN I 42 ((zRan 30 t).1))) (A2 := (uN A 41 ((zRan 30 t).2))) ok (htt) (ht) (rfl) (rfl) ⟨Nat.le_of_ble_eq_true rfl, Nat.le_of_ble_eq_true rfl⟩ (Nat.le_of_ble_eq_true rfl) dX8_alikeTurns_3 ?_
  refine ga_iconst (pc := 6) dX8_alikeTurns_6 ?_
  refine ga_aload_n (pc := 7) dX8_alikeTurns_7 rfl ?_
  refine ga_iload_n (pc := 8) dX8_alikeTurns_8 rfl ?_
  refine k_X8_plainTurns (pc := 9) (x := x) (t := (zRan 30 t)) (z := zPt ((I 43)) ((I 44)) ((I 45)) x) (I2 := (uN I 42 ((zPr ((I 43)) (zRan 30 t)).1))) (A2 := (uN A 41 ((zPr ((I 43)) (zRan 30 t)).2))) ok (show ((zRan 30 t).1) = (zRan 30 t).1 ∧ ((zRan 30 t).2) = (zRan 30 t).2 from ⟨rfl, rfl⟩) (show 0 ≤ (zRan 30 t).1 ∧ (zRan 30 t).1 ≤ 30 from zRan_r _ ht) (show (0 ≤ (I 43) ∧ (I 43) ≤ 6) ∧ (0 ≤ (I 44) ∧ (I 44) ≤ 5) ∧ -2 ≤ (I 45) ∧ (I 45) ≤ 2 from by first | exact hkd | omega) (rfl) (by funext j; by_cases e0 : j = 42; (subst e0; rfl); simp only [uN, if_neg e0]) (by funext j; by_cases e0 : j = 41; (subst e0; rfl); simp only [uN, if_neg e0]) ⟨Nat.le_of_ble_eq_true rfl, Nat.le_of_ble_eq_true rfl⟩ (Nat.le_of_ble_eq_true rfl) dX8_alikeTurns_9 ?_
  refine ga_isub (pc := 12) dX8_alikeTurns_12 ?_
  refine ga_wi (pc := 13) (b := zM (0 - (zPt ((I 43)) ((I 44)) ((I 45)) x))) (iI_m _) ?_
  exact mm_iret hE dX8_alikeTurns_13 (⟨_, rfl, rfl, by funext j; by_cases e0 : j = 42; (subst e0; rfl); simp only [uN, if_neg e0], by funext j; by_cases e0 : j = 41; (subst e0; rfl); simp only [uN, if_neg e0]⟩)
theorem k_X8_alikeTurns {X : ga_X} {nL : Nat} {cc : ByteArray} {mo : Nat} {ad : Nat → Nat} {I : Nat → Int} {A : Nat → Int → Int} {d pc : Nat} {L : List (Option Value)} {st : List Value} {x : Int} {t : zRs} {z : Int} {I2 : Nat → Int} {A2 : Nat → Int → Int} (ok : mOk mo ad) (htt : I 42 = t.1 ∧ A 41 = t.2) (ht : 0 ≤ t.1 ∧ t.1 ≤ 30) (hkd : (0 ≤ I 43 ∧ I 43 ≤ 6) ∧ (0 ≤ I 44 ∧ I 44 ≤ 5) ∧ -2 ≤ I 45 ∧ I 45 ≤ 2) (hz : (zAt (I 43) (I 44) (I 45) x) = z) (hI2 : (uN I 42 ((zAr (I 43) t).1)) = I2) (hA2 : (uN A 41 ((zAr (I 43) t).2)) = A2) (hR : 5 + 1 ≤ d ∧ 19 + 2 + 64 * 5 ≤ 64 * d) (hs : (st.map fun v => v.category).sum ≤ 8) (dd : decode cc pc = .ok (.invokevirtual 375, 3)) (kk : G X (gR d) RX8 nL cc (mH mo ad I2 A2) 0 0 (pc + 3) L (.int (iI z) :: st)) : G X (gR d) RX8 nL cc (mH mo ad I A) 0 0 pc L (.int (iI x) :: .ref mo :: st) :=
  mm_run ok (m_X8_alikeTurns _ _ mo ad I A x t htt ht hkd) (lw_V q2105 q2107 qs93 q113 q2108) rfl (show ga_nn' yX8_alikeTurns 1 from (by unfold ga_nn'; decide +kernel)) hR hs dd rfl (fun v I1 A1 hp => by
    obtain ⟨r, rfl, hp⟩ := hp
    obtain ⟨e1, rfl, rfl⟩ := hp
    subst hz
    subst hI2
    subst hA2
    rw [e1]
    exact kk)
set_option maxHeartbeats 4000000 in
set_option maxRecDepth 100000 in
theorem m_X8_turns (l : Launch) (D : ga_G) (mo : Nat) (ad : Nat → Nat) (I : Nat → Int) (A : Nat → Int → Int) (x : Int) (t : zRs) (htt : I 42 = t.1 ∧ A 41 = t.2) (ht : 0 ≤ t.1 ∧ t.1 ≤ 30) (hkd : (0 ≤ I 43 ∧ I 43 ≤ 6) ∧ (0 ≤ I 44 ∧ I 44 ≤ 5) ∧ -2 ≤ I 45 ∧ I 45 ≤ 2) : mM l D yX8_turns (ws_ yX8_turns cX8_turns 2 (some .int)) (gR 6) [.int (iI x)] mo ad I A (mI (fun r I1 A1 => r = (zTu (I 43) (I 44) (I 45) x) ∧ I1 = (uN I 42 ((zTr (I 43) t).1)) ∧ A1 = (uN A 41 ((zTr (I 43) t).2)))) := by
  refine mm_met 0 rfl (Nat.le_of_ble_eq_true rfl) (L0 := [some (.ref mo), some (.int (iI x))]) rfl (fun X ok hE => ?_)
  refine ga_aload_n (pc := 0) dX8_turns_0 rfl ?_
  refine mm_g43 (pc := 1) (z := I 43) rfl dX8_turns_1 ?_
  refine ga_iconst (pc := 4) dX8_turns_4 ?_
  refine ga_icmp_ne (pc := 5) (tgt := 27) dX8_turns_5 rfl (by omega) (by omega) (fun c5 => ?_) (fun c5 => ?_)
  · skip
    refine ga_aload_n (pc := 27) dX8_turns_27 rfl ?_
    refine mm_g43 (pc := 28) (z := I 43) rfl dX8_turns_28 ?_
    refine ga_iconst (pc := 31) dX8_turns_31 ?_
    refine ga_icmp_ne (pc := 32) (tgt := 43) dX8_turns_32 rfl (by omega) (by omega) (fun c32 => ?_) (fun c32 => ?_)
    · skip
      refine ga_aload_n (pc := 43) dX8_turns_43 rfl ?_
      refine ga_iload_n (pc := 44) dX8_turns_44 rfl ?_
      refine k_X8_plainTurns (pc := 45) (x := x) (t := t) (z := zPt (I 43) (I 44) (I 45) x) (I2 := (uN I 42 ((zPr (I 43) t).1))) (A2 := (uN A 41 ((zPr (I 43) t).2))) ok (htt) (ht) (by first | exact hkd | omega) (rfl) (rfl) (rfl) ⟨Nat.le_of_ble_eq_true rfl, Nat.le_of_ble_eq_true rfl⟩ (Nat.le_of_ble_eq_true rfl) dX8_turns_45 ?_
      exact mm_iret hE dX8_turns_48 (⟨_, rfl, by unfold zTu; first | (rw [if_pos (by omega)]; done) | (rw [if_neg (by omega), if_pos (by omega)]; done) | (rw [if_neg (by omega), if_neg (by omega)]; done) | (rw [if_neg (by omega), if_neg (by omega), if_pos (by omega)]; done) | (rw [if_neg (by omega), if_neg (by omega), if_neg (by omega)]), by funext j; by_cases e0 : j = 42; (subst e0; exact (show ((zPr (I 43) t).1) = ((zTr (I 43) t).1) from by unfold zTr; first | (rw [if_pos (by omega)]; done) | (rw [if_neg (by omega), if_pos (by omega)]; done) | (rw [if_neg (by omega), if_neg (by omega)]; done) | (rw [if_neg (by omega), if_neg (by omega), if_pos (by omega)]; done) | (rw [if_neg (by omega), if_neg (by omega), if_neg (by omega)]))); simp only [uN, if_neg e0], by funext j; by_cases e0 : j = 41; (subst e0; exact (show ((zPr (I 43) t).2) = ((zTr (I 43) t).2) from by unfold zTr; first | (rw [if_pos (by omega)]; done) | (rw [if_neg (by omega), if_pos (by omega)]; done) | (rw [if_neg (by omega), if_neg (by omega)]; done) | (rw [if_neg (by omega), if_neg (by omega), if_pos (by omega)]; done) | (rw [if_neg (by omega), if_neg (by omega), if_neg (by omega)]))); simp only [uN, if_neg e0]⟩)
    · skip
      refine ga_aload_n (pc := 35) dX8_turns_35 rfl ?_
      refine ga_iload_n (pc := 36) dX8_turns_36 rfl ?_
      refine k_X8_alikeTurns (pc := 37) (x := x) (t := t) (z := zAt (I 43) (I 44) (I 45) x) (I2 := (uN I 42 ((zAr (I 43) t).1))) (A2 := (uN A 41 ((zAr (I 43) t).2))) ok (htt) (ht) (by first | exact hkd | omega) (rfl) (rfl) (rfl) ⟨Nat.le_of_ble_eq_true rfl, Nat.le_of_ble_eq_true rfl⟩ (Nat.le_of_ble_eq_true rfl) dX8_turns_37 ?_
      refine ga_goto (pc := 40) (tgt := 48) dX8_turns_40 rfl ?_
      exact mm_iret hE dX8_turns_48 (⟨_, rfl, by unfold zTu; first | (rw [if_pos (by omega)]; done) | (rw [if_neg (by omega), if_pos (by omega)]; done) | (rw [if_neg (by omega), if_neg (by omega)]; done) | (rw [if_neg (by omega), if_neg (by omega), if_pos (by omega)]; done) | (rw [if_neg (by omega), if_neg (by omega), if_neg (by omega)]), by funext j; by_cases e0 : j = 42; (subst e0; exact (show ((zAr (I 43) t).1) = ((zTr (I 43) t).1) from by unfold zTr; first | (rw [if_pos (by omega)]; done) | (rw [if_neg (by omega), if_pos (by omega)]; done) | (rw [if_neg (by omega), if_neg (by omega)]; done) | (rw [if_neg (by omega), if_neg (by omega), if_pos (by omega)]; done) | (rw [if_neg (by omega), if_neg (by omega), if_neg (by omega)]))); simp only [uN, if_neg e0], by funext j; by_cases e0 : j = 41; (subst e0; exact (show ((zAr (I 43) t).2) = ((zTr (I 43) t).2) from by unfold zTr; first | (rw [if_pos (by omega)]; done) | (rw [if_neg (by omega), if_pos (by omega)]; done) | (rw [if_neg (by omega), if_neg (by omega)]; done) | (rw [if_neg (by omega), if_neg (by omega), if_pos (by omega)]; done) | (rw [if_neg (by omega), if_neg (by omega), if_neg (by omega)]))); simp only [uN, if_neg e0]⟩)
  · skip
    refine ga_aload_n (pc := 8) dX8_turns_8 rfl ?_
    refine ga_bipush (pc := 9) dX8_turns_9 rfl ?_
    refine k_X8_ran (pc := 11) (b := 50) (t := t) (I2 := (uN I 42 ((zRan 50 t).1))) (A2 := (uN A 41 ((zRan 50 t).2))) ok (htt) (ht) (rfl) (rfl) ⟨Nat.le_of_ble_eq_true rfl, Nat.le_of_ble_eq_true rfl⟩ (Nat.le_of_ble_eq_true rfl) dX8_turns_11 ?_
    refine ga_aload_n (pc := 14) dX8_turns_14 rfl ?_
    refine ga_iload_n (pc := 15) dX8_turns_15 rfl ?_
    refine ga_aload_n (pc := 16) dX8_turns_16 rfl ?_
    refine mm_g45 (pc := 17) (z := I 45) rfl dX8_turns_17 ?_
    refine ga_iadd (pc := 20) dX8_turns_20 ?_
    refine k_X8_alikeTurns (pc := 21) (x := (x + (I 45))) (t := (zRan 50 t)) (z := zAt ((I 43)) ((I 44)) ((I 45)) (x + (I 45))) (I2 := (uN I 42 ((zAr ((I 43)) (zRan 50 t)).1))) (A2 := (uN A 41 ((zAr ((I 43)) (zRan 50 t)).2))) ok (show ((zRan 50 t).1) = (zRan 50 t).1 ∧ ((zRan 50 t).2) = (zRan 50 t).2 from ⟨rfl, rfl⟩) (show 0 ≤ (zRan 50 t).1 ∧ (zRan 50 t).1 ≤ 30 from zRan_r _ ht) (show (0 ≤ (I 43) ∧ (I 43) ≤ 6) ∧ (0 ≤ (I 44) ∧ (I 44) ≤ 5) ∧ -2 ≤ (I 45) ∧ (I 45) ≤ 2 from by first | exact hkd | omega) (rfl) (by funext j; by_cases e0 : j = 42; (subst e0; rfl); simp only [uN, if_neg e0]) (by funext j; by_cases e0 : j = 41; (subst e0; rfl); simp only [uN, if_neg e0]) ⟨Nat.le_of_ble_eq_true rfl, Nat.le_of_ble_eq_true rfl⟩ (Nat.le_of_ble_eq_true rfl) dX8_turns_21 ?_
    refine ga_iconst (pc := 24) dX8_turns_24 ?_
    refine ga_ixor (pc := 25) dX8_turns_25 ?_
    exact mm_iret hE dX8_turns_26 (⟨_, rfl, by unfold zTu; first | (rw [if_pos (by omega)]; done) | (rw [if_neg (by omega), if_pos (by omega)]; done) | (rw [if_neg (by omega), if_neg (by omega)]; done) | (rw [if_neg (by omega), if_neg (by omega), if_pos (by omega)]; done) | (rw [if_neg (by omega), if_neg (by omega), if_neg (by omega)]), by funext j; by_cases e0 : j = 42; (subst e0; exact (show ((zAr ((I 43)) (zRan 50 t)).1) = ((zTr (I 43) t).1) from by unfold zTr; first | (rw [if_pos (by omega)]; done) | (rw [if_neg (by omega), if_pos (by omega)]; done) | (rw [if_neg (by omega), if_neg (by omega)]; done) | (rw [if_neg (by omega), if_neg (by omega), if_pos (by omega)]; done) | (rw [if_neg (by omega), if_neg (by omega), if_neg (by omega)]))); simp only [uN, if_neg e0], by funext j; by_cases e0 : j = 41; (subst e0; exact (show ((zAr ((I 43)) (zRan 50 t)).2) = ((zTr (I 43) t).2) from by unfold zTr; first | (rw [if_pos (by omega)]; done) | (rw [if_neg (by omega), if_pos (by omega)]; done) | (rw [if_neg (by omega), if_neg (by omega)]; done) | (rw [if_neg (by omega), if_neg (by omega), if_pos (by omega)]; done) | (rw [if_neg (by omega), if_neg (by omega), if_neg (by omega)]))); simp only [uN, if_neg e0]⟩)
theorem k_X8_turns {X : ga_X} {nL : Nat} {cc : ByteArray} {mo : Nat} {ad : Nat → Nat} {I : Nat → Int} {A : Nat → Int → Int} {d pc : Nat} {L : List (Option Value)} {st : List Value} {x : Int} {t : zRs} {z : Int} {I2 : Nat → Int} {A2 : Nat → Int → Int} (ok : mOk mo ad) (htt : I 42 = t.1 ∧ A 41 = t.2) (ht : 0 ≤ t.1 ∧ t.1 ≤ 30) (hkd : (0 ≤ I 43 ∧ I 43 ≤ 6) ∧ (0 ≤ I 44 ∧ I 44 ≤ 5) ∧ -2 ≤ I 45 ∧ I 45 ≤ 2) (hz : (zTu (I 43) (I 44) (I 45) x) = z) (hI2 : (uN I 42 ((zTr (I 43) t).1)) = I2) (hA2 : (uN A 41 ((zTr (I 43) t).2)) = A2) (hR : 6 + 1 ≤ d ∧ 19 + 2 + 64 * 6 ≤ 64 * d) (hs : (st.map fun v => v.category).sum ≤ 8) (dd : decode cc pc = .ok (.invokevirtual 382, 3)) (kk : G X (gR d) RX8 nL cc (mH mo ad I2 A2) 0 0 (pc + 3) L (.int (iI z) :: st)) : G X (gR d) RX8 nL cc (mH mo ad I A) 0 0 pc L (.int (iI x) :: .ref mo :: st) :=
  mm_run ok (m_X8_turns _ _ mo ad I A x t htt ht hkd) (lw_V q2101 q2103 qs92 q113 q2104) rfl (show ga_nn' yX8_turns 1 from (by unfold ga_nn'; decide +kernel)) hR hs dd rfl (fun v I1 A1 hp => by
    obtain ⟨r, rfl, hp⟩ := hp
    obtain ⟨e1, rfl, rfl⟩ := hp
    subst hz
    subst hI2
    subst hA2
    rw [e1]
    exact kk)
