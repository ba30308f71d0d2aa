/-! THE JDK's exact sums and products, where they fit -/
theorem land_n (a b : Int) (ha : -9223372036854775808 ≤ a ∧ a < 9223372036854775808) (hb : -9223372036854775808 ≤ b ∧ b < 9223372036854775808) : land a b < 0 ↔ a < 0 ∧ b < 0 := by
  have h : decide (land a b < 0) = (decide (a < 0) && decide (b < 0)) := by
    have e : land a b = ((lI a).toBitVec &&& (lI b).toBitVec).toInt := by
      show (lI a &&& lI b).toBitVec.toInt = _
      rw [Int64.toBitVec_and]
    rw [e, ← BitVec.msb_eq_toInt, BitVec.msb_and, BitVec.msb_eq_toInt, BitVec.msb_eq_toInt]
    show (decide ((lI a).toInt < 0) && decide ((lI b).toInt < 0)) = _
    rw [lI_t ha, lI_t hb]
  have h2 := congrArg (· = true) h
  simpa using h2
theorem lxor_n (a b : Int) (ha : -9223372036854775808 ≤ a ∧ a < 9223372036854775808) (hb : -9223372036854775808 ≤ b ∧ b < 9223372036854775808) : lxor a b < 0 ↔ ¬ (a < 0 ↔ b < 0) := by
  have h : decide (lxor a b < 0) = (decide (a < 0) ^^ decide (b < 0)) := by
    have e : lxor a b = ((lI a).toBitVec ^^^ (lI b).toBitVec).toInt := by
      show (lI a ^^^ lI b).toBitVec.toInt = _
      rw [Int64.toBitVec_xor]
    rw [e, ← BitVec.msb_eq_toInt, BitVec.msb_xor, BitVec.msb_eq_toInt, BitVec.msb_eq_toInt]
    show (decide ((lI a).toInt < 0) ^^ decide ((lI b).toInt < 0)) = _
    rw [lI_t ha, lI_t hb]
  by_cases p : a < 0 <;> by_cases q : b < 0 <;> simp [p, q] at h ⊢ <;> omega
theorem land_r (a b : Int) : -9223372036854775808 ≤ land a b ∧ land a b < 9223372036854775808 := lI_r _
theorem lxor_r (a b : Int) : -9223372036854775808 ≤ lxor a b ∧ lxor a b < 9223372036854775808 := lI_r _
theorem lor_r (a b : Int) : -9223372036854775808 ≤ lor a b ∧ lor a b < 9223372036854775808 := lI_r _
theorem lushr_r (a b : Int) : -9223372036854775808 ≤ lushr a b ∧ lushr a b < 9223372036854775808 := lI_r _
theorem zov_a {a b : Int} (ha : -9223372036854775808 ≤ a ∧ a < 9223372036854775808) (hb : -9223372036854775808 ≤ b ∧ b < 9223372036854775808) (h : -9223372036854775808 ≤ a + b ∧ a + b < 9223372036854775808) : 0 ≤ land (lxor a (a + b)) (lxor b (a + b)) := by
  have h1 := land_n _ _ (lxor_r a (a + b)) (lxor_r b (a + b))
  have h2 := lxor_n a (a + b) ha h
  have h3 := lxor_n b (a + b) hb h
  by_cases c : land (lxor a (a + b)) (lxor b (a + b)) < 0
  · have := h1.mp c
    have g2 := h2.mp this.1
    have g3 := h3.mp this.2
    omega
  · omega
theorem zov_s {a b : Int} (ha : -9223372036854775808 ≤ a ∧ a < 9223372036854775808) (hb : -9223372036854775808 ≤ b ∧ b < 9223372036854775808) (h : -9223372036854775808 ≤ a - b ∧ a - b < 9223372036854775808) : 0 ≤ land (lxor a b) (lxor a (a - b)) := by
  have h1 := land_n _ _ (lxor_r a b) (lxor_r a (a - b))
  have h2 := lxor_n a b ha hb
  have h3 := lxor_n a (a - b) ha h
  by_cases c : land (lxor a b) (lxor a (a - b)) < 0
  · have := h1.mp c
    have g2 := h2.mp this.1
    have g3 := h3.mp this.2
    omega
  · omega
set_option maxHeartbeats 4000000 in
set_option maxRecDepth 100000 in
theorem m_J3_addExact (l : Launch) (D : ga_G) (a b : Int) (h1 : (-9223372036854775808 ≤ a ∧ a < 9223372036854775808) ∧ (-9223372036854775808 ≤ b ∧ b < 9223372036854775808)) (h0 : -9223372036854775808 ≤ a + b ∧ a + b < 9223372036854775808) : pS l D yJ3_addExact (ws_ yJ3_addExact cJ3_addExact 6 (some .long)) (gR 0) [.long (lI a), .long (lI b)] (some (.long (lI (a + b)))) := by
  intro h
  refine ga_metF (own := RJ3) 2 (by decide +kernel) rfl (Nat.le_of_ble_eq_true rfl) (L0 := [some (.long (lI a)), none, some (.long (lI b)), none, none, none]) rfl (fun X _ _ hE => ?_)
  refine ga_lload_n (pc := 0) dJ3_addExact_0 rfl ?_
  refine ga_lload_n (pc := 1) dJ3_addExact_1 rfl ?_
  refine ga_ladd (pc := 2) dJ3_addExact_2 ?_
  refine ga_lstore (pc := 3) (L1 := [some (.long (lI a)), none, some (.long (lI b)), none, some (.long (lI (a + b))), none]) dJ3_addExact_3 rfl (by decide) rfl ?_
  refine ga_lload_n (pc := 5) dJ3_addExact_5 rfl ?_
  refine ga_lload (pc := 6) dJ3_addExact_6 rfl ?_
  refine ga_lxor (pc := 8) dJ3_addExact_8 ?_
  refine ga_lload_n (pc := 9) dJ3_addExact_9 rfl ?_
  refine ga_lload (pc := 10) dJ3_addExact_10 rfl ?_
  refine ga_lxor (pc := 12) dJ3_addExact_12 ?_
  refine ga_land (pc := 13) dJ3_addExact_13 ?_
  refine ga_lconst (pc := 14) 0 dJ3_addExact_14 rfl ?_
  have hl1 := land_r (lxor a (a + b)) (lxor b (a + b))
  have hl2 := zov_a h1.1 h1.2 h0
  refine ga_lcmp (pc := 15) dJ3_addExact_15 (by omega) (by omega) ?_
  refine ga_ifc_ge (pc := 16) (tgt := 29) dJ3_addExact_16 rfl (fun c16 => ?_) (fun c16 => ?_)
  · skip
    refine ga_lload (pc := 29) dJ3_addExact_29 rfl ?_
    exact ga_lret hE dJ3_addExact_31 (Nat.le_of_ble_eq_true rfl) (Nat.le_of_ble_eq_true rfl) (⟨congrArg (fun z => some (Value.long (lI z))) (rfl), rfl⟩)
  · exact absurd c16 (by omega)
theorem k_J3_addExact_X0 {X : ga_X} {R : Room} {nL : Nat} {cc : ByteArray} {h : ga_H} {k n pc : Nat} {L : List (Option Value)} {st : List Value} {a b : Int} {z : Int} (h1 : (-9223372036854775808 ≤ a ∧ a < 9223372036854775808) ∧ (-9223372036854775808 ≤ b ∧ b < 9223372036854775808)) (h0 : -9223372036854775808 ≤ a + b ∧ a + b < 9223372036854775808) (hz : (a + b) = z) (hR : 0 + 1 ≤ R.frames ∧ 19 + 6 + 64 * 0 ≤ R.locals) (hk : k ≤ R.cells ∧ n ≤ R.slots) (hs : (st.map fun v => v.category).sum ≤ 8) (d : decode cc pc = .ok (.invokestatic 182, 3)) (kk : G X R RX0 nL cc h k n (pc + 3) L (.long (lI z) :: st)) : G X R RX0 nL cc h k n pc L (.long (lI b) :: .long (lI a) :: st) := by
  subst hz
  exact ps_run (m_J3_addExact _ _ a b h1 h0) (lw_S q505 q506 q114 q507) (show ga_nn' yJ3_addExact 2 from (by unfold ga_nn'; decide +kernel)) hR hk hs d rfl kk
set_option maxHeartbeats 4000000 in
set_option maxRecDepth 100000 in
theorem m_J3_subtractExact (l : Launch) (D : ga_G) (a b : Int) (h1 : (-9223372036854775808 ≤ a ∧ a < 9223372036854775808) ∧ (-9223372036854775808 ≤ b ∧ b < 9223372036854775808)) (h0 : -9223372036854775808 ≤ a - b ∧ a - b < 9223372036854775808) : pS l D yJ3_subtractExact (ws_ yJ3_subtractExact cJ3_subtractExact 6 (some .long)) (gR 0) [.long (lI a), .long (lI b)] (some (.long (lI (a - b)))) := by
  intro h
  refine ga_metF (own := RJ3) 2 (by decide +kernel) rfl (Nat.le_of_ble_eq_true rfl) (L0 := [some (.long (lI a)), none, some (.long (lI b)), none, none, none]) rfl (fun X _ _ hE => ?_)
  refine ga_lload_n (pc := 0) dJ3_subtractExact_0 rfl ?_
  refine ga_lload_n (pc := 1) dJ3_subtractExact_1 rfl ?_
  refine ga_lsub (pc := 2) dJ3_subtractExact_2 ?_
  refine ga_lstore (pc := 3) (L1 := [some (.long (lI a)), none, some (.long (lI b)), none, some (.long (lI (a - b))), none]) dJ3_subtractExact_3 rfl (by decide) rfl ?_
  refine ga_lload_n (pc := 5) dJ3_subtractExact_5 rfl ?_
  refine ga_lload_n (pc := 6) dJ3_subtractExact_6 rfl ?_
  refine ga_lxor (pc := 7) dJ3_subtractExact_7 ?_
  refine ga_lload_n (pc := 8) dJ3_subtractExact_8 rfl ?_
  refine ga_lload (pc := 9) dJ3_subtractExact_9 rfl ?_
  refine ga_lxor (pc := 11) dJ3_subtractExact_11 ?_
  refine ga_land (pc := 12) dJ3_subtractExact_12 ?_
  refine ga_lconst (pc := 13) 0 dJ3_subtractExact_13 rfl ?_
  have hl1 := land_r (lxor a b) (lxor a (a - b))
  have hl2 := zov_s h1.1 h1.2 h0
  refine ga_lcmp (pc := 14) dJ3_subtractExact_14 (by omega) (by omega) ?_
  refine ga_ifc_ge (pc := 15) (tgt := 28) dJ3_subtractExact_15 rfl (fun c15 => ?_) (fun c15 => ?_)
  · skip
    refine ga_lload (pc := 28) dJ3_subtractExact_28 rfl ?_
    exact ga_lret hE dJ3_subtractExact_30 (Nat.le_of_ble_eq_true rfl) (Nat.le_of_ble_eq_true rfl) (⟨congrArg (fun z => some (Value.long (lI z))) (rfl), rfl⟩)
  · exact absurd c15 (by omega)
theorem k_J3_subtractExact_X0 {X : ga_X} {R : Room} {nL : Nat} {cc : ByteArray} {h : ga_H} {k n pc : Nat} {L : List (Option Value)} {st : List Value} {a b : Int} {z : Int} (h1 : (-9223372036854775808 ≤ a ∧ a < 9223372036854775808) ∧ (-9223372036854775808 ≤ b ∧ b < 9223372036854775808)) (h0 : -9223372036854775808 ≤ a - b ∧ a - b < 9223372036854775808) (hz : (a - b) = z) (hR : 0 + 1 ≤ R.frames ∧ 19 + 6 + 64 * 0 ≤ R.locals) (hk : k ≤ R.cells ∧ n ≤ R.slots) (hs : (st.map fun v => v.category).sum ≤ 8) (d : decode cc pc = .ok (.invokestatic 338, 3)) (kk : G X R RX0 nL cc h k n (pc + 3) L (.long (lI z) :: st)) : G X R RX0 nL cc h k n pc L (.long (lI b) :: .long (lI a) :: st) := by
  subst hz
  exact ps_run (m_J3_subtractExact _ _ a b h1 h0) (lw_S q990 q991 q114 q992) (show ga_nn' yJ3_subtractExact 2 from (by unfold ga_nn'; decide +kernel)) hR hk hs d rfl kk
set_option maxHeartbeats 4000000 in
set_option maxRecDepth 100000 in
theorem m_J3_abs (l : Launch) (D : ga_G) (a : Int) (h1 : -2147483648 < a ∧ a < 2147483648) : pS l D yJ3_abs (ws_ yJ3_abs cJ3_abs 1 (some .int)) (gR 0) [.int (iI a)] (some (.int (iI (a.natAbs : Int)))) := by
  intro h
  refine ga_metF (own := RJ3) 0 (by decide +kernel) rfl (Nat.le_of_ble_eq_true rfl) (L0 := [some (.int (iI a))]) rfl (fun X _ _ hE => ?_)
  refine ga_iload_n (pc := 0) dJ3_abs_0 rfl ?_
  refine ga_if_ge (pc := 1) (tgt := 9) dJ3_abs_1 rfl (by omega) (fun c1 => ?_) (fun c1 => ?_)
  · skip
    refine ga_iload_n (pc := 9) dJ3_abs_9 rfl ?_
    exact ga_iret hE dJ3_abs_10 (Nat.le_of_ble_eq_true rfl) (Nat.le_of_ble_eq_true rfl) (⟨congrArg (fun z => some (Value.int (iI z))) (by omega), rfl⟩)
  · skip
    refine ga_iload_n (pc := 4) dJ3_abs_4 rfl ?_
    refine ga_ineg (pc := 5) dJ3_abs_5 ?_
    refine ga_goto (pc := 6) (tgt := 10) dJ3_abs_6 rfl ?_
    exact ga_iret hE dJ3_abs_10 (Nat.le_of_ble_eq_true rfl) (Nat.le_of_ble_eq_true rfl) (⟨congrArg (fun z => some (Value.int (iI z))) (by omega), rfl⟩)
theorem k_J3_abs_X0 {X : ga_X} {R : Room} {nL : Nat} {cc : ByteArray} {h : ga_H} {k n pc : Nat} {L : List (Option Value)} {st : List Value} {a : Int} {z : Int} (h1 : -2147483648 < a ∧ a < 2147483648) (hz : (a.natAbs : Int) = z) (hR : 0 + 1 ≤ R.frames ∧ 19 + 1 + 64 * 0 ≤ R.locals) (hk : k ≤ R.cells ∧ n ≤ R.slots) (hs : (st.map fun v => v.category).sum ≤ 8) (d : decode cc pc = .ok (.invokestatic 295, 3)) (kk : G X R RX0 nL cc h k n (pc + 3) L (.int (iI z) :: st)) : G X R RX0 nL cc h k n pc L (.int (iI a) :: st) := by
  subst hz
  exact ps_run (m_J3_abs _ _ a h1) (lw_S q939 q940 q114 q941) (show ga_nn' yJ3_abs 1 from (by unfold ga_nn'; decide +kernel)) hR hk hs d rfl kk
set_option maxHeartbeats 4000000 in
set_option maxRecDepth 100000 in
theorem m_J3_abs_2 (l : Launch) (D : ga_G) (a : Int) (h1 : (-9223372036854775808 ≤ a ∧ a < 9223372036854775808)) : pS l D yJ3_abs_2 (ws_ yJ3_abs_2 cJ3_abs_2 2 (some .long)) (gR 0) [.long (lI a)] (some (.long (lI (a.natAbs : Int)))) := by
  intro h
  refine ga_metF (own := RJ3) 0 (by decide +kernel) rfl (Nat.le_of_ble_eq_true rfl) (L0 := [some (.long (lI a)), none]) rfl (fun X _ _ hE => ?_)
  refine ga_lload_n (pc := 0) dJ3_abs_2_0 rfl ?_
  refine ga_lconst (pc := 1) 0 dJ3_abs_2_1 rfl ?_
  refine ga_lcmp (pc := 2) dJ3_abs_2_2 (by omega) (by omega) ?_
  refine ga_ifc_ge (pc := 3) (tgt := 11) dJ3_abs_2_3 rfl (fun c3 => ?_) (fun c3 => ?_)
  · skip
    refine ga_lload_n (pc := 11) dJ3_abs_2_11 rfl ?_
    exact ga_lret hE dJ3_abs_2_12 (Nat.le_of_ble_eq_true rfl) (Nat.le_of_ble_eq_true rfl) (⟨congrArg (fun z => some (Value.long (lI z))) (by omega), rfl⟩)
  · skip
    refine ga_lload_n (pc := 6) dJ3_abs_2_6 rfl ?_
    refine ga_lneg (pc := 7) dJ3_abs_2_7 ?_
    refine ga_goto (pc := 8) (tgt := 12) dJ3_abs_2_8 rfl ?_
    exact ga_lret hE dJ3_abs_2_12 (Nat.le_of_ble_eq_true rfl) (Nat.le_of_ble_eq_true rfl) (⟨congrArg (fun z => some (Value.long (lI z))) (by omega), rfl⟩)
theorem k_J3_abs_2 {X : ga_X} {R : Room} {nL : Nat} {cc : ByteArray} {h : ga_H} {k n pc : Nat} {L : List (Option Value)} {st : List Value} {a : Int} {z : Int} (h1 : (-9223372036854775808 ≤ a ∧ a < 9223372036854775808)) (hz : (a.natAbs : Int) = z) (hR : 0 + 1 ≤ R.frames ∧ 19 + 2 + 64 * 0 ≤ R.locals) (hk : k ≤ R.cells ∧ n ≤ R.slots) (hs : (st.map fun v => v.category).sum ≤ 8) (d : decode cc pc = .ok (.invokestatic 122, 3)) (kk : G X R RJ3 nL cc h k n (pc + 3) L (.long (lI z) :: st)) : G X R RJ3 nL cc h k n pc L (.long (lI a) :: st) := by
  subst hz
  exact ps_run (m_J3_abs_2 _ _ a h1) (lw_S q986 q987 q114 q988) (show ga_nn' yJ3_abs_2 1 from (by unfold ga_nn'; decide +kernel)) hR hk hs d rfl kk
set_option maxHeartbeats 4000000 in
set_option maxRecDepth 100000 in
theorem m_J3_multiplyExact (l : Launch) (D : ga_G) (a b : Int) (h1 : (-9223372036854775808 ≤ a ∧ a < 9223372036854775808) ∧ (-9223372036854775808 ≤ b ∧ b < 9223372036854775808)) (h0 : -9223372036854775808 ≤ a * b ∧ a * b < 9223372036854775808) : pS l D yJ3_multiplyExact (ws_ yJ3_multiplyExact cJ3_multiplyExact 10 (some .long)) (gR 1) [.long (lI a), .long (lI b)] (some (.long (lI (a * b)))) := by
  intro h
  refine ga_metF (own := RJ3) 6 (by decide +kernel) rfl (Nat.le_of_ble_eq_true rfl) (L0 := [some (.long (lI a)), none, some (.long (lI b)), none, none, none, none, none, none, none]) rfl (fun X _ _ hE => ?_)
  refine ga_lload_n (pc := 0) dJ3_multiplyExact_0 rfl ?_
  refine ga_lload_n (pc := 1) dJ3_multiplyExact_1 rfl ?_
  refine ga_lmul (pc := 2) dJ3_multiplyExact_2 ?_
  refine ga_lstore (pc := 3) (L1 := [some (.long (lI a)), none, some (.long (lI b)), none, some (.long (lI (a * b))), none, none, none, none, none]) dJ3_multiplyExact_3 rfl (by decide) rfl ?_
  refine ga_lload_n (pc := 5) dJ3_multiplyExact_5 rfl ?_
  refine k_J3_abs_2 (pc := 6) (a := a) (by omega) (rfl) ⟨Nat.le_of_ble_eq_true rfl, Nat.le_of_ble_eq_true rfl⟩ ⟨Nat.le_of_ble_eq_true rfl, Nat.le_of_ble_eq_true rfl⟩ (Nat.le_of_ble_eq_true rfl) dJ3_multiplyExact_6 ?_
  refine ga_lstore (pc := 9) (L1 := [some (.long (lI a)), none, some (.long (lI b)), none, some (.long (lI (a * b))), none, some (.long (lI (a.natAbs : Int))), none, none, none]) dJ3_multiplyExact_9 rfl (by decide) rfl ?_
  refine ga_lload_n (pc := 11) dJ3_multiplyExact_11 rfl ?_
  refine k_J3_abs_2 (pc := 12) (a := b) (by omega) (rfl) ⟨Nat.le_of_ble_eq_true rfl, Nat.le_of_ble_eq_true rfl⟩ ⟨Nat.le_of_ble_eq_true rfl, Nat.le_of_ble_eq_true rfl⟩ (Nat.le_of_ble_eq_true rfl) dJ3_multiplyExact_12 ?_
  refine ga_lstore (pc := 15) (L1 := [some (.long (lI a)), none, some (.long (lI b)), none, some (.long (lI (a * b))), none, some (.long (lI (a.natAbs : Int))), none, some (.long (lI (b.natAbs : Int))), none]) dJ3_multiplyExact_15 rfl (by decide) rfl ?_
  refine ga_lload (pc := 17) dJ3_multiplyExact_17 rfl ?_
  refine ga_lload (pc := 19) dJ3_multiplyExact_19 rfl ?_
  refine ga_lor (pc := 21) dJ3_multiplyExact_21 ?_
  refine ga_bipush (pc := 22) dJ3_multiplyExact_22 rfl ?_
  refine ga_lushr (pc := 24) dJ3_multiplyExact_24 ?_
  refine ga_lconst (pc := 25) 0 dJ3_multiplyExact_25 rfl ?_
  have hl1 := lushr_r (lor (a.natAbs : Int) (b.natAbs : Int)) 31
  refine ga_lcmp (pc := 26) dJ3_multiplyExact_26 (by omega) (by omega) ?_
  refine ga_ifc_eq (pc := 27) (tgt := 71) dJ3_multiplyExact_27 rfl (fun c27 => ?_) (fun c27 => ?_)
  · skip
    refine ga_lload (pc := 71) dJ3_multiplyExact_71 rfl ?_
    exact ga_lret hE dJ3_multiplyExact_73 (Nat.le_of_ble_eq_true rfl) (Nat.le_of_ble_eq_true rfl) (⟨congrArg (fun z => some (Value.long (lI z))) (rfl), rfl⟩)
  · skip
    refine ga_lload_n (pc := 30) dJ3_multiplyExact_30 rfl ?_
    refine ga_lconst (pc := 31) 0 dJ3_multiplyExact_31 rfl ?_
    refine ga_lcmp (pc := 32) dJ3_multiplyExact_32 (by omega) (by omega) ?_
    refine ga_ifc_eq (pc := 33) (tgt := 45) dJ3_multiplyExact_33 rfl (fun c33 => ?_) (fun c33 => ?_)
    · skip
      refine ga_lload_n (pc := 45) dJ3_multiplyExact_45 rfl ?_
      refine ga_ldc2 (pc := 46) (-9223372036854775808) dJ3_multiplyExact_46 q708 rfl ?_
      have hmo : ¬ (a = -9223372036854775808 ∧ b = -1) := fun z => by rw [z.1, z.2] at h0; omega
      refine ga_lcmp (pc := 49) dJ3_multiplyExact_49 (by omega) (by omega) ?_
      refine ga_ifc_ne (pc := 50) (tgt := 71) dJ3_multiplyExact_50 rfl (fun c50 => ?_) (fun c50 => ?_)
      · skip
        refine ga_lload (pc := 71) dJ3_multiplyExact_71 rfl ?_
        exact ga_lret hE dJ3_multiplyExact_73 (Nat.le_of_ble_eq_true rfl) (Nat.le_of_ble_eq_true rfl) (⟨congrArg (fun z => some (Value.long (lI z))) (rfl), rfl⟩)
      · skip
        refine ga_lload_n (pc := 53) dJ3_multiplyExact_53 rfl ?_
        refine ga_ldc2 (pc := 54) (-1) dJ3_multiplyExact_54 q989 rfl ?_
        refine ga_lcmp (pc := 57) dJ3_multiplyExact_57 (by omega) (by omega) ?_
        refine ga_ifc_ne (pc := 58) (tgt := 71) dJ3_multiplyExact_58 rfl (fun c58 => ?_) (fun c58 => ?_)
        · skip
          refine ga_lload (pc := 71) dJ3_multiplyExact_71 rfl ?_
          exact ga_lret hE dJ3_multiplyExact_73 (Nat.le_of_ble_eq_true rfl) (Nat.le_of_ble_eq_true rfl) (⟨congrArg (fun z => some (Value.long (lI z))) (rfl), rfl⟩)
        · exact absurd c58 (by omega)
    · skip
      refine ga_lload (pc := 36) dJ3_multiplyExact_36 rfl ?_
      refine ga_lload_n (pc := 38) dJ3_multiplyExact_38 rfl ?_
      have hdv : (a * b).tdiv b = a := Int.mul_tdiv_cancel a (by omega)
      refine ga_ldiv (pc := 39) dJ3_multiplyExact_39 (by omega) (by omega) (by omega) ?_
      refine ga_lload_n (pc := 40) dJ3_multiplyExact_40 rfl ?_
      refine ga_lcmp (pc := 41) dJ3_multiplyExact_41 (by omega) (by omega) ?_
      refine ga_ifc_ne (pc := 42) (tgt := 61) dJ3_multiplyExact_42 rfl (fun c42 => ?_) (fun c42 => ?_)
      · exact absurd c42 (by omega)
      · skip
        refine ga_lload_n (pc := 45) dJ3_multiplyExact_45 rfl ?_
        refine ga_ldc2 (pc := 46) (-9223372036854775808) dJ3_multiplyExact_46 q708 rfl ?_
        have hmo : ¬ (a = -9223372036854775808 ∧ b = -1) := fun z => by rw [z.1, z.2] at h0; omega
        refine ga_lcmp (pc := 49) dJ3_multiplyExact_49 (by omega) (by omega) ?_
        refine ga_ifc_ne (pc := 50) (tgt := 71) dJ3_multiplyExact_50 rfl (fun c50 => ?_) (fun c50 => ?_)
        · skip
          refine ga_lload (pc := 71) dJ3_multiplyExact_71 rfl ?_
          exact ga_lret hE dJ3_multiplyExact_73 (Nat.le_of_ble_eq_true rfl) (Nat.le_of_ble_eq_true rfl) (⟨congrArg (fun z => some (Value.long (lI z))) (rfl), rfl⟩)
        · skip
          refine ga_lload_n (pc := 53) dJ3_multiplyExact_53 rfl ?_
          refine ga_ldc2 (pc := 54) (-1) dJ3_multiplyExact_54 q989 rfl ?_
          refine ga_lcmp (pc := 57) dJ3_multiplyExact_57 (by omega) (by omega) ?_
          refine ga_ifc_ne (pc := 58) (tgt := 71) dJ3_multiplyExact_58 rfl (fun c58 => ?_) (fun c58 => ?_)
          · skip
            refine ga_lload (pc := 71) dJ3_multiplyExact_71 rfl ?_
            exact ga_lret hE dJ3_multiplyExact_73 (Nat.le_of_ble_eq_true rfl) (Nat.le_of_ble_eq_true rfl) (⟨congrArg (fun z => some (Value.long (lI z))) (rfl), rfl⟩)
          · exact absurd c58 (by omega)
theorem k_J3_multiplyExact_X0 {X : ga_X} {R : Room} {nL : Nat} {cc : ByteArray} {h : ga_H} {k n pc : Nat} {L : List (Option Value)} {st : List Value} {a b : Int} {z : Int} (h1 : (-9223372036854775808 ≤ a ∧ a < 9223372036854775808) ∧ (-9223372036854775808 ≤ b ∧ b < 9223372036854775808)) (h0 : -9223372036854775808 ≤ a * b ∧ a * b < 9223372036854775808) (hz : (a * b) = z) (hR : 1 + 1 ≤ R.frames ∧ 19 + 10 + 64 * 1 ≤ R.locals) (hk : k ≤ R.cells ∧ n ≤ R.slots) (hs : (st.map fun v => v.category).sum ≤ 8) (d : decode cc pc = .ok (.invokestatic 335, 3)) (kk : G X R RX0 nL cc h k n (pc + 3) L (.long (lI z) :: st)) : G X R RX0 nL cc h k n pc L (.long (lI b) :: .long (lI a) :: st) := by
  subst hz
  exact ps_run (m_J3_multiplyExact _ _ a b h1 h0) (lw_S q983 q984 q114 q985) (show ga_nn' yJ3_multiplyExact 2 from (by unfold ga_nn'; decide +kernel)) hR hk hs d rfl kk
set_option maxHeartbeats 4000000 in
set_option maxRecDepth 100000 in
theorem m_J3_negateExact (l : Launch) (D : ga_G) (a : Int) (h1 : -9223372036854775808 < a ∧ a < 9223372036854775808) : pS l D yJ3_negateExact (ws_ yJ3_negateExact cJ3_negateExact 2 (some .long)) (gR 0) [.long (lI a)] (some (.long (lI (-a)))) := by
  intro h
  refine ga_metF (own := RJ3) 0 (by decide +kernel) rfl (Nat.le_of_ble_eq_true rfl) (L0 := [some (.long (lI a)), none]) rfl (fun X _ _ hE => ?_)
  refine ga_lload_n (pc := 0) dJ3_negateExact_0 rfl ?_
  refine ga_ldc2 (pc := 1) (-9223372036854775808) dJ3_negateExact_1 q708 rfl ?_
  refine ga_lcmp (pc := 4) dJ3_negateExact_4 (by omega) (by omega) ?_
  refine ga_ifc_ne (pc := 5) (tgt := 18) dJ3_negateExact_5 rfl (fun c5 => ?_) (fun c5 => ?_)
  · skip
    refine ga_lload_n (pc := 18) dJ3_negateExact_18 rfl ?_
    refine ga_lneg (pc := 19) dJ3_negateExact_19 ?_
    exact ga_lret hE dJ3_negateExact_20 (Nat.le_of_ble_eq_true rfl) (Nat.le_of_ble_eq_true rfl) (⟨congrArg (fun z => some (Value.long (lI z))) (rfl), rfl⟩)
  · exact absurd c5 (by omega)
theorem k_J3_negateExact_X0 {X : ga_X} {R : Room} {nL : Nat} {cc : ByteArray} {h : ga_H} {k n pc : Nat} {L : List (Option Value)} {st : List Value} {a : Int} {z : Int} (h1 : -9223372036854775808 < a ∧ a < 9223372036854775808) (hz : (-a) = z) (hR : 0 + 1 ≤ R.frames ∧ 19 + 2 + 64 * 0 ≤ R.locals) (hk : k ≤ R.cells ∧ n ≤ R.slots) (hs : (st.map fun v => v.category).sum ≤ 8) (d : decode cc pc = .ok (.invokestatic 382, 3)) (kk : G X R RX0 nL cc h k n (pc + 3) L (.long (lI z) :: st)) : G X R RX0 nL cc h k n pc L (.long (lI a) :: st) := by
  subst hz
  exact ps_run (m_J3_negateExact _ _ a h1) (lw_S q705 q706 q114 q707) (show ga_nn' yJ3_negateExact 1 from (by unfold ga_nn'; decide +kernel)) hR hk hs d rfl kk
