/-! THE CLASS: small methods -/
set_option maxHeartbeats 4000000 in
set_option maxRecDepth 100000 in
theorem m_X0_isIn (l : Launch) (D : ga_G) (a b e : Int) (h1 : (-2147483648 ≤ a ∧ a < 2147483648) ∧ (-2147483648 ≤ b ∧ b < 2147483648) ∧ (-2147483648 ≤ e ∧ e < 2147483648)) : pS l D yX0_isIn (ws_ yX0_isIn cX0_isIn 3 (some .boolean)) (gR 0) [.int (iI a), .int (iI b), .int (iI e)] (some (.int (iI (bI (b ≤ a ∧ a ≤ e))))) := by
  intro h
  refine ga_met (own := RX0) 0 (by decide) rfl (Nat.le_of_ble_eq_true rfl) (L0 := [some (.int (iI a)), some (.int (iI b)), some (.int (iI e))]) rfl (fun X _ _ hE => ?_)
  refine ga_iload_n (pc := 0) dX0_isIn_0 rfl ?_
  refine ga_iload_n (pc := 1) dX0_isIn_1 rfl ?_
  refine ga_icmp_lt (pc := 2) (tgt := 14) dX0_isIn_2 rfl (by omega) (by omega) (fun c2 => ?_) (fun c2 => ?_)
  · skip
    refine ga_iconst (pc := 14) dX0_isIn_14 ?_
    exact ga_zret hE dX0_isIn_15 (Nat.le_of_ble_eq_true rfl) (Nat.le_of_ble_eq_true rfl) (by first | exact Or.inl rfl | exact Or.inr rfl) (⟨congrArg (fun z => some (Value.int (iI z))) ((bI_f (by omega)).symm), rfl⟩)
  · skip
    refine ga_iload_n (pc := 5) dX0_isIn_5 rfl ?_
    refine ga_iload_n (pc := 6) dX0_isIn_6 rfl ?_
    refine ga_icmp_gt (pc := 7) (tgt := 14) dX0_isIn_7 rfl (by omega) (by omega) (fun c7 => ?_) (fun c7 => ?_)
    · skip
      refine ga_iconst (pc := 14) dX0_isIn_14 ?_
      exact ga_zret hE dX0_isIn_15 (Nat.le_of_ble_eq_true rfl) (Nat.le_of_ble_eq_true rfl) (by first | exact Or.inl rfl | exact Or.inr rfl) (⟨congrArg (fun z => some (Value.int (iI z))) ((bI_f (by omega)).symm), rfl⟩)
    · skip
      refine ga_iconst (pc := 10) dX0_isIn_10 ?_
      refine ga_goto (pc := 11) (tgt := 15) dX0_isIn_11 rfl ?_
      exact ga_zret hE dX0_isIn_15 (Nat.le_of_ble_eq_true rfl) (Nat.le_of_ble_eq_true rfl) (by first | exact Or.inl rfl | exact Or.inr rfl) (⟨congrArg (fun z => some (Value.int (iI z))) ((bI_t (by omega)).symm), rfl⟩)
theorem k_X0_isIn {X : ga_X} {R : Room} {nL : Nat} {cc : ByteArray} {h : ga_H} {k n pc : Nat} {L : List (Option Value)} {st : List Value} {a b e : Int} {z : Int} (h1 : (-2147483648 ≤ a ∧ a < 2147483648) ∧ (-2147483648 ≤ b ∧ b < 2147483648) ∧ (-2147483648 ≤ e ∧ e < 2147483648)) (hz : (bI (b ≤ a ∧ a ≤ e)) = z) (hR : 0 + 1 ≤ R.frames ∧ 19 + 3 + 64 * 0 ≤ R.locals) (hk : k ≤ R.cells ∧ n ≤ R.slots) (hs : (st.map fun v => v.category).sum ≤ 8) (d : decode cc pc = .ok (.invokestatic 130, 3)) (kk : G X R RX0 nL cc h k n (pc + 3) L (.int (iI z) :: st)) : G X R RX0 nL cc h k n pc L (.int (iI e) :: .int (iI b) :: .int (iI a) :: st) := by
  subst hz
  exact ps_run (m_X0_isIn _ _ a b e h1) (lw_S q457 q458 q102 q459) (show ga_nn' yX0_isIn 3 from (by unfold ga_nn'; decide +kernel)) hR hk hs d rfl kk
theorem k_X0_isIn_X5 {X : ga_X} {R : Room} {nL : Nat} {cc : ByteArray} {h : ga_H} {k n pc : Nat} {L : List (Option Value)} {st : List Value} {a b e : Int} {z : Int} (h1 : (-2147483648 ≤ a ∧ a < 2147483648) ∧ (-2147483648 ≤ b ∧ b < 2147483648) ∧ (-2147483648 ≤ e ∧ e < 2147483648)) (hz : (bI (b ≤ a ∧ a ≤ e)) = z) (hR : 0 + 1 ≤ R.frames ∧ 19 + 3 + 64 * 0 ≤ R.locals) (hk : k ≤ R.cells ∧ n ≤ R.slots) (hs : (st.map fun v => v.category).sum ≤ 8) (d : decode cc pc = .ok (.invokestatic 28, 3)) (kk : G X R RX5 nL cc h k n (pc + 3) L (.int (iI z) :: st)) : G X R RX5 nL cc h k n pc L (.int (iI e) :: .int (iI b) :: .int (iI a) :: st) := by
  subst hz
  exact ps_runN (m_X0_isIn _ _ a b e h1) (ga_nt q476 rfl) q458 q102 q459 (show ga_nn' yX0_isIn 3 from (by unfold ga_nn'; decide +kernel)) hR hk hs d rfl kk
set_option maxHeartbeats 4000000 in
set_option maxRecDepth 100000 in
theorem m_X0_far (l : Launch) (D : ga_G) (a : Int) (h1 : (-2147483648 ≤ a ∧ a < 2147483648)) : pS l D yX0_far (ws_ yX0_far cX0_far 1 (some .long)) (gR 0) [.int (iI a)] (some (.long (lI (-4000000000000000000 + a)))) := by
  intro h
  refine ga_met (own := RX0) 0 (by decide) rfl (Nat.le_of_ble_eq_true rfl) (L0 := [some (.int (iI a))]) rfl (fun X _ _ hE => ?_)
  refine ga_ldc2 (pc := 0) (-4000000000000000000) dX0_far_0 q535 rfl ?_
  refine ga_iload_n (pc := 3) dX0_far_3 rfl ?_
  refine ga_i2l (pc := 4) dX0_far_4 (by omega) ?_
  refine ga_ladd (pc := 5) dX0_far_5 ?_
  exact ga_lret hE dX0_far_6 (Nat.le_of_ble_eq_true rfl) (Nat.le_of_ble_eq_true rfl) (⟨congrArg (fun z => some (Value.long (lI z))) (by first | rfl | omega | ((repeat' split) <;> omega)), rfl⟩)
theorem k_X0_far {X : ga_X} {R : Room} {nL : Nat} {cc : ByteArray} {h : ga_H} {k n pc : Nat} {L : List (Option Value)} {st : List Value} {a : Int} {z : Int} (h1 : (-2147483648 ≤ a ∧ a < 2147483648)) (hz : (-4000000000000000000 + a) = z) (hR : 0 + 1 ≤ R.frames ∧ 19 + 1 + 64 * 0 ≤ R.locals) (hk : k ≤ R.cells ∧ n ≤ R.slots) (hs : (st.map fun v => v.category).sum ≤ 8) (d : decode cc pc = .ok (.invokestatic 203, 3)) (kk : G X R RX0 nL cc h k n (pc + 3) L (.long (lI z) :: st)) : G X R RX0 nL cc h k n pc L (.int (iI a) :: st) := by
  subst hz
  exact ps_run (m_X0_far _ _ a h1) (lw_S q532 q533 q102 q534) (show ga_nn' yX0_far 1 from (by unfold ga_nn'; decide +kernel)) hR hk hs d rfl kk
set_option maxHeartbeats 4000000 in
set_option maxRecDepth 100000 in
theorem m_X0_isKind (l : Launch) (D : ga_G) (a : Int) (h1 : (-2147483648 ≤ a ∧ a < 2147483648)) : pS l D yX0_isKind (ws_ yX0_isKind cX0_isKind 1 (some .boolean)) (gR 1) [.int (iI a)] (some (.int (iI (bI (0 ≤ a ∧ a ≤ 6))))) := by
  intro h
  refine ga_met (own := RX0) 0 (by decide) rfl (Nat.le_of_ble_eq_true rfl) (L0 := [some (.int (iI a))]) rfl (fun X _ _ hE => ?_)
  refine ga_iload_n (pc := 0) dX0_isKind_0 rfl ?_
  refine ga_iconst (pc := 1) dX0_isKind_1 ?_
  refine ga_bipush (pc := 2) dX0_isKind_2 rfl ?_
  refine k_X0_isIn (pc := 4) (a := a) (b := 0) (e := 6) (by omega) (rfl) ⟨Nat.le_of_ble_eq_true rfl, Nat.le_of_ble_eq_true rfl⟩ ⟨Nat.le_of_ble_eq_true rfl, Nat.le_of_ble_eq_true rfl⟩ (Nat.le_of_ble_eq_true rfl) dX0_isKind_4 ?_
  exact ga_zret hE dX0_isKind_7 (Nat.le_of_ble_eq_true rfl) (Nat.le_of_ble_eq_true rfl) (by unfold bI; split <;> simp) (⟨congrArg (fun z => some (Value.int (iI z))) (rfl), rfl⟩)
theorem k_X0_isKind {X : ga_X} {R : Room} {nL : Nat} {cc : ByteArray} {h : ga_H} {k n pc : Nat} {L : List (Option Value)} {st : List Value} {a : Int} {z : Int} (h1 : (-2147483648 ≤ a ∧ a < 2147483648)) (hz : (bI (0 ≤ a ∧ a ≤ 6)) = z) (hR : 1 + 1 ≤ R.frames ∧ 19 + 1 + 64 * 1 ≤ R.locals) (hk : k ≤ R.cells ∧ n ≤ R.slots) (hs : (st.map fun v => v.category).sum ≤ 8) (d : decode cc pc = .ok (.invokestatic 394, 3)) (kk : G X R RX0 nL cc h k n (pc + 3) L (.int (iI z) :: st)) : G X R RX0 nL cc h k n pc L (.int (iI a) :: st) := by
  subst hz
  exact ps_run (m_X0_isKind _ _ a h1) (lw_S q713 q714 q102 q715) (show ga_nn' yX0_isKind 1 from (by unfold ga_nn'; decide +kernel)) hR hk hs d rfl kk
set_option maxHeartbeats 4000000 in
set_option maxRecDepth 100000 in
theorem m_X0_isShift (l : Launch) (D : ga_G) (a : Int) (h1 : (-2147483648 ≤ a ∧ a < 2147483648)) : pS l D yX0_isShift (ws_ yX0_isShift cX0_isShift 1 (some .boolean)) (gR 1) [.int (iI a)] (some (.int (iI (bI ((-2) ≤ a ∧ a ≤ 2))))) := by
  intro h
  refine ga_met (own := RX0) 0 (by decide) rfl (Nat.le_of_ble_eq_true rfl) (L0 := [some (.int (iI a))]) rfl (fun X _ _ hE => ?_)
  refine ga_iload_n (pc := 0) dX0_isShift_0 rfl ?_
  refine ga_bipush (pc := 1) dX0_isShift_1 rfl ?_
  refine ga_iconst (pc := 3) dX0_isShift_3 ?_
  refine k_X0_isIn (pc := 4) (a := a) (b := (-2)) (e := 2) (by omega) (rfl) ⟨Nat.le_of_ble_eq_true rfl, Nat.le_of_ble_eq_true rfl⟩ ⟨Nat.le_of_ble_eq_true rfl, Nat.le_of_ble_eq_true rfl⟩ (Nat.le_of_ble_eq_true rfl) dX0_isShift_4 ?_
  exact ga_zret hE dX0_isShift_7 (Nat.le_of_ble_eq_true rfl) (Nat.le_of_ble_eq_true rfl) (by unfold bI; split <;> simp) (⟨congrArg (fun z => some (Value.int (iI z))) (rfl), rfl⟩)
theorem k_X0_isShift {X : ga_X} {R : Room} {nL : Nat} {cc : ByteArray} {h : ga_H} {k n pc : Nat} {L : List (Option Value)} {st : List Value} {a : Int} {z : Int} (h1 : (-2147483648 ≤ a ∧ a < 2147483648)) (hz : (bI ((-2) ≤ a ∧ a ≤ 2)) = z) (hR : 1 + 1 ≤ R.frames ∧ 19 + 1 + 64 * 1 ≤ R.locals) (hk : k ≤ R.cells ∧ n ≤ R.slots) (hs : (st.map fun v => v.category).sum ≤ 8) (d : decode cc pc = .ok (.invokestatic 397, 3)) (kk : G X R RX0 nL cc h k n (pc + 3) L (.int (iI z) :: st)) : G X R RX0 nL cc h k n pc L (.int (iI a) :: st) := by
  subst hz
  exact ps_run (m_X0_isShift _ _ a h1) (lw_S q716 q717 q102 q718) (show ga_nn' yX0_isShift 1 from (by unfold ga_nn'; decide +kernel)) hR hk hs d rfl kk
set_option maxHeartbeats 4000000 in
set_option maxRecDepth 100000 in
theorem m_X0_isPart (l : Launch) (D : ga_G) (a : Int) (h1 : (-2147483648 ≤ a ∧ a < 2147483648)) : pS l D yX0_isPart (ws_ yX0_isPart cX0_isPart 1 (some .boolean)) (gR 1) [.int (iI a)] (some (.int (iI (bI (0 ≤ a ∧ a ≤ 1))))) := by
  intro h
  refine ga_met (own := RX0) 0 (by decide) rfl (Nat.le_of_ble_eq_true rfl) (L0 := [some (.int (iI a))]) rfl (fun X _ _ hE => ?_)
  refine ga_iload_n (pc := 0) dX0_isPart_0 rfl ?_
  refine ga_iconst (pc := 1) dX0_isPart_1 ?_
  refine ga_iconst (pc := 2) dX0_isPart_2 ?_
  refine k_X0_isIn (pc := 3) (a := a) (b := 0) (e := 1) (by omega) (rfl) ⟨Nat.le_of_ble_eq_true rfl, Nat.le_of_ble_eq_true rfl⟩ ⟨Nat.le_of_ble_eq_true rfl, Nat.le_of_ble_eq_true rfl⟩ (Nat.le_of_ble_eq_true rfl) dX0_isPart_3 ?_
  exact ga_zret hE dX0_isPart_6 (Nat.le_of_ble_eq_true rfl) (Nat.le_of_ble_eq_true rfl) (by unfold bI; split <;> simp) (⟨congrArg (fun z => some (Value.int (iI z))) (rfl), rfl⟩)
theorem k_X0_isPart {X : ga_X} {R : Room} {nL : Nat} {cc : ByteArray} {h : ga_H} {k n pc : Nat} {L : List (Option Value)} {st : List Value} {a : Int} {z : Int} (h1 : (-2147483648 ≤ a ∧ a < 2147483648)) (hz : (bI (0 ≤ a ∧ a ≤ 1)) = z) (hR : 1 + 1 ≤ R.frames ∧ 19 + 1 + 64 * 1 ≤ R.locals) (hk : k ≤ R.cells ∧ n ≤ R.slots) (hs : (st.map fun v => v.category).sum ≤ 8) (d : decode cc pc = .ok (.invokestatic 385, 3)) (kk : G X R RX0 nL cc h k n (pc + 3) L (.int (iI z) :: st)) : G X R RX0 nL cc h k n pc L (.int (iI a) :: st) := by
  subst hz
  exact ps_run (m_X0_isPart _ _ a h1) (lw_S q688 q689 q102 q690) (show ga_nn' yX0_isPart 1 from (by unfold ga_nn'; decide +kernel)) hR hk hs d rfl kk
set_option maxHeartbeats 4000000 in
set_option maxRecDepth 100000 in
theorem m_X0_isTable (l : Launch) (D : ga_G) (a : Int) (h1 : (-2147483648 ≤ a ∧ a < 2147483648)) : pS l D yX0_isTable (ws_ yX0_isTable cX0_isTable 1 (some .boolean)) (gR 1) [.int (iI a)] (some (.int (iI (bI (0 ≤ a ∧ a ≤ 2))))) := by
  intro h
  refine ga_met (own := RX0) 0 (by decide) rfl (Nat.le_of_ble_eq_true rfl) (L0 := [some (.int (iI a))]) rfl (fun X _ _ hE => ?_)
  refine ga_iload_n (pc := 0) dX0_isTable_0 rfl ?_
  refine ga_iconst (pc := 1) dX0_isTable_1 ?_
  refine ga_iconst (pc := 2) dX0_isTable_2 ?_
  refine k_X0_isIn (pc := 3) (a := a) (b := 0) (e := 2) (by omega) (rfl) ⟨Nat.le_of_ble_eq_true rfl, Nat.le_of_ble_eq_true rfl⟩ ⟨Nat.le_of_ble_eq_true rfl, Nat.le_of_ble_eq_true rfl⟩ (Nat.le_of_ble_eq_true rfl) dX0_isTable_3 ?_
  exact ga_zret hE dX0_isTable_6 (Nat.le_of_ble_eq_true rfl) (Nat.le_of_ble_eq_true rfl) (by unfold bI; split <;> simp) (⟨congrArg (fun z => some (Value.int (iI z))) (rfl), rfl⟩)
theorem k_X0_isTable {X : ga_X} {R : Room} {nL : Nat} {cc : ByteArray} {h : ga_H} {k n pc : Nat} {L : List (Option Value)} {st : List Value} {a : Int} {z : Int} (h1 : (-2147483648 ≤ a ∧ a < 2147483648)) (hz : (bI (0 ≤ a ∧ a ≤ 2)) = z) (hR : 1 + 1 ≤ R.frames ∧ 19 + 1 + 64 * 1 ≤ R.locals) (hk : k ≤ R.cells ∧ n ≤ R.slots) (hs : (st.map fun v => v.category).sum ≤ 8) (d : decode cc pc = .ok (.invokestatic 156, 3)) (kk : G X R RX0 nL cc h k n (pc + 3) L (.int (iI z) :: st)) : G X R RX0 nL cc h k n pc L (.int (iI a) :: st) := by
  subst hz
  exact ps_run (m_X0_isTable _ _ a h1) (lw_S q465 q466 q102 q467) (show ga_nn' yX0_isTable 1 from (by unfold ga_nn'; decide +kernel)) hR hk hs d rfl kk
set_option maxHeartbeats 4000000 in
set_option maxRecDepth 100000 in
theorem m_X0_isShelf (l : Launch) (D : ga_G) (a : Int) (h1 : (-2147483648 ≤ a ∧ a < 2147483648)) : pS l D yX0_isShelf (ws_ yX0_isShelf cX0_isShelf 1 (some .boolean)) (gR 1) [.int (iI a)] (some (.int (iI (bI (0 ≤ a ∧ a ≤ 3))))) := by
  intro h
  refine ga_met (own := RX0) 0 (by decide) rfl (Nat.le_of_ble_eq_true rfl) (L0 := [some (.int (iI a))]) rfl (fun X _ _ hE => ?_)
  refine ga_iload_n (pc := 0) dX0_isShelf_0 rfl ?_
  refine ga_iconst (pc := 1) dX0_isShelf_1 ?_
  refine ga_iconst (pc := 2) dX0_isShelf_2 ?_
  refine k_X0_isIn (pc := 3) (a := a) (b := 0) (e := 3) (by omega) (rfl) ⟨Nat.le_of_ble_eq_true rfl, Nat.le_of_ble_eq_true rfl⟩ ⟨Nat.le_of_ble_eq_true rfl, Nat.le_of_ble_eq_true rfl⟩ (Nat.le_of_ble_eq_true rfl) dX0_isShelf_3 ?_
  exact ga_zret hE dX0_isShelf_6 (Nat.le_of_ble_eq_true rfl) (Nat.le_of_ble_eq_true rfl) (by unfold bI; split <;> simp) (⟨congrArg (fun z => some (Value.int (iI z))) (rfl), rfl⟩)
theorem k_X0_isShelf {X : ga_X} {R : Room} {nL : Nat} {cc : ByteArray} {h : ga_H} {k n pc : Nat} {L : List (Option Value)} {st : List Value} {a : Int} {z : Int} (h1 : (-2147483648 ≤ a ∧ a < 2147483648)) (hz : (bI (0 ≤ a ∧ a ≤ 3)) = z) (hR : 1 + 1 ≤ R.frames ∧ 19 + 1 + 64 * 1 ≤ R.locals) (hk : k ≤ R.cells ∧ n ≤ R.slots) (hs : (st.map fun v => v.category).sum ≤ 8) (d : decode cc pc = .ok (.invokestatic 459, 3)) (kk : G X R RX0 nL cc h k n (pc + 3) L (.int (iI z) :: st)) : G X R RX0 nL cc h k n pc L (.int (iI a) :: st) := by
  subst hz
  exact ps_run (m_X0_isShelf _ _ a h1) (lw_S q1115 q1116 q102 q1117) (show ga_nn' yX0_isShelf 1 from (by unfold ga_nn'; decide +kernel)) hR hk hs d rfl kk
set_option maxHeartbeats 4000000 in
set_option maxRecDepth 100000 in
theorem m_X0_isDigit (l : Launch) (D : ga_G) (b : Int) (h1 : (-2147483648 ≤ b ∧ b < 2147483648)) : pS l D yX0_isDigit (ws_ yX0_isDigit cX0_isDigit 1 (some .boolean)) (gR 0) [.int (iI b)] (some (.int (iI (bI (48 ≤ b ∧ b ≤ 57))))) := by
  intro h
  refine ga_met (own := RX0) 0 (by decide) rfl (Nat.le_of_ble_eq_true rfl) (L0 := [some (.int (iI b))]) rfl (fun X _ _ hE => ?_)
  refine ga_iload_n (pc := 0) dX0_isDigit_0 rfl ?_
  refine ga_bipush (pc := 1) dX0_isDigit_1 rfl ?_
  refine ga_icmp_lt (pc := 3) (tgt := 16) dX0_isDigit_3 rfl (by omega) (by omega) (fun c3 => ?_) (fun c3 => ?_)
  · skip
    refine ga_iconst (pc := 16) dX0_isDigit_16 ?_
    exact ga_zret hE dX0_isDigit_17 (Nat.le_of_ble_eq_true rfl) (Nat.le_of_ble_eq_true rfl) (by first | exact Or.inl rfl | exact Or.inr rfl) (⟨congrArg (fun z => some (Value.int (iI z))) ((bI_f (by omega)).symm), rfl⟩)
  · skip
    refine ga_iload_n (pc := 6) dX0_isDigit_6 rfl ?_
    refine ga_bipush (pc := 7) dX0_isDigit_7 rfl ?_
    refine ga_icmp_gt (pc := 9) (tgt := 16) dX0_isDigit_9 rfl (by omega) (by omega) (fun c9 => ?_) (fun c9 => ?_)
    · skip
      refine ga_iconst (pc := 16) dX0_isDigit_16 ?_
      exact ga_zret hE dX0_isDigit_17 (Nat.le_of_ble_eq_true rfl) (Nat.le_of_ble_eq_true rfl) (by first | exact Or.inl rfl | exact Or.inr rfl) (⟨congrArg (fun z => some (Value.int (iI z))) ((bI_f (by omega)).symm), rfl⟩)
    · skip
      refine ga_iconst (pc := 12) dX0_isDigit_12 ?_
      refine ga_goto (pc := 13) (tgt := 17) dX0_isDigit_13 rfl ?_
      exact ga_zret hE dX0_isDigit_17 (Nat.le_of_ble_eq_true rfl) (Nat.le_of_ble_eq_true rfl) (by first | exact Or.inl rfl | exact Or.inr rfl) (⟨congrArg (fun z => some (Value.int (iI z))) ((bI_t (by omega)).symm), rfl⟩)
theorem k_X0_isDigit {X : ga_X} {R : Room} {nL : Nat} {cc : ByteArray} {h : ga_H} {k n pc : Nat} {L : List (Option Value)} {st : List Value} {b : Int} {z : Int} (h1 : (-2147483648 ≤ b ∧ b < 2147483648)) (hz : (bI (48 ≤ b ∧ b ≤ 57)) = z) (hR : 0 + 1 ≤ R.frames ∧ 19 + 1 + 64 * 0 ≤ R.locals) (hk : k ≤ R.cells ∧ n ≤ R.slots) (hs : (st.map fun v => v.category).sum ≤ 8) (d : decode cc pc = .ok (.invokestatic 229, 3)) (kk : G X R RX0 nL cc h k n (pc + 3) L (.int (iI z) :: st)) : G X R RX0 nL cc h k n pc L (.int (iI b) :: st) := by
  subst hz
  exact ps_run (m_X0_isDigit _ _ b h1) (lw_S q594 q595 q102 q596) (show ga_nn' yX0_isDigit 1 from (by unfold ga_nn'; decide +kernel)) hR hk hs d rfl kk
set_option maxHeartbeats 4000000 in
set_option maxRecDepth 100000 in
theorem m_X0_isLetter (l : Launch) (D : ga_G) (b : Int) (h1 : (-2147483648 ≤ b ∧ b < 2147483648)) : pS l D yX0_isLetter (ws_ yX0_isLetter cX0_isLetter 1 (some .boolean)) (gR 0) [.int (iI b)] (some (.int (iI (bI (97 ≤ b ∧ b ≤ 122))))) := by
  intro h
  refine ga_met (own := RX0) 0 (by decide) rfl (Nat.le_of_ble_eq_true rfl) (L0 := [some (.int (iI b))]) rfl (fun X _ _ hE => ?_)
  refine ga_iload_n (pc := 0) dX0_isLetter_0 rfl ?_
  refine ga_bipush (pc := 1) dX0_isLetter_1 rfl ?_
  refine ga_icmp_lt (pc := 3) (tgt := 16) dX0_isLetter_3 rfl (by omega) (by omega) (fun c3 => ?_) (fun c3 => ?_)
  · skip
    refine ga_iconst (pc := 16) dX0_isLetter_16 ?_
    exact ga_zret hE dX0_isLetter_17 (Nat.le_of_ble_eq_true rfl) (Nat.le_of_ble_eq_true rfl) (by first | exact Or.inl rfl | exact Or.inr rfl) (⟨congrArg (fun z => some (Value.int (iI z))) ((bI_f (by omega)).symm), rfl⟩)
  · skip
    refine ga_iload_n (pc := 6) dX0_isLetter_6 rfl ?_
    refine ga_bipush (pc := 7) dX0_isLetter_7 rfl ?_
    refine ga_icmp_gt (pc := 9) (tgt := 16) dX0_isLetter_9 rfl (by omega) (by omega) (fun c9 => ?_) (fun c9 => ?_)
    · skip
      refine ga_iconst (pc := 16) dX0_isLetter_16 ?_
      exact ga_zret hE dX0_isLetter_17 (Nat.le_of_ble_eq_true rfl) (Nat.le_of_ble_eq_true rfl) (by first | exact Or.inl rfl | exact Or.inr rfl) (⟨congrArg (fun z => some (Value.int (iI z))) ((bI_f (by omega)).symm), rfl⟩)
    · skip
      refine ga_iconst (pc := 12) dX0_isLetter_12 ?_
      refine ga_goto (pc := 13) (tgt := 17) dX0_isLetter_13 rfl ?_
      exact ga_zret hE dX0_isLetter_17 (Nat.le_of_ble_eq_true rfl) (Nat.le_of_ble_eq_true rfl) (by first | exact Or.inl rfl | exact Or.inr rfl) (⟨congrArg (fun z => some (Value.int (iI z))) ((bI_t (by omega)).symm), rfl⟩)
theorem k_X0_isLetter {X : ga_X} {R : Room} {nL : Nat} {cc : ByteArray} {h : ga_H} {k n pc : Nat} {L : List (Option Value)} {st : List Value} {b : Int} {z : Int} (h1 : (-2147483648 ≤ b ∧ b < 2147483648)) (hz : (bI (97 ≤ b ∧ b ≤ 122)) = z) (hR : 0 + 1 ≤ R.frames ∧ 19 + 1 + 64 * 0 ≤ R.locals) (hk : k ≤ R.cells ∧ n ≤ R.slots) (hs : (st.map fun v => v.category).sum ≤ 8) (d : decode cc pc = .ok (.invokestatic 226, 3)) (kk : G X R RX0 nL cc h k n (pc + 3) L (.int (iI z) :: st)) : G X R RX0 nL cc h k n pc L (.int (iI b) :: st) := by
  subst hz
  exact ps_run (m_X0_isLetter _ _ b h1) (lw_S q591 q592 q102 q593) (show ga_nn' yX0_isLetter 1 from (by unfold ga_nn'; decide +kernel)) hR hk hs d rfl kk
set_option maxHeartbeats 4000000 in
set_option maxRecDepth 100000 in
theorem m_X0_mayBe (l : Launch) (D : ga_G) (t v : Int) (h1 : (-2147483648 ≤ t ∧ t < 2147483648) ∧ (-9223372036854775808 ≤ v ∧ v < 9223372036854775808)) : pS l D yX0_mayBe (ws_ yX0_mayBe cX0_mayBe 3 (some .boolean)) (gR 0) [.int (iI t), .long (lI v)] (some (.int (iI (bI ((2 ≤ t ∧ -50 ≤ v ∧ v ≤ 50) ∨ (t < 2 ∧ -5 ≤ v ∧ v ≤ 5)))))) := by
  intro h
  refine ga_met (own := RX0) 0 (by decide) rfl (Nat.le_of_ble_eq_true rfl) (L0 := [some (.int (iI t)), some (.long (lI v)), none]) rfl (fun X _ _ hE => ?_)
  refine ga_lload_n (pc := 0) dX0_mayBe_0 rfl ?_
  refine ga_iload_n (pc := 1) dX0_mayBe_1 rfl ?_
  refine ga_iconst (pc := 2) dX0_mayBe_2 ?_
  refine ga_icmp_ge (pc := 3) (tgt := 11) dX0_mayBe_3 rfl (by omega) (by omega) (fun c3 => ?_) (fun c3 => ?_)
  · skip
    refine ga_bipush (pc := 11) dX0_mayBe_11 rfl ?_
    refine ga_i2l (pc := 13) dX0_mayBe_13 (by omega) ?_
    refine ga_lcmp (pc := 14) dX0_mayBe_14 (by omega) (by omega) ?_
    refine ga_ifc_lt (pc := 15) (tgt := 39) dX0_mayBe_15 rfl (fun c15 => ?_) (fun c15 => ?_)
    · skip
      refine ga_iconst (pc := 39) dX0_mayBe_39 ?_
      exact ga_zret hE dX0_mayBe_40 (Nat.le_of_ble_eq_true rfl) (Nat.le_of_ble_eq_true rfl) (by first | exact Or.inl rfl | exact Or.inr rfl) (⟨congrArg (fun z => some (Value.int (iI z))) ((bI_f (by omega)).symm), rfl⟩)
    · skip
      refine ga_lload_n (pc := 18) dX0_mayBe_18 rfl ?_
      refine ga_iload_n (pc := 19) dX0_mayBe_19 rfl ?_
      refine ga_iconst (pc := 20) dX0_mayBe_20 ?_
      refine ga_icmp_ge (pc := 21) (tgt := 28) dX0_mayBe_21 rfl (by omega) (by omega) (fun c21 => ?_) (fun c21 => ?_)
      · skip
        refine ga_bipush (pc := 28) dX0_mayBe_28 rfl ?_
        refine ga_i2l (pc := 30) dX0_mayBe_30 (by omega) ?_
        refine ga_lcmp (pc := 31) dX0_mayBe_31 (by omega) (by omega) ?_
        refine ga_ifc_gt (pc := 32) (tgt := 39) dX0_mayBe_32 rfl (fun c32 => ?_) (fun c32 => ?_)
        · skip
          refine ga_iconst (pc := 39) dX0_mayBe_39 ?_
          exact ga_zret hE dX0_mayBe_40 (Nat.le_of_ble_eq_true rfl) (Nat.le_of_ble_eq_true rfl) (by first | exact Or.inl rfl | exact Or.inr rfl) (⟨congrArg (fun z => some (Value.int (iI z))) ((bI_f (by omega)).symm), rfl⟩)
        · skip
          refine ga_iconst (pc := 35) dX0_mayBe_35 ?_
          refine ga_goto (pc := 36) (tgt := 40) dX0_mayBe_36 rfl ?_
          exact ga_zret hE dX0_mayBe_40 (Nat.le_of_ble_eq_true rfl) (Nat.le_of_ble_eq_true rfl) (by first | exact Or.inl rfl | exact Or.inr rfl) (⟨congrArg (fun z => some (Value.int (iI z))) ((bI_t (by omega)).symm), rfl⟩)
      · skip
        refine ga_iconst (pc := 24) dX0_mayBe_24 ?_
        refine ga_goto (pc := 25) (tgt := 30) dX0_mayBe_25 rfl ?_
        refine ga_i2l (pc := 30) dX0_mayBe_30 (by omega) ?_
        refine ga_lcmp (pc := 31) dX0_mayBe_31 (by omega) (by omega) ?_
        refine ga_ifc_gt (pc := 32) (tgt := 39) dX0_mayBe_32 rfl (fun c32 => ?_) (fun c32 => ?_)
        · skip
          refine ga_iconst (pc := 39) dX0_mayBe_39 ?_
          exact ga_zret hE dX0_mayBe_40 (Nat.le_of_ble_eq_true rfl) (Nat.le_of_ble_eq_true rfl) (by first | exact Or.inl rfl | exact Or.inr rfl) (⟨congrArg (fun z => some (Value.int (iI z))) ((bI_f (by omega)).symm), rfl⟩)
        · skip
          refine ga_iconst (pc := 35) dX0_mayBe_35 ?_
          refine ga_goto (pc := 36) (tgt := 40) dX0_mayBe_36 rfl ?_
          exact ga_zret hE dX0_mayBe_40 (Nat.le_of_ble_eq_true rfl) (Nat.le_of_ble_eq_true rfl) (by first | exact Or.inl rfl | exact Or.inr rfl) (⟨congrArg (fun z => some (Value.int (iI z))) ((bI_t (by omega)).symm), rfl⟩)
  · skip
    refine ga_bipush (pc := 6) dX0_mayBe_6 rfl ?_
    refine ga_goto (pc := 8) (tgt := 13) dX0_mayBe_8 rfl ?_
    refine ga_i2l (pc := 13) dX0_mayBe_13 (by omega) ?_
    refine ga_lcmp (pc := 14) dX0_mayBe_14 (by omega) (by omega) ?_
    refine ga_ifc_lt (pc := 15) (tgt := 39) dX0_mayBe_15 rfl (fun c15 => ?_) (fun c15 => ?_)
    · skip
      refine ga_iconst (pc := 39) dX0_mayBe_39 ?_
      exact ga_zret hE dX0_mayBe_40 (Nat.le_of_ble_eq_true rfl) (Nat.le_of_ble_eq_true rfl) (by first | exact Or.inl rfl | exact Or.inr rfl) (⟨congrArg (fun z => some (Value.int (iI z))) ((bI_f (by omega)).symm), rfl⟩)
    · skip
      refine ga_lload_n (pc := 18) dX0_mayBe_18 rfl ?_
      refine ga_iload_n (pc := 19) dX0_mayBe_19 rfl ?_
      refine ga_iconst (pc := 20) dX0_mayBe_20 ?_
      refine ga_icmp_ge (pc := 21) (tgt := 28) dX0_mayBe_21 rfl (by omega) (by omega) (fun c21 => ?_) (fun c21 => ?_)
      · skip
        refine ga_bipush (pc := 28) dX0_mayBe_28 rfl ?_
        refine ga_i2l (pc := 30) dX0_mayBe_30 (by omega) ?_
        refine ga_lcmp (pc := 31) dX0_mayBe_31 (by omega) (by omega) ?_
        refine ga_ifc_gt (pc := 32) (tgt := 39) dX0_mayBe_32 rfl (fun c32 => ?_) (fun c32 => ?_)
        · skip
          refine ga_iconst (pc := 39) dX0_mayBe_39 ?_
          exact ga_zret hE dX0_mayBe_40 (Nat.le_of_ble_eq_true rfl) (Nat.le_of_ble_eq_true rfl) (by first | exact Or.inl rfl | exact Or.inr rfl) (⟨congrArg (fun z => some (Value.int (iI z))) ((bI_f (by omega)).symm), rfl⟩)
        · skip
          refine ga_iconst (pc := 35) dX0_mayBe_35 ?_
          refine ga_goto (pc := 36) (tgt := 40) dX0_mayBe_36 rfl ?_
          exact ga_zret hE dX0_mayBe_40 (Nat.le_of_ble_eq_true rfl) (Nat.le_of_ble_eq_true rfl) (by first | exact Or.inl rfl | exact Or.inr rfl) (⟨congrArg (fun z => some (Value.int (iI z))) ((bI_t (by omega)).symm), rfl⟩)
      · skip
        refine ga_iconst (pc := 24) dX0_mayBe_24 ?_
        refine ga_goto (pc := 25) (tgt := 30) dX0_mayBe_25 rfl ?_
        refine ga_i2l (pc := 30) dX0_mayBe_30 (by omega) ?_
        refine ga_lcmp (pc := 31) dX0_mayBe_31 (by omega) (by omega) ?_
        refine ga_ifc_gt (pc := 32) (tgt := 39) dX0_mayBe_32 rfl (fun c32 => ?_) (fun c32 => ?_)
        · skip
          refine ga_iconst (pc := 39) dX0_mayBe_39 ?_
          exact ga_zret hE dX0_mayBe_40 (Nat.le_of_ble_eq_true rfl) (Nat.le_of_ble_eq_true rfl) (by first | exact Or.inl rfl | exact Or.inr rfl) (⟨congrArg (fun z => some (Value.int (iI z))) ((bI_f (by omega)).symm), rfl⟩)
        · skip
          refine ga_iconst (pc := 35) dX0_mayBe_35 ?_
          refine ga_goto (pc := 36) (tgt := 40) dX0_mayBe_36 rfl ?_
          exact ga_zret hE dX0_mayBe_40 (Nat.le_of_ble_eq_true rfl) (Nat.le_of_ble_eq_true rfl) (by first | exact Or.inl rfl | exact Or.inr rfl) (⟨congrArg (fun z => some (Value.int (iI z))) ((bI_t (by omega)).symm), rfl⟩)
theorem k_X0_mayBe {X : ga_X} {R : Room} {nL : Nat} {cc : ByteArray} {h : ga_H} {k n pc : Nat} {L : List (Option Value)} {st : List Value} {t v : Int} {z : Int} (h1 : (-2147483648 ≤ t ∧ t < 2147483648) ∧ (-9223372036854775808 ≤ v ∧ v < 9223372036854775808)) (hz : (bI ((2 ≤ t ∧ -50 ≤ v ∧ v ≤ 50) ∨ (t < 2 ∧ -5 ≤ v ∧ v ≤ 5))) = z) (hR : 0 + 1 ≤ R.frames ∧ 19 + 3 + 64 * 0 ≤ R.locals) (hk : k ≤ R.cells ∧ n ≤ R.slots) (hs : (st.map fun v => v.category).sum ≤ 8) (d : decode cc pc = .ok (.invokestatic 170, 3)) (kk : G X R RX0 nL cc h k n (pc + 3) L (.int (iI z) :: st)) : G X R RX0 nL cc h k n pc L (.long (lI v) :: .int (iI t) :: st) := by
  subst hz
  exact ps_run (m_X0_mayBe _ _ t v h1) (lw_S q477 q478 q102 q479) (show ga_nn' yX0_mayBe 2 from (by unfold ga_nn'; decide +kernel)) hR hk hs d rfl kk
set_option maxHeartbeats 4000000 in
set_option maxRecDepth 100000 in
theorem m_X0_lowered (l : Launch) (D : ga_G) (v : Int) (h1 : (-9223372036854775808 ≤ v ∧ v < 9223372036854775808)) : pS l D yX0_lowered (ws_ yX0_lowered cX0_lowered 2 (some .long)) (gR 0) [.long (lI v)] (some (.long (lI (-(v.natAbs : Int))))) := by
  intro h
  refine ga_met (own := RX0) 0 (by decide) rfl (Nat.le_of_ble_eq_true rfl) (L0 := [some (.long (lI v)), none]) rfl (fun X _ _ hE => ?_)
  refine ga_lload_n (pc := 0) dX0_lowered_0 rfl ?_
  refine ga_lconst (pc := 1) 0 dX0_lowered_1 rfl ?_
  refine ga_lcmp (pc := 2) dX0_lowered_2 (by omega) (by omega) ?_
  refine ga_ifc_le (pc := 3) (tgt := 11) dX0_lowered_3 rfl (fun c3 => ?_) (fun c3 => ?_)
  · skip
    refine ga_lload_n (pc := 11) dX0_lowered_11 rfl ?_
    exact ga_lret hE dX0_lowered_12 (Nat.le_of_ble_eq_true rfl) (Nat.le_of_ble_eq_true rfl) (⟨congrArg (fun z => some (Value.long (lI z))) (by omega), rfl⟩)
  · skip
    refine ga_lload_n (pc := 6) dX0_lowered_6 rfl ?_
    refine ga_lneg (pc := 7) dX0_lowered_7 ?_
    refine ga_goto (pc := 8) (tgt := 12) dX0_lowered_8 rfl ?_
    exact ga_lret hE dX0_lowered_12 (Nat.le_of_ble_eq_true rfl) (Nat.le_of_ble_eq_true rfl) (⟨congrArg (fun z => some (Value.long (lI z))) (by omega), rfl⟩)
theorem k_X0_lowered {X : ga_X} {R : Room} {nL : Nat} {cc : ByteArray} {h : ga_H} {k n pc : Nat} {L : List (Option Value)} {st : List Value} {v : Int} {z : Int} (h1 : (-9223372036854775808 ≤ v ∧ v < 9223372036854775808)) (hz : (-(v.natAbs : Int)) = z) (hR : 0 + 1 ≤ R.frames ∧ 19 + 2 + 64 * 0 ≤ R.locals) (hk : k ≤ R.cells ∧ n ≤ R.slots) (hs : (st.map fun v => v.category).sum ≤ 8) (d : decode cc pc = .ok (.invokestatic 372, 3)) (kk : G X R RX0 nL cc h k n (pc + 3) L (.long (lI z) :: st)) : G X R RX0 nL cc h k n pc L (.long (lI v) :: st) := by
  subst hz
  exact ps_run (m_X0_lowered _ _ v h1) (lw_S q694 q695 q102 q696) (show ga_nn' yX0_lowered 1 from (by unfold ga_nn'; decide +kernel)) hR hk hs d rfl kk
set_option maxHeartbeats 4000000 in
set_option maxRecDepth 100000 in
theorem m_X0_parted (l : Launch) (D : ga_G) (v b : Int) (h1 : (-9223372036854775808 ≤ v ∧ v < 9223372036854775808) ∧ (-9223372036854775808 ≤ b ∧ b < 9223372036854775808)) (h0 : b ≠ 0) : pS l D yX0_parted (ws_ yX0_parted cX0_parted 4 (some .long)) (gR 0) [.long (lI v), .long (lI b)] (some (.long (lI (if b = -9223372036854775808 then -1 else v.tdiv (-b))))) := by
  intro h
  refine ga_met (own := RX0) 0 (by decide) rfl (Nat.le_of_ble_eq_true rfl) (L0 := [some (.long (lI v)), none, some (.long (lI b)), none]) rfl (fun X _ _ hE => ?_)
  refine ga_lload_n (pc := 0) dX0_parted_0 rfl ?_
  refine ga_ldc2 (pc := 1) (-9223372036854775808) dX0_parted_1 q703 rfl ?_
  refine ga_lcmp (pc := 4) dX0_parted_4 (by omega) (by omega) ?_
  refine ga_ifc_ne (pc := 5) (tgt := 14) dX0_parted_5 rfl (fun c5 => ?_) (fun c5 => ?_)
  · skip
    refine ga_lload_n (pc := 14) dX0_parted_14 rfl ?_
    refine ga_lload_n (pc := 15) dX0_parted_15 rfl ?_
    refine ga_lneg (pc := 16) dX0_parted_16 ?_
    refine ga_ldiv (pc := 17) dX0_parted_17 (by omega) (by omega) (by omega) ?_
    exact ga_lret hE dX0_parted_18 (Nat.le_of_ble_eq_true rfl) (Nat.le_of_ble_eq_true rfl) (⟨congrArg (fun z => some (Value.long (lI z))) (by first | (rw [if_pos (by omega)]; done) | (rw [if_neg (by omega)])), rfl⟩)
  · skip
    refine ga_ldc2 (pc := 8) (-1) dX0_parted_8 q704 rfl ?_
    refine ga_goto (pc := 11) (tgt := 18) dX0_parted_11 rfl ?_
    exact ga_lret hE dX0_parted_18 (Nat.le_of_ble_eq_true rfl) (Nat.le_of_ble_eq_true rfl) (⟨congrArg (fun z => some (Value.long (lI z))) (by first | (rw [if_pos (by omega)]; done) | (rw [if_neg (by omega)])), rfl⟩)
theorem k_X0_parted {X : ga_X} {R : Room} {nL : Nat} {cc : ByteArray} {h : ga_H} {k n pc : Nat} {L : List (Option Value)} {st : List Value} {v b : Int} {z : Int} (h1 : (-9223372036854775808 ≤ v ∧ v < 9223372036854775808) ∧ (-9223372036854775808 ≤ b ∧ b < 9223372036854775808)) (h0 : b ≠ 0) (hz : (if b = -9223372036854775808 then -1 else v.tdiv (-b)) = z) (hR : 0 + 1 ≤ R.frames ∧ 19 + 4 + 64 * 0 ≤ R.locals) (hk : k ≤ R.cells ∧ n ≤ R.slots) (hs : (st.map fun v => v.category).sum ≤ 8) (d : decode cc pc = .ok (.invokestatic 379, 3)) (kk : G X R RX0 nL cc h k n (pc + 3) L (.long (lI z) :: st)) : G X R RX0 nL cc h k n pc L (.long (lI b) :: .long (lI v) :: st) := by
  subst hz
  exact ps_run (m_X0_parted _ _ v b h1 h0) (lw_S q700 q701 q102 q702) (show ga_nn' yX0_parted 2 from (by unfold ga_nn'; decide +kernel)) hR hk hs d rfl kk
set_option maxHeartbeats 4000000 in
set_option maxRecDepth 100000 in
theorem m_X0_common (l : Launch) (D : ga_G) (a b : Int) (h1 : (-9223372036854775808 ≤ a ∧ a ≤ 0) ∧ (-9223372036854775808 ≤ b ∧ b ≤ 0)) : pS l D yX0_common (ws_ yX0_common cX0_common 10 (some .long)) (gR 0) [.long (lI a), .long (lI b)] (some (.long (lI (-(Int.gcd a b : Int))))) := by
  intro h
  refine ga_met (own := RX0) 6 (by decide) rfl (Nat.le_of_ble_eq_true rfl) (L0 := [some (.long (lI a)), none, some (.long (lI b)), none, none, none, none, none, none, none]) rfl (fun X _ _ hE => ?_)
  refine ga_lload_n (pc := 0) dX0_common_0 rfl ?_
  refine ga_lstore (pc := 1) (L1 := [some (.long (lI a)), none, some (.long (lI b)), none, some (.long (lI a)), none, none, none, none, none]) dX0_common_1 rfl (by decide) rfl ?_
  refine ga_lload_n (pc := 3) dX0_common_3 rfl ?_
  refine ga_lstore (pc := 4) (L1 := [some (.long (lI a)), none, some (.long (lI b)), none, some (.long (lI a)), none, some (.long (lI b)), none, none, none]) dX0_common_4 rfl (by decide) rfl ?_
  have lp6 : ∀ (N6 : Nat) (p q : Int), (-9223372036854775808 ≤ p ∧ p ≤ 0) → (-9223372036854775808 ≤ q ∧ q ≤ 0) → (Int.gcd p q = Int.gcd a b) → q.natAbs < N6 → G X (gR 0) RX0 10 cX0_common h 0 0 6 [some (.long (lI a)), none, some (.long (lI b)), none, some (.long (lI p)), none, some (.long (lI q)), none, none, none] [] := by
    intro N6
    induction N6 with
    | zero => intro p q hp hq hgg hN6; exact absurd hN6 (Nat.not_lt_zero _)
    | succ N6 ih6 =>
      intro p q hp hq hgg hN6
      refine ga_lload (pc := 6) dX0_common_6 rfl ?_
      refine ga_lconst (pc := 8) 0 dX0_common_8 rfl ?_
      refine ga_lcmp (pc := 9) dX0_common_9 (by omega) (by omega) ?_
      refine ga_ifc_eq (pc := 10) (tgt := 31) dX0_common_10 rfl (fun c10 => ?_) (fun c10 => ?_)
      · skip
        refine ga_lload (pc := 31) dX0_common_31 rfl ?_
        exact ga_lret hE dX0_common_33 (Nat.le_of_ble_eq_true rfl) (Nat.le_of_ble_eq_true rfl) (⟨congrArg (fun z => some (Value.long (lI z))) (by have z : Int.gcd p q = p.natAbs := (by rw [show q = 0 by omega]; exact Int.gcd_zero_right _); omega), rfl⟩)
      · skip
        refine ga_lload (pc := 13) dX0_common_13 rfl ?_
        refine ga_lload (pc := 15) dX0_common_15 rfl ?_
        have htm := zg_m (p := p) (q := q) hp.2 (by omega)
        have hgn := zg_n p q
        refine ga_lrem (pc := 17) dX0_common_17 (by omega) (by omega) (by omega) ?_
        refine ga_lstore (pc := 18) (L1 := [some (.long (lI a)), none, some (.long (lI b)), none, some (.long (lI p)), none, some (.long (lI q)), none, some (.long (lI (p.tmod q))), none]) dX0_common_18 rfl (by decide) rfl ?_
        refine ga_lload (pc := 20) dX0_common_20 rfl ?_
        refine ga_lstore (pc := 22) (L1 := [some (.long (lI a)), none, some (.long (lI b)), none, some (.long (lI q)), none, some (.long (lI q)), none, some (.long (lI (p.tmod q))), none]) dX0_common_22 rfl (by decide) rfl ?_
        refine ga_lload (pc := 24) dX0_common_24 rfl ?_
        refine ga_lstore (pc := 26) (L1 := [some (.long (lI a)), none, some (.long (lI b)), none, some (.long (lI q)), none, some (.long (lI (p.tmod q))), none, some (.long (lI (p.tmod q))), none]) dX0_common_26 rfl (by decide) rfl ?_
        refine ga_goto (pc := 28) (tgt := 6) dX0_common_28 rfl ?_
        refine ga_kill (pc := 6) 8 (L1 := [some (.long (lI a)), none, some (.long (lI b)), none, some (.long (lI q)), none, some (.long (lI (p.tmod q))), none, none, none]) rfl ?_
        exact ih6 q (p.tmod q) (by omega) (by omega) (by rw [hgn]; exact hgg) (by omega)
  exact lp6 _ a b (by omega) (by omega) (rfl) (Nat.lt_succ_self _)
theorem k_X0_common {X : ga_X} {R : Room} {nL : Nat} {cc : ByteArray} {h : ga_H} {k n pc : Nat} {L : List (Option Value)} {st : List Value} {a b : Int} {z : Int} (h1 : (-9223372036854775808 ≤ a ∧ a ≤ 0) ∧ (-9223372036854775808 ≤ b ∧ b ≤ 0)) (hz : (-(Int.gcd a b : Int)) = z) (hR : 0 + 1 ≤ R.frames ∧ 19 + 10 + 64 * 0 ≤ R.locals) (hk : k ≤ R.cells ∧ n ≤ R.slots) (hs : (st.map fun v => v.category).sum ≤ 8) (d : decode cc pc = .ok (.invokestatic 376, 3)) (kk : G X R RX0 nL cc h k n (pc + 3) L (.long (lI z) :: st)) : G X R RX0 nL cc h k n pc L (.long (lI b) :: .long (lI a) :: st) := by
  subst hz
  exact ps_run (m_X0_common _ _ a b h1) (lw_S q697 q698 q102 q699) (show ga_nn' yX0_common 2 from (by unfold ga_nn'; decide +kernel)) hR hk hs d rfl kk
set_option maxHeartbeats 4000000 in
set_option maxRecDepth 100000 in
theorem m_X0_isEquation (l : Launch) (D : ga_G) (ad : Nat → Nat) (J : Nat → Int) (B : Nat → Int → Int) (Q : Nat → Int → Option Nat) (Z : ga_H) (e : Int) (hq : 0 ≤ J 8 ∧ J 8 ≤ 6) (h1 : (-2147483648 ≤ e ∧ e < 2147483648)) : cM l D yX0_isEquation (ws_ yX0_isEquation cX0_isEquation 2 (some .boolean)) (gR 1) [.ref (ad 0), .int (iI e)] ad J B Q Z (mI (fun r J1 B1 => r = (bI (0 ≤ e ∧ e < J 8)) ∧ J1 = J ∧ B1 = B)) := by
  refine cc_met (own := RX0) 0 (by decide) rfl (Nat.le_of_ble_eq_true rfl) (L0 := [some (.ref (ad 0)), some (.int (iI e))]) rfl (fun X h hc hE => ?_)
  refine ga_iload_n (pc := 0) dX0_isEquation_0 rfl ?_
  refine ga_iconst (pc := 1) dX0_isEquation_1 ?_
  refine ga_aload_n (pc := 2) dX0_isEquation_2 rfl ?_
  refine cc_g_many (pc := 3) (z := J 8) hc rfl dX0_isEquation_3 ?_
  refine ga_iconst (pc := 6) dX0_isEquation_6 ?_
  refine ga_isub (pc := 7) dX0_isEquation_7 ?_
  refine k_X0_isIn (pc := 8) (a := e) (b := 0) (e := ((J 8) - 1)) (by omega) (rfl) ⟨Nat.le_of_ble_eq_true rfl, Nat.le_of_ble_eq_true rfl⟩ ⟨Nat.le_of_ble_eq_true rfl, Nat.le_of_ble_eq_true rfl⟩ (Nat.le_of_ble_eq_true rfl) dX0_isEquation_8 ?_
  exact cc_zret hc hE dX0_isEquation_11 (by unfold bI; split <;> simp) (⟨_, rfl, bI_c (by omega), rfl, rfl⟩)
theorem k_X0_isEquation {X : ga_X} {R : Room} {nL : Nat} {cc : ByteArray} {h : ga_H} {ad : Nat → Nat} {J : Nat → Int} {B : Nat → Int → Int} {Q : Nat → Int → Option Nat} {Z : ga_H} {k n pc : Nat} {L : List (Option Value)} {st : List Value} {e : Int} {z : Int} (hc : cOn h ad J B Q Z) (hq : 0 ≤ J 8 ∧ J 8 ≤ 6) (h1 : (-2147483648 ≤ e ∧ e < 2147483648)) (hz : (bI (0 ≤ e ∧ e < J 8)) = z) (hR : 1 + 1 ≤ R.frames ∧ 19 + 2 + 64 * 1 ≤ R.locals) (hk : k ≤ R.cells ∧ n ≤ R.slots) (hs : (st.map fun v => v.category).sum ≤ 8) (dd : decode cc pc = .ok (.invokevirtual 404, 3)) (kk : ∀ h : ga_H, cOn h ad J B Q Z → G X R RX0 nL cc h k n (pc + 3) L (.int (iI z) :: st)) : G X R RX0 nL cc h k n pc L (.int (iI e) :: .ref (ad 0) :: st) :=
  cc_run hc (m_X0_isEquation _ _ ad J B Q Z e hq h1) (lw_V q792 q794 qs12 q102 q795) rfl (show ga_nn' yX0_isEquation 1 from (by unfold ga_nn'; decide +kernel)) hR hk hs dd rfl (fun v hX J1 B1 hcX hp => by
    obtain ⟨r, rfl, hp⟩ := hp
    obtain ⟨e1, rfl, rfl⟩ := hp
    subst hz
    rw [e1]
    exact kk hX hcX)
set_option maxHeartbeats 4000000 in
set_option maxRecDepth 100000 in
theorem m_X0_isSquare (l : Launch) (D : ga_G) (ad : Nat → Nat) (J : Nat → Int) (B : Nat → Int → Int) (Q : Nat → Int → Option Nat) (Z : ga_H)  (hm : (1 ≤ J 30 ∧ J 30 ≤ 3) ∧ 1 ≤ J 31 ∧ J 31 ≤ 3) : cM l D yX0_isSquare (ws_ yX0_isSquare cX0_isSquare 1 (some .boolean)) (gR 0) [.ref (ad 0)] ad J B Q Z (mI (fun r J1 B1 => r = (bI (J 30 = J 31)) ∧ J1 = J ∧ B1 = B)) := by
  refine cc_met (own := RX0) 0 (by decide) rfl (Nat.le_of_ble_eq_true rfl) (L0 := [some (.ref (ad 0))]) rfl (fun X h hc hE => ?_)
  refine ga_aload_n (pc := 0) dX0_isSquare_0 rfl ?_
  refine cc_g_now (pc := 1) hc dX0_isSquare_1 ?_
  refine ga_getN (pc := 4) (C := RX4) (T := TX4) (N := 5) (v := .int (iI (J 30))) in_X4 rfl (hc.1 4 (by decide)) 0 (by decide) (ga_nt q307 rfl) rfl rfl dX0_isSquare_4 ?_
  refine ga_aload_n (pc := 7) dX0_isSquare_7 rfl ?_
  refine cc_g_now (pc := 8) hc dX0_isSquare_8 ?_
  refine ga_getN (pc := 11) (C := RX4) (T := TX4) (N := 5) (v := .int (iI (J 31))) in_X4 rfl (hc.1 4 (by decide)) 1 (by decide) (ga_nt q309 rfl) rfl rfl dX0_isSquare_11 ?_
  refine ga_icmp_ne (pc := 14) (tgt := 21) dX0_isSquare_14 rfl (by omega) (by omega) (fun c14 => ?_) (fun c14 => ?_)
  · skip
    refine ga_iconst (pc := 21) dX0_isSquare_21 ?_
    exact cc_zret hc hE dX0_isSquare_22 (by first | exact Or.inl rfl | exact Or.inr rfl) (⟨_, rfl, (bI_f (by omega)).symm, rfl, rfl⟩)
  · skip
    refine ga_iconst (pc := 17) dX0_isSquare_17 ?_
    refine ga_goto (pc := 18) (tgt := 22) dX0_isSquare_18 rfl ?_
    exact cc_zret hc hE dX0_isSquare_22 (by first | exact Or.inl rfl | exact Or.inr rfl) (⟨_, rfl, (bI_t (by omega)).symm, rfl, rfl⟩)
theorem k_X0_isSquare {X : ga_X} {R : Room} {nL : Nat} {cc : ByteArray} {h : ga_H} {ad : Nat → Nat} {J : Nat → Int} {B : Nat → Int → Int} {Q : Nat → Int → Option Nat} {Z : ga_H} {k n pc : Nat} {L : List (Option Value)} {st : List Value}  {z : Int} (hc : cOn h ad J B Q Z) (hm : (1 ≤ J 30 ∧ J 30 ≤ 3) ∧ 1 ≤ J 31 ∧ J 31 ≤ 3) (hz : (bI (J 30 = J 31)) = z) (hR : 0 + 1 ≤ R.frames ∧ 19 + 1 + 64 * 0 ≤ R.locals) (hk : k ≤ R.cells ∧ n ≤ R.slots) (hs : (st.map fun v => v.category).sum ≤ 8) (dd : decode cc pc = .ok (.invokevirtual 140, 3)) (kk : ∀ h : ga_H, cOn h ad J B Q Z → G X R RX0 nL cc h k n (pc + 3) L (.int (iI z) :: st)) : G X R RX0 nL cc h k n pc L (.ref (ad 0) :: st) :=
  cc_run hc (m_X0_isSquare _ _ ad J B Q Z  hm) (lw_V q540 q542 qs2 q102 q543) rfl (show ga_nn' yX0_isSquare 0 from (by unfold ga_nn'; decide +kernel)) hR hk hs dd rfl (fun v hX J1 B1 hcX hp => by
    obtain ⟨r, rfl, hp⟩ := hp
    obtain ⟨e1, rfl, rfl⟩ := hp
    subst hz
    rw [e1]
    exact kk hX hcX)
set_option maxHeartbeats 4000000 in
set_option maxRecDepth 100000 in
theorem m_X0_cell (l : Launch) (D : ga_G) (ad : Nat → Nat) (J : Nat → Int) (B : Nat → Int → Int) (Q : Nat → Int → Option Nat) (Z : ga_H) (i j : Int) (h1 : 0 ≤ 10 * i + j ∧ 10 * i + j < 100) : cM l D yX0_cell (ws_ yX0_cell cX0_cell 3 (some .long)) (gR 0) [.ref (ad 0), .int (iI i), .int (iI j)] ad J B Q Z (mL (fun r J1 B1 => r = (B 10 (10 * i + j)) ∧ J1 = J ∧ B1 = B)) := by
  refine cc_met (own := RX0) 0 (by decide) rfl (Nat.le_of_ble_eq_true rfl) (L0 := [some (.ref (ad 0)), some (.int (iI i)), some (.int (iI j))]) rfl (fun X h hc hE => ?_)
  refine ga_aload_n (pc := 0) dX0_cell_0 rfl ?_
  refine cc_g_grid (pc := 1) hc dX0_cell_1 ?_
  refine ga_bipush (pc := 4) dX0_cell_4 rfl ?_
  refine ga_iload_n (pc := 6) dX0_cell_6 rfl ?_
  refine ga_imul (pc := 7) dX0_cell_7 ?_
  refine ga_iload_n (pc := 8) dX0_cell_8 rfl ?_
  refine ga_iadd (pc := 9) dX0_cell_9 ?_
  refine cc_ald10 (pc := 10) (x := B 10 ((10 * i) + j)) hc (by omega) (rfl) dX0_cell_10 ?_
  exact cc_lret hc hE dX0_cell_11 (⟨_, rfl, by first | rfl | omega | ((repeat' split) <;> omega), rfl, rfl⟩)
theorem k_X0_cell {X : ga_X} {R : Room} {nL : Nat} {cc : ByteArray} {h : ga_H} {ad : Nat → Nat} {J : Nat → Int} {B : Nat → Int → Int} {Q : Nat → Int → Option Nat} {Z : ga_H} {k n pc : Nat} {L : List (Option Value)} {st : List Value} {i j : Int} {z : Int} (hc : cOn h ad J B Q Z) (h1 : 0 ≤ 10 * i + j ∧ 10 * i + j < 100) (hz : (B 10 (10 * i + j)) = z) (hR : 0 + 1 ≤ R.frames ∧ 19 + 3 + 64 * 0 ≤ R.locals) (hk : k ≤ R.cells ∧ n ≤ R.slots) (hs : (st.map fun v => v.category).sum ≤ 8) (dd : decode cc pc = .ok (.invokevirtual 332, 3)) (kk : ∀ h : ga_H, cOn h ad J B Q Z → G X R RX0 nL cc h k n (pc + 3) L (.long (lI z) :: st)) : G X R RX0 nL cc h k n pc L (.int (iI j) :: .int (iI i) :: .ref (ad 0) :: st) :=
  cc_run hc (m_X0_cell _ _ ad J B Q Z i j h1) (lw_V q971 q973 qs22 q102 q974) rfl (show ga_nn' yX0_cell 2 from (by unfold ga_nn'; decide +kernel)) hR hk hs dd rfl (fun v hX J1 B1 hcX hp => by
    obtain ⟨r, rfl, hp⟩ := hp
    obtain ⟨e1, rfl, rfl⟩ := hp
    subst hz
    rw [e1]
    exact kk hX hcX)
set_option maxHeartbeats 4000000 in
set_option maxRecDepth 100000 in
theorem m_X0_seed (l : Launch) (D : ga_G) (ad : Nat → Nat) (J : Nat → Int) (B : Nat → Int → Int) (Q : Nat → Int → Option Nat) (Z : ga_H) (v : Int)  : cM l D yX0_seed (ws_ yX0_seed cX0_seed 3 (some .int)) (gR 0) [.ref (ad 0), .int (iI v)] ad J B Q Z (mI (fun r J1 B1 => r = (J 10) ∧ J1 = (uN J 10 v) ∧ B1 = B)) := by
  refine cc_met (own := RX0) 1 (by decide) rfl (Nat.le_of_ble_eq_true rfl) (L0 := [some (.ref (ad 0)), some (.int (iI v)), none]) rfl (fun X h hc hE => ?_)
  refine ga_aload_n (pc := 0) dX0_seed_0 rfl ?_
  refine cc_g_z (pc := 1) (z := J 10) hc rfl dX0_seed_1 ?_
  refine ga_istore_n (pc := 4) (L1 := [some (.ref (ad 0)), some (.int (iI v)), some (.int (iI (J 10)))]) dX0_seed_4 rfl (by decide) rfl ?_
  refine ga_aload_n (pc := 5) dX0_seed_5 rfl ?_
  refine ga_iload_n (pc := 6) dX0_seed_6 rfl ?_
  refine cc_p_z (pc := 7) (J1 := (uN J 10 v)) hc (rfl) dX0_seed_7 (fun h hc => ?_)
  refine ga_iload_n (pc := 10) dX0_seed_10 rfl ?_
  exact cc_iret hc hE dX0_seed_11 (⟨_, rfl, rfl, rfl, rfl⟩)
