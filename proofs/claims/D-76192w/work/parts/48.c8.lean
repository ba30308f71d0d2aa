/-! THE CLASS: which unknown stands at a place -/
section RMG
variable {X : ga_X} {R : Room} {own : String} {nL : Nat} {cc : ByteArray} {h : ga_H} {k n pc : Nat} {L : List (Option Value)} {st0 rest : List Value} {v : Option Value}
theorem rm_go (hr : ga_Run X R own nL cc h k n pc L st0 rest (fun w h1 => w = v ∧ h1 = h) pX0 0 0) (kk : G X R own nL cc h k n (pc + 3) L (v.toList ++ rest)) : G X R own nL cc h k n pc L st0 :=
  ga_go hr (fun _ _ _ z => z.elim) (fun w h1 hp => by obtain ⟨rfl, rfl⟩ := hp; exact kk)
end RMG
def zCo (kd n i j : Int) : Int := if kd = 4 then (if i = j then 1 + i else 0) else if kd = 5 then (if j < i then 1 + n * j + i - (j * (j + 1)).tdiv 2 else 1 + n * i + j - (i * (i + 1)).tdiv 2) else if kd = 6 then (if i = j then 0 else if j < i then 0 - (1 + n * j + i - (j * (j + 1)).tdiv 2 - j - 1) else 1 + n * i + j - (i * (i + 1)).tdiv 2 - i - 1) else 1 + n * i + j
set_option maxHeartbeats 4000000 in
set_option maxRecDepth 100000 in
theorem m_X9_codeAt (l : Launch) (D : ga_G) (h : ga_H) (b : Nat) (i j w : Int)  : rM l D yX9_codeAt (ws_ yX9_codeAt cX9_codeAt 4 (some .int)) (gR 0) [.ref b, .int (iI i), .int (iI j), .int (iI w)] h (some (.int (iI (1 + w * i + j)))) := by
  refine ga_met (own := RX9) 0 (by decide) rfl (Nat.le_of_ble_eq_true rfl) (L0 := [some (.ref b), some (.int (iI i)), some (.int (iI j)), some (.int (iI w))]) rfl (fun X _ _ hE => ?_)
  refine ga_iconst (pc := 0) dX9_codeAt_0 ?_
  refine ga_iload_n (pc := 1) dX9_codeAt_1 rfl ?_
  refine ga_iload_n (pc := 2) dX9_codeAt_2 rfl ?_
  refine ga_imul (pc := 3) dX9_codeAt_3 ?_
  refine ga_iadd (pc := 4) dX9_codeAt_4 ?_
  refine ga_iload_n (pc := 5) dX9_codeAt_5 rfl ?_
  refine ga_iadd (pc := 6) dX9_codeAt_6 ?_
  exact ga_iret hE dX9_codeAt_7 (Nat.le_of_ble_eq_true rfl) (Nat.le_of_ble_eq_true rfl) (⟨congrArg (fun z => some (Value.int (iI z))) (rfl), rfl⟩)
set_option maxHeartbeats 4000000 in
set_option maxRecDepth 100000 in
theorem m_X13_codeAt (l : Launch) (D : ga_G) (h : ga_H) (b : Nat) (i j w : Int) (h1 : (-2147483648 ≤ i ∧ i < 2147483648) ∧ (-2147483648 ≤ j ∧ j < 2147483648)) : rM l D yX13_codeAt (ws_ yX13_codeAt cX13_codeAt 4 (some .int)) (gR 0) [.ref b, .int (iI i), .int (iI j), .int (iI w)] h (some (.int (iI (if i = j then 1 + i else 0)))) := by
  refine ga_met (own := RX13) 0 (by decide) rfl (Nat.le_of_ble_eq_true rfl) (L0 := [some (.ref b), some (.int (iI i)), some (.int (iI j)), some (.int (iI w))]) rfl (fun X _ _ hE => ?_)
  refine ga_iload_n (pc := 0) dX13_codeAt_0 rfl ?_
  refine ga_iload_n (pc := 1) dX13_codeAt_1 rfl ?_
  refine ga_icmp_ne (pc := 2) (tgt := 11) dX13_codeAt_2 rfl (by omega) (by omega) (fun c2 => ?_) (fun c2 => ?_)
  · skip
    refine ga_iconst (pc := 11) dX13_codeAt_11 ?_
    exact ga_iret hE dX13_codeAt_12 (Nat.le_of_ble_eq_true rfl) (Nat.le_of_ble_eq_true rfl) (⟨congrArg (fun z => some (Value.int (iI z))) (by first | (rw [if_pos (by omega)]; done) | rw [if_neg (by omega)]), rfl⟩)
  · skip
    refine ga_iconst (pc := 5) dX13_codeAt_5 ?_
    refine ga_iload_n (pc := 6) dX13_codeAt_6 rfl ?_
    refine ga_iadd (pc := 7) dX13_codeAt_7 ?_
    refine ga_goto (pc := 8) (tgt := 12) dX13_codeAt_8 rfl ?_
    exact ga_iret hE dX13_codeAt_12 (Nat.le_of_ble_eq_true rfl) (Nat.le_of_ble_eq_true rfl) (⟨congrArg (fun z => some (Value.int (iI z))) (by first | (rw [if_pos (by omega)]; done) | rw [if_neg (by omega)]), rfl⟩)
set_option maxHeartbeats 4000000 in
set_option maxRecDepth 100000 in
theorem m_X14_codeAt_a (l : Launch) (D : ga_G) (h : ga_H) (b ci N : Nat) (fs : List Value) (C : String) (T : u_T) (i j w : Int) (hb : h b = some (oE ci fs)) (hcl : ga_Cl[ci]? = some (C, T, N)) (h1 : (0 ≤ i ∧ i ≤ 2) ∧ (0 ≤ j ∧ j ≤ 2) ∧ i ≤ j) : rM l D yX14_codeAt (ws_ yX14_codeAt cX14_codeAt 4 (some .int)) (gR 1) [.ref b, .int (iI i), .int (iI j), .int (iI w)] h (some (.int (iI (1 + w * i + j - (i * (i + 1)).tdiv 2)))) := by
  refine ga_met (own := RX14) 0 (by decide) rfl (Nat.le_of_ble_eq_true rfl) (L0 := [some (.ref b), some (.int (iI i)), some (.int (iI j)), some (.int (iI w))]) rfl (fun X _ _ hE => ?_)
  refine ga_iload_n (pc := 0) dX14_codeAt_0 rfl ?_
  refine ga_iload_n (pc := 1) dX14_codeAt_1 rfl ?_
  refine ga_icmp_ge (pc := 2) (tgt := 15) dX14_codeAt_2 rfl (by omega) (by omega) (fun c2 => ?_) (fun c2 => ?_)
  · skip
    refine ga_aload_n (pc := 15) dX14_codeAt_15 rfl ?_
    refine ga_iload_n (pc := 16) dX14_codeAt_16 rfl ?_
    refine ga_iload_n (pc := 17) dX14_codeAt_17 rfl ?_
    refine ga_iload_n (pc := 18) dX14_codeAt_18 rfl ?_
    refine rm_go (pc := 19) (ga_runSO (x := ⟨"TwoSidedTables$Turned", "codeAt", "(III)I"⟩) (m_X9_codeAt _ _ h b i j w) q919 q920 q773 q755 ⟨rfl, rfl⟩ q907 q121 q922 (by decide) (show ga_nn' yX9_codeAt 3 from (by unfold ga_nn'; decide +kernel)) ⟨rfl, rfl⟩ ⟨by show 0 + 1 ≤ _; exact Nat.le_of_ble_eq_true rfl, by show 8 + (4 + 11) + 64 * 0 ≤ _; exact Nat.le_of_ble_eq_true rfl⟩ ⟨Nat.le_of_ble_eq_true rfl, Nat.le_of_ble_eq_true rfl⟩ hb hcl (Nat.le_of_ble_eq_true rfl) dX14_codeAt_19 rfl) ?_
    refine ga_iload_n (pc := 22) dX14_codeAt_22 rfl ?_
    refine ga_iload_n (pc := 23) dX14_codeAt_23 rfl ?_
    refine ga_iconst (pc := 24) dX14_codeAt_24 ?_
    refine ga_iadd (pc := 25) dX14_codeAt_25 ?_
    refine ga_imul (pc := 26) dX14_codeAt_26 ?_
    refine ga_iconst (pc := 27) dX14_codeAt_27 ?_
    have hii : 0 ≤ i * (i + 1) ∧ i * (i + 1) ≤ 6 := by { rcases (by omega : i = 0 ∨ i = 1 ∨ i = 2) with z | z | z <;> (rw [z]; decide) }
    refine ga_idiv (pc := 28) dX14_codeAt_28 (by omega) (by omega) (by omega) ?_
    refine ga_isub (pc := 29) dX14_codeAt_29 ?_
    exact ga_iret hE dX14_codeAt_30 (Nat.le_of_ble_eq_true rfl) (Nat.le_of_ble_eq_true rfl) (⟨congrArg (fun z => some (Value.int (iI z))) (rfl), rfl⟩)
  · exact absurd c2 (by omega)
set_option maxHeartbeats 4000000 in
set_option maxRecDepth 100000 in
theorem m_X14_codeAt (l : Launch) (D : ga_G) (h : ga_H) (b : Nat) (fs : List Value) (i j w : Int) (hb : h b = some (oE 14 fs)) (h1 : (0 ≤ i ∧ i ≤ 2) ∧ (0 ≤ j ∧ j ≤ 2)) : rM l D yX14_codeAt (ws_ yX14_codeAt cX14_codeAt 4 (some .int)) (gR 2) [.ref b, .int (iI i), .int (iI j), .int (iI w)] h (some (.int (iI (zCo 5 w i j)))) := by
  refine ga_met (own := RX14) 0 (by decide) rfl (Nat.le_of_ble_eq_true rfl) (L0 := [some (.ref b), some (.int (iI i)), some (.int (iI j)), some (.int (iI w))]) rfl (fun X _ _ hE => ?_)
  refine ga_iload_n (pc := 0) dX14_codeAt_0 rfl ?_
  refine ga_iload_n (pc := 1) dX14_codeAt_1 rfl ?_
  refine ga_icmp_ge (pc := 2) (tgt := 15) dX14_codeAt_2 rfl (by omega) (by omega) (fun c2 => ?_) (fun c2 => ?_)
  · skip
    refine ga_aload_n (pc := 15) dX14_codeAt_15 rfl ?_
    refine ga_iload_n (pc := 16) dX14_codeAt_16 rfl ?_
    refine ga_iload_n (pc := 17) dX14_codeAt_17 rfl ?_
    refine ga_iload_n (pc := 18) dX14_codeAt_18 rfl ?_
    refine rm_go (pc := 19) (ga_runSO (x := ⟨"TwoSidedTables$Turned", "codeAt", "(III)I"⟩) (m_X9_codeAt _ _ h b i j w) q919 q920 q773 q755 ⟨rfl, rfl⟩ q907 q121 q922 (by decide) (show ga_nn' yX9_codeAt 3 from (by unfold ga_nn'; decide +kernel)) ⟨rfl, rfl⟩ ⟨by show 0 + 1 ≤ _; exact Nat.le_of_ble_eq_true rfl, by show 8 + (4 + 11) + 64 * 0 ≤ _; exact Nat.le_of_ble_eq_true rfl⟩ ⟨Nat.le_of_ble_eq_true rfl, Nat.le_of_ble_eq_true rfl⟩ hb rfl (Nat.le_of_ble_eq_true rfl) dX14_codeAt_19 rfl) ?_
    refine ga_iload_n (pc := 22) dX14_codeAt_22 rfl ?_
    refine ga_iload_n (pc := 23) dX14_codeAt_23 rfl ?_
    refine ga_iconst (pc := 24) dX14_codeAt_24 ?_
    refine ga_iadd (pc := 25) dX14_codeAt_25 ?_
    refine ga_imul (pc := 26) dX14_codeAt_26 ?_
    refine ga_iconst (pc := 27) dX14_codeAt_27 ?_
    have hii : 0 ≤ i * (i + 1) ∧ i * (i + 1) ≤ 6 := by { rcases (by omega : i = 0 ∨ i = 1 ∨ i = 2) with z | z | z <;> (rw [z]; decide) }
    refine ga_idiv (pc := 28) dX14_codeAt_28 (by omega) (by omega) (by omega) ?_
    refine ga_isub (pc := 29) dX14_codeAt_29 ?_
    exact ga_iret hE dX14_codeAt_30 (Nat.le_of_ble_eq_true rfl) (Nat.le_of_ble_eq_true rfl) (⟨congrArg (fun z => some (Value.int (iI z))) (by unfold zCo; rw [if_neg (by decide), if_pos rfl]; first | (rw [if_pos (by omega)]; done) | rw [if_neg (by omega)]), rfl⟩)
  · skip
    refine ga_aload_n (pc := 5) dX14_codeAt_5 rfl ?_
    refine ga_iload_n (pc := 6) dX14_codeAt_6 rfl ?_
    refine ga_iload_n (pc := 7) dX14_codeAt_7 rfl ?_
    refine ga_iload_n (pc := 8) dX14_codeAt_8 rfl ?_
    refine rm_run (pc := 9) (C := RX14) (T := TX14) (N := 2) (m_X14_codeAt_a _ _ h b 14 2 fs RX14 TX14 j i w hb rfl (by omega)) (lw_V q914 q912 q2157 q126 q913) rfl (show ga_nn' yX14_codeAt 3 from (by unfold ga_nn'; decide +kernel)) ⟨Nat.le_of_ble_eq_true rfl, Nat.le_of_ble_eq_true rfl⟩ ⟨Nat.le_of_ble_eq_true rfl, Nat.le_of_ble_eq_true rfl⟩ hb rfl (Nat.le_of_ble_eq_true rfl) dX14_codeAt_9 rfl ?_
    refine ga_goto (pc := 12) (tgt := 30) dX14_codeAt_12 rfl ?_
    exact ga_iret hE dX14_codeAt_30 (Nat.le_of_ble_eq_true rfl) (Nat.le_of_ble_eq_true rfl) (⟨congrArg (fun z => some (Value.int (iI z))) (by unfold zCo; rw [if_neg (by decide), if_pos rfl]; first | (rw [if_pos (by omega)]; done) | rw [if_neg (by omega)]), rfl⟩)
set_option maxHeartbeats 4000000 in
set_option maxRecDepth 100000 in
theorem m_X15_codeAt_a (l : Launch) (D : ga_G) (h : ga_H) (b : Nat) (fs : List Value) (i j w : Int) (hb : h b = some (oE 15 fs)) (h1 : (0 ≤ i ∧ i ≤ 2) ∧ (0 ≤ j ∧ j ≤ 2) ∧ i < j) : rM l D yX15_codeAt (ws_ yX15_codeAt cX15_codeAt 4 (some .int)) (gR 2) [.ref b, .int (iI i), .int (iI j), .int (iI w)] h (some (.int (iI (1 + w * i + j - (i * (i + 1)).tdiv 2 - i - 1)))) := by
  refine ga_met (own := RX15) 0 (by decide) rfl (Nat.le_of_ble_eq_true rfl) (L0 := [some (.ref b), some (.int (iI i)), some (.int (iI j)), some (.int (iI w))]) rfl (fun X _ _ hE => ?_)
  refine ga_iload_n (pc := 0) dX15_codeAt_0 rfl ?_
  refine ga_iload_n (pc := 1) dX15_codeAt_1 rfl ?_
  refine ga_icmp_ne (pc := 2) (tgt := 7) dX15_codeAt_2 rfl (by omega) (by omega) (fun c2 => ?_) (fun c2 => ?_)
  · skip
    refine ga_iload_n (pc := 7) dX15_codeAt_7 rfl ?_
    refine ga_iload_n (pc := 8) dX15_codeAt_8 rfl ?_
    refine ga_icmp_ge (pc := 9) (tgt := 24) dX15_codeAt_9 rfl (by omega) (by omega) (fun c9 => ?_) (fun c9 => ?_)
    · skip
      refine ga_aload_n (pc := 24) dX15_codeAt_24 rfl ?_
      refine ga_iload_n (pc := 25) dX15_codeAt_25 rfl ?_
      refine ga_iload_n (pc := 26) dX15_codeAt_26 rfl ?_
      refine ga_iload_n (pc := 27) dX15_codeAt_27 rfl ?_
      refine rm_go (pc := 28) (ga_runSU (m_X14_codeAt_a _ _ h b 15 2 fs RX15 TX15 i j w hb rfl (by omega)) q918 q2156 q782 q912 q126 q913 (by decide) (show ga_nn' yX14_codeAt 3 from (by unfold ga_nn'; decide +kernel)) ⟨rfl, rfl⟩ ⟨by show 1 + 1 ≤ _; exact Nat.le_of_ble_eq_true rfl, by show 8 + (4 + 11) + 64 * 1 ≤ _; exact Nat.le_of_ble_eq_true rfl⟩ ⟨Nat.le_of_ble_eq_true rfl, Nat.le_of_ble_eq_true rfl⟩ hb rfl (Nat.le_of_ble_eq_true rfl) dX15_codeAt_28 rfl) ?_
      refine ga_iload_n (pc := 31) dX15_codeAt_31 rfl ?_
      refine ga_isub (pc := 32) dX15_codeAt_32 ?_
      refine ga_iconst (pc := 33) dX15_codeAt_33 ?_
      refine ga_isub (pc := 34) dX15_codeAt_34 ?_
      exact ga_iret hE dX15_codeAt_35 (Nat.le_of_ble_eq_true rfl) (Nat.le_of_ble_eq_true rfl) (⟨congrArg (fun z => some (Value.int (iI z))) (rfl), rfl⟩)
    · exact absurd c9 (by omega)
  · exact absurd c2 (by omega)
set_option maxHeartbeats 4000000 in
set_option maxRecDepth 100000 in
theorem m_X15_codeAt (l : Launch) (D : ga_G) (h : ga_H) (b : Nat) (fs : List Value) (i j w : Int) (hb : h b = some (oE 15 fs)) (h1 : (0 ≤ i ∧ i ≤ 2) ∧ (0 ≤ j ∧ j ≤ 2)) : rM l D yX15_codeAt (ws_ yX15_codeAt cX15_codeAt 4 (some .int)) (gR 3) [.ref b, .int (iI i), .int (iI j), .int (iI w)] h (some (.int (iI (zCo 6 w i j)))) := by
  refine ga_met (own := RX15) 0 (by decide) rfl (Nat.le_of_ble_eq_true rfl) (L0 := [some (.ref b), some (.int (iI i)), some (.int (iI j)), some (.int (iI w))]) rfl (fun X _ _ hE => ?_)
  refine ga_iload_n (pc := 0) dX15_codeAt_0 rfl ?_
  refine ga_iload_n (pc := 1) dX15_codeAt_1 rfl ?_
  refine ga_icmp_ne (pc := 2) (tgt := 7) dX15_codeAt_2 rfl (by omega) (by omega) (fun c2 => ?_) (fun c2 => ?_)
  · skip
    refine ga_iload_n (pc := 7) dX15_codeAt_7 rfl ?_
    refine ga_iload_n (pc := 8) dX15_codeAt_8 rfl ?_
    refine ga_icmp_ge (pc := 9) (tgt := 24) dX15_codeAt_9 rfl (by omega) (by omega) (fun c9 => ?_) (fun c9 => ?_)
    · skip
      refine ga_aload_n (pc := 24) dX15_codeAt_24 rfl ?_
      refine ga_iload_n (pc := 25) dX15_codeAt_25 rfl ?_
      refine ga_iload_n (pc := 26) dX15_codeAt_26 rfl ?_
      refine ga_iload_n (pc := 27) dX15_codeAt_27 rfl ?_
      refine rm_go (pc := 28) (ga_runSU (m_X14_codeAt_a _ _ h b 15 2 fs RX15 TX15 i j w hb rfl (by omega)) q918 q2156 q782 q912 q126 q913 (by decide) (show ga_nn' yX14_codeAt 3 from (by unfold ga_nn'; decide +kernel)) ⟨rfl, rfl⟩ ⟨by show 1 + 1 ≤ _; exact Nat.le_of_ble_eq_true rfl, by show 8 + (4 + 11) + 64 * 1 ≤ _; exact Nat.le_of_ble_eq_true rfl⟩ ⟨Nat.le_of_ble_eq_true rfl, Nat.le_of_ble_eq_true rfl⟩ hb rfl (Nat.le_of_ble_eq_true rfl) dX15_codeAt_28 rfl) ?_
      refine ga_iload_n (pc := 31) dX15_codeAt_31 rfl ?_
      refine ga_isub (pc := 32) dX15_codeAt_32 ?_
      refine ga_iconst (pc := 33) dX15_codeAt_33 ?_
      refine ga_isub (pc := 34) dX15_codeAt_34 ?_
      exact ga_iret hE dX15_codeAt_35 (Nat.le_of_ble_eq_true rfl) (Nat.le_of_ble_eq_true rfl) (⟨congrArg (fun z => some (Value.int (iI z))) (by unfold zCo; rw [if_neg (by decide), if_neg (by decide), if_pos rfl, if_neg (by omega)]; first | (rw [if_pos (by omega)]; done) | rw [if_neg (by omega)]), rfl⟩)
    · skip
      refine ga_iconst (pc := 12) dX15_codeAt_12 ?_
      refine ga_aload_n (pc := 13) dX15_codeAt_13 rfl ?_
      refine ga_iload_n (pc := 14) dX15_codeAt_14 rfl ?_
      refine ga_iload_n (pc := 15) dX15_codeAt_15 rfl ?_
      refine ga_iload_n (pc := 16) dX15_codeAt_16 rfl ?_
      refine rm_run (pc := 17) (C := RX15) (T := TX15) (N := 2) (m_X15_codeAt_a _ _ h b fs j i w hb (by omega)) (lw_V q917 q915 q2159 q127 q916) rfl (show ga_nn' yX15_codeAt 3 from (by unfold ga_nn'; decide +kernel)) ⟨Nat.le_of_ble_eq_true rfl, Nat.le_of_ble_eq_true rfl⟩ ⟨Nat.le_of_ble_eq_true rfl, Nat.le_of_ble_eq_true rfl⟩ hb rfl (Nat.le_of_ble_eq_true rfl) dX15_codeAt_17 rfl ?_
      refine ga_isub (pc := 20) dX15_codeAt_20 ?_
      refine ga_goto (pc := 21) (tgt := 35) dX15_codeAt_21 rfl ?_
      exact ga_iret hE dX15_codeAt_35 (Nat.le_of_ble_eq_true rfl) (Nat.le_of_ble_eq_true rfl) (⟨congrArg (fun z => some (Value.int (iI z))) (by unfold zCo; rw [if_neg (by decide), if_neg (by decide), if_pos rfl, if_neg (by omega)]; first | (rw [if_pos (by omega)]; done) | rw [if_neg (by omega)]), rfl⟩)
  · skip
    refine ga_iconst (pc := 5) dX15_codeAt_5 ?_
    exact ga_iret hE dX15_codeAt_6 (Nat.le_of_ble_eq_true rfl) (Nat.le_of_ble_eq_true rfl) (⟨congrArg (fun z => some (Value.int (iI z))) (by unfold zCo; rw [if_neg (by decide), if_neg (by decide), if_pos rfl, if_pos (by omega)]), rfl⟩)
