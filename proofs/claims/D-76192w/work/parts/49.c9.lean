/-! THE CLASS: an equation's numbers -/
def zUn (kd m n : Int) : Int := if kd = 4 then m else if kd = 5 then (m * (m + 1)).tdiv 2 else if kd = 6 then (m * (m + 1)).tdiv 2 - m else m * n
set_option maxHeartbeats 4000000 in
set_option maxRecDepth 100000 in
theorem m_X9_number_9 (l : Launch) (D : ga_G) (h : ga_H) (b : Nat) (y sh : Int) (hb : h b = some (oE 9 [.int (iI y), .int (iI sh)])) : rM l D yX9_number (ws_ yX9_number cX9_number 1 (some .int)) (gR 0) [.ref b] h (some (.int (iI y))) := by
  refine ga_met (own := RX9) 0 (by decide) rfl (Nat.le_of_ble_eq_true rfl) (L0 := [some (.ref b)]) rfl (fun X _ _ hE => ?_)
  refine ga_aload_n (pc := 0) dX9_number_0 rfl ?_
  refine ga_get (pc := 1) (C := RX9) (T := TX9) (N := 2) (v := .int (iI y)) in_X9 rfl hb 0 (by decide) q731 rfl rfl dX9_number_1 ?_
  exact ga_iret hE dX9_number_4 (Nat.le_of_ble_eq_true rfl) (Nat.le_of_ble_eq_true rfl) (⟨congrArg (fun z => some (Value.int (iI z))) (rfl), rfl⟩)
set_option maxHeartbeats 4000000 in
set_option maxRecDepth 100000 in
theorem m_X9_shift_9 (l : Launch) (D : ga_G) (h : ga_H) (b : Nat) (y sh : Int) (hb : h b = some (oE 9 [.int (iI y), .int (iI sh)])) : rM l D yX9_shift (ws_ yX9_shift cX9_shift 1 (some .int)) (gR 0) [.ref b] h (some (.int (iI sh))) := by
  refine ga_met (own := RX9) 0 (by decide) rfl (Nat.le_of_ble_eq_true rfl) (L0 := [some (.ref b)]) rfl (fun X _ _ hE => ?_)
  refine ga_aload_n (pc := 0) dX9_shift_0 rfl ?_
  refine ga_get (pc := 1) (C := RX9) (T := TX9) (N := 2) (v := .int (iI sh)) in_X9 rfl hb 1 (by decide) q732 rfl rfl dX9_shift_1 ?_
  exact ga_iret hE dX9_shift_4 (Nat.le_of_ble_eq_true rfl) (Nat.le_of_ble_eq_true rfl) (⟨congrArg (fun z => some (Value.int (iI z))) (rfl), rfl⟩)
set_option maxHeartbeats 4000000 in
set_option maxRecDepth 100000 in
theorem m_X9_number_10 (l : Launch) (D : ga_G) (h : ga_H) (b : Nat) (y sh : Int) (hb : h b = some (oE 10 [.int (iI y), .int (iI sh)])) : rM l D yX9_number (ws_ yX9_number cX9_number 1 (some .int)) (gR 0) [.ref b] h (some (.int (iI y))) := by
  refine ga_met (own := RX9) 0 (by decide) rfl (Nat.le_of_ble_eq_true rfl) (L0 := [some (.ref b)]) rfl (fun X _ _ hE => ?_)
  refine ga_aload_n (pc := 0) dX9_number_0 rfl ?_
  refine ga_get (pc := 1) (C := RX10) (T := TX10) (N := 2) (v := .int (iI y)) in_X10 rfl hb 0 (by decide) q731 rfl rfl dX9_number_1 ?_
  exact ga_iret hE dX9_number_4 (Nat.le_of_ble_eq_true rfl) (Nat.le_of_ble_eq_true rfl) (⟨congrArg (fun z => some (Value.int (iI z))) (rfl), rfl⟩)
set_option maxHeartbeats 4000000 in
set_option maxRecDepth 100000 in
theorem m_X9_shift_10 (l : Launch) (D : ga_G) (h : ga_H) (b : Nat) (y sh : Int) (hb : h b = some (oE 10 [.int (iI y), .int (iI sh)])) : rM l D yX9_shift (ws_ yX9_shift cX9_shift 1 (some .int)) (gR 0) [.ref b] h (some (.int (iI sh))) := by
  refine ga_met (own := RX9) 0 (by decide) rfl (Nat.le_of_ble_eq_true rfl) (L0 := [some (.ref b)]) rfl (fun X _ _ hE => ?_)
  refine ga_aload_n (pc := 0) dX9_shift_0 rfl ?_
  refine ga_get (pc := 1) (C := RX10) (T := TX10) (N := 2) (v := .int (iI sh)) in_X10 rfl hb 1 (by decide) q732 rfl rfl dX9_shift_1 ?_
  exact ga_iret hE dX9_shift_4 (Nat.le_of_ble_eq_true rfl) (Nat.le_of_ble_eq_true rfl) (⟨congrArg (fun z => some (Value.int (iI z))) (rfl), rfl⟩)
set_option maxHeartbeats 4000000 in
set_option maxRecDepth 100000 in
theorem m_X9_number_11 (l : Launch) (D : ga_G) (h : ga_H) (b : Nat) (y sh : Int) (hb : h b = some (oE 11 [.int (iI y), .int (iI sh)])) : rM l D yX9_number (ws_ yX9_number cX9_number 1 (some .int)) (gR 0) [.ref b] h (some (.int (iI y))) := by
  refine ga_met (own := RX9) 0 (by decide) rfl (Nat.le_of_ble_eq_true rfl) (L0 := [some (.ref b)]) rfl (fun X _ _ hE => ?_)
  refine ga_aload_n (pc := 0) dX9_number_0 rfl ?_
  refine ga_get (pc := 1) (C := RX11) (T := TX11) (N := 2) (v := .int (iI y)) in_X11 rfl hb 0 (by decide) q731 rfl rfl dX9_number_1 ?_
  exact ga_iret hE dX9_number_4 (Nat.le_of_ble_eq_true rfl) (Nat.le_of_ble_eq_true rfl) (⟨congrArg (fun z => some (Value.int (iI z))) (rfl), rfl⟩)
set_option maxHeartbeats 4000000 in
set_option maxRecDepth 100000 in
theorem m_X9_shift_11 (l : Launch) (D : ga_G) (h : ga_H) (b : Nat) (y sh : Int) (hb : h b = some (oE 11 [.int (iI y), .int (iI sh)])) : rM l D yX9_shift (ws_ yX9_shift cX9_shift 1 (some .int)) (gR 0) [.ref b] h (some (.int (iI sh))) := by
  refine ga_met (own := RX9) 0 (by decide) rfl (Nat.le_of_ble_eq_true rfl) (L0 := [some (.ref b)]) rfl (fun X _ _ hE => ?_)
  refine ga_aload_n (pc := 0) dX9_shift_0 rfl ?_
  refine ga_get (pc := 1) (C := RX11) (T := TX11) (N := 2) (v := .int (iI sh)) in_X11 rfl hb 1 (by decide) q732 rfl rfl dX9_shift_1 ?_
  exact ga_iret hE dX9_shift_4 (Nat.le_of_ble_eq_true rfl) (Nat.le_of_ble_eq_true rfl) (⟨congrArg (fun z => some (Value.int (iI z))) (rfl), rfl⟩)
set_option maxHeartbeats 4000000 in
set_option maxRecDepth 100000 in
theorem m_X9_number_12 (l : Launch) (D : ga_G) (h : ga_H) (b : Nat) (y sh : Int) (hb : h b = some (oE 12 [.int (iI y), .int (iI sh)])) : rM l D yX9_number (ws_ yX9_number cX9_number 1 (some .int)) (gR 0) [.ref b] h (some (.int (iI y))) := by
  refine ga_met (own := RX9) 0 (by decide) rfl (Nat.le_of_ble_eq_true rfl) (L0 := [some (.ref b)]) rfl (fun X _ _ hE => ?_)
  refine ga_aload_n (pc := 0) dX9_number_0 rfl ?_
  refine ga_get (pc := 1) (C := RX12) (T := TX12) (N := 2) (v := .int (iI y)) in_X12 rfl hb 0 (by decide) q731 rfl rfl dX9_number_1 ?_
  exact ga_iret hE dX9_number_4 (Nat.le_of_ble_eq_true rfl) (Nat.le_of_ble_eq_true rfl) (⟨congrArg (fun z => some (Value.int (iI z))) (rfl), rfl⟩)
set_option maxHeartbeats 4000000 in
set_option maxRecDepth 100000 in
theorem m_X9_shift_12 (l : Launch) (D : ga_G) (h : ga_H) (b : Nat) (y sh : Int) (hb : h b = some (oE 12 [.int (iI y), .int (iI sh)])) : rM l D yX9_shift (ws_ yX9_shift cX9_shift 1 (some .int)) (gR 0) [.ref b] h (some (.int (iI sh))) := by
  refine ga_met (own := RX9) 0 (by decide) rfl (Nat.le_of_ble_eq_true rfl) (L0 := [some (.ref b)]) rfl (fun X _ _ hE => ?_)
  refine ga_aload_n (pc := 0) dX9_shift_0 rfl ?_
  refine ga_get (pc := 1) (C := RX12) (T := TX12) (N := 2) (v := .int (iI sh)) in_X12 rfl hb 1 (by decide) q732 rfl rfl dX9_shift_1 ?_
  exact ga_iret hE dX9_shift_4 (Nat.le_of_ble_eq_true rfl) (Nat.le_of_ble_eq_true rfl) (⟨congrArg (fun z => some (Value.int (iI z))) (rfl), rfl⟩)
set_option maxHeartbeats 4000000 in
set_option maxRecDepth 100000 in
theorem m_X9_number_13 (l : Launch) (D : ga_G) (h : ga_H) (b : Nat) (y sh : Int) (hb : h b = some (oE 13 [.int (iI y), .int (iI sh)])) : rM l D yX9_number (ws_ yX9_number cX9_number 1 (some .int)) (gR 0) [.ref b] h (some (.int (iI y))) := by
  refine ga_met (own := RX9) 0 (by decide) rfl (Nat.le_of_ble_eq_true rfl) (L0 := [some (.ref b)]) rfl (fun X _ _ hE => ?_)
  refine ga_aload_n (pc := 0) dX9_number_0 rfl ?_
  refine ga_get (pc := 1) (C := RX13) (T := TX13) (N := 2) (v := .int (iI y)) in_X13 rfl hb 0 (by decide) q731 rfl rfl dX9_number_1 ?_
  exact ga_iret hE dX9_number_4 (Nat.le_of_ble_eq_true rfl) (Nat.le_of_ble_eq_true rfl) (⟨congrArg (fun z => some (Value.int (iI z))) (rfl), rfl⟩)
set_option maxHeartbeats 4000000 in
set_option maxRecDepth 100000 in
theorem m_X9_shift_13 (l : Launch) (D : ga_G) (h : ga_H) (b : Nat) (y sh : Int) (hb : h b = some (oE 13 [.int (iI y), .int (iI sh)])) : rM l D yX9_shift (ws_ yX9_shift cX9_shift 1 (some .int)) (gR 0) [.ref b] h (some (.int (iI sh))) := by
  refine ga_met (own := RX9) 0 (by decide) rfl (Nat.le_of_ble_eq_true rfl) (L0 := [some (.ref b)]) rfl (fun X _ _ hE => ?_)
  refine ga_aload_n (pc := 0) dX9_shift_0 rfl ?_
  refine ga_get (pc := 1) (C := RX13) (T := TX13) (N := 2) (v := .int (iI sh)) in_X13 rfl hb 1 (by decide) q732 rfl rfl dX9_shift_1 ?_
  exact ga_iret hE dX9_shift_4 (Nat.le_of_ble_eq_true rfl) (Nat.le_of_ble_eq_true rfl) (⟨congrArg (fun z => some (Value.int (iI z))) (rfl), rfl⟩)
set_option maxHeartbeats 4000000 in
set_option maxRecDepth 100000 in
theorem m_X9_number_14 (l : Launch) (D : ga_G) (h : ga_H) (b : Nat) (y sh : Int) (hb : h b = some (oE 14 [.int (iI y), .int (iI sh)])) : rM l D yX9_number (ws_ yX9_number cX9_number 1 (some .int)) (gR 0) [.ref b] h (some (.int (iI y))) := by
  refine ga_met (own := RX9) 0 (by decide) rfl (Nat.le_of_ble_eq_true rfl) (L0 := [some (.ref b)]) rfl (fun X _ _ hE => ?_)
  refine ga_aload_n (pc := 0) dX9_number_0 rfl ?_
  refine ga_get (pc := 1) (C := RX14) (T := TX14) (N := 2) (v := .int (iI y)) in_X14 rfl hb 0 (by decide) q731 rfl rfl dX9_number_1 ?_
  exact ga_iret hE dX9_number_4 (Nat.le_of_ble_eq_true rfl) (Nat.le_of_ble_eq_true rfl) (⟨congrArg (fun z => some (Value.int (iI z))) (rfl), rfl⟩)
set_option maxHeartbeats 4000000 in
set_option maxRecDepth 100000 in
theorem m_X9_shift_14 (l : Launch) (D : ga_G) (h : ga_H) (b : Nat) (y sh : Int) (hb : h b = some (oE 14 [.int (iI y), .int (iI sh)])) : rM l D yX9_shift (ws_ yX9_shift cX9_shift 1 (some .int)) (gR 0) [.ref b] h (some (.int (iI sh))) := by
  refine ga_met (own := RX9) 0 (by decide) rfl (Nat.le_of_ble_eq_true rfl) (L0 := [some (.ref b)]) rfl (fun X _ _ hE => ?_)
  refine ga_aload_n (pc := 0) dX9_shift_0 rfl ?_
  refine ga_get (pc := 1) (C := RX14) (T := TX14) (N := 2) (v := .int (iI sh)) in_X14 rfl hb 1 (by decide) q732 rfl rfl dX9_shift_1 ?_
  exact ga_iret hE dX9_shift_4 (Nat.le_of_ble_eq_true rfl) (Nat.le_of_ble_eq_true rfl) (⟨congrArg (fun z => some (Value.int (iI z))) (rfl), rfl⟩)
set_option maxHeartbeats 4000000 in
set_option maxRecDepth 100000 in
theorem m_X9_number_15 (l : Launch) (D : ga_G) (h : ga_H) (b : Nat) (y sh : Int) (hb : h b = some (oE 15 [.int (iI y), .int (iI sh)])) : rM l D yX9_number (ws_ yX9_number cX9_number 1 (some .int)) (gR 0) [.ref b] h (some (.int (iI y))) := by
  refine ga_met (own := RX9) 0 (by decide) rfl (Nat.le_of_ble_eq_true rfl) (L0 := [some (.ref b)]) rfl (fun X _ _ hE => ?_)
  refine ga_aload_n (pc := 0) dX9_number_0 rfl ?_
  refine ga_get (pc := 1) (C := RX15) (T := TX15) (N := 2) (v := .int (iI y)) in_X15 rfl hb 0 (by decide) q731 rfl rfl dX9_number_1 ?_
  exact ga_iret hE dX9_number_4 (Nat.le_of_ble_eq_true rfl) (Nat.le_of_ble_eq_true rfl) (⟨congrArg (fun z => some (Value.int (iI z))) (rfl), rfl⟩)
set_option maxHeartbeats 4000000 in
set_option maxRecDepth 100000 in
theorem m_X9_shift_15 (l : Launch) (D : ga_G) (h : ga_H) (b : Nat) (y sh : Int) (hb : h b = some (oE 15 [.int (iI y), .int (iI sh)])) : rM l D yX9_shift (ws_ yX9_shift cX9_shift 1 (some .int)) (gR 0) [.ref b] h (some (.int (iI sh))) := by
  refine ga_met (own := RX9) 0 (by decide) rfl (Nat.le_of_ble_eq_true rfl) (L0 := [some (.ref b)]) rfl (fun X _ _ hE => ?_)
  refine ga_aload_n (pc := 0) dX9_shift_0 rfl ?_
  refine ga_get (pc := 1) (C := RX15) (T := TX15) (N := 2) (v := .int (iI sh)) in_X15 rfl hb 1 (by decide) q732 rfl rfl dX9_shift_1 ?_
  exact ga_iret hE dX9_shift_4 (Nat.le_of_ble_eq_true rfl) (Nat.le_of_ble_eq_true rfl) (⟨congrArg (fun z => some (Value.int (iI z))) (rfl), rfl⟩)
set_option maxHeartbeats 4000000 in
set_option maxRecDepth 100000 in
theorem m_X9_number_16 (l : Launch) (D : ga_G) (h : ga_H) (b : Nat) (y sh : Int) (o : Nat) (hb : h b = some (oE 16 [.int (iI y), .int (iI sh), .ref o])) : rM l D yX9_number (ws_ yX9_number cX9_number 1 (some .int)) (gR 0) [.ref b] h (some (.int (iI y))) := by
  refine ga_met (own := RX9) 0 (by decide) rfl (Nat.le_of_ble_eq_true rfl) (L0 := [some (.ref b)]) rfl (fun X _ _ hE => ?_)
  refine ga_aload_n (pc := 0) dX9_number_0 rfl ?_
  refine ga_get (pc := 1) (C := RX16) (T := TX16) (N := 3) (v := .int (iI y)) in_X16 rfl hb 0 (by decide) q731 rfl rfl dX9_number_1 ?_
  exact ga_iret hE dX9_number_4 (Nat.le_of_ble_eq_true rfl) (Nat.le_of_ble_eq_true rfl) (⟨congrArg (fun z => some (Value.int (iI z))) (rfl), rfl⟩)
set_option maxHeartbeats 4000000 in
set_option maxRecDepth 100000 in
theorem m_X9_shift_16 (l : Launch) (D : ga_G) (h : ga_H) (b : Nat) (y sh : Int) (o : Nat) (hb : h b = some (oE 16 [.int (iI y), .int (iI sh), .ref o])) : rM l D yX9_shift (ws_ yX9_shift cX9_shift 1 (some .int)) (gR 0) [.ref b] h (some (.int (iI sh))) := by
  refine ga_met (own := RX9) 0 (by decide) rfl (Nat.le_of_ble_eq_true rfl) (L0 := [some (.ref b)]) rfl (fun X _ _ hE => ?_)
  refine ga_aload_n (pc := 0) dX9_shift_0 rfl ?_
  refine ga_get (pc := 1) (C := RX16) (T := TX16) (N := 3) (v := .int (iI sh)) in_X16 rfl hb 1 (by decide) q732 rfl rfl dX9_shift_1 ?_
  exact ga_iret hE dX9_shift_4 (Nat.le_of_ble_eq_true rfl) (Nat.le_of_ble_eq_true rfl) (⟨congrArg (fun z => some (Value.int (iI z))) (rfl), rfl⟩)
set_option maxHeartbeats 4000000 in
set_option maxRecDepth 100000 in
theorem m_X9_number_17 (l : Launch) (D : ga_G) (h : ga_H) (b : Nat) (y sh : Int) (o : Nat) (fm : Int) (hb : h b = some (oE 17 [.int (iI y), .int (iI sh), .ref o, .int (iI fm)])) : rM l D yX9_number (ws_ yX9_number cX9_number 1 (some .int)) (gR 0) [.ref b] h (some (.int (iI y))) := by
  refine ga_met (own := RX9) 0 (by decide) rfl (Nat.le_of_ble_eq_true rfl) (L0 := [some (.ref b)]) rfl (fun X _ _ hE => ?_)
  refine ga_aload_n (pc := 0) dX9_number_0 rfl ?_
  refine ga_get (pc := 1) (C := RX17) (T := TX17) (N := 4) (v := .int (iI y)) in_X17 rfl hb 0 (by decide) q731 rfl rfl dX9_number_1 ?_
  exact ga_iret hE dX9_number_4 (Nat.le_of_ble_eq_true rfl) (Nat.le_of_ble_eq_true rfl) (⟨congrArg (fun z => some (Value.int (iI z))) (rfl), rfl⟩)
set_option maxHeartbeats 4000000 in
set_option maxRecDepth 100000 in
theorem m_X9_shift_17 (l : Launch) (D : ga_G) (h : ga_H) (b : Nat) (y sh : Int) (o : Nat) (fm : Int) (hb : h b = some (oE 17 [.int (iI y), .int (iI sh), .ref o, .int (iI fm)])) : rM l D yX9_shift (ws_ yX9_shift cX9_shift 1 (some .int)) (gR 0) [.ref b] h (some (.int (iI sh))) := by
  refine ga_met (own := RX9) 0 (by decide) rfl (Nat.le_of_ble_eq_true rfl) (L0 := [some (.ref b)]) rfl (fun X _ _ hE => ?_)
  refine ga_aload_n (pc := 0) dX9_shift_0 rfl ?_
  refine ga_get (pc := 1) (C := RX17) (T := TX17) (N := 4) (v := .int (iI sh)) in_X17 rfl hb 1 (by decide) q732 rfl rfl dX9_shift_1 ?_
  exact ga_iret hE dX9_shift_4 (Nat.le_of_ble_eq_true rfl) (Nat.le_of_ble_eq_true rfl) (⟨congrArg (fun z => some (Value.int (iI z))) (rfl), rfl⟩)
set_option maxHeartbeats 4000000 in
set_option maxRecDepth 100000 in
theorem m_X9_kind (l : Launch) (D : ga_G) (h : ga_H) (b : Nat)  : rM l D yX9_kind (ws_ yX9_kind cX9_kind 1 (some .int)) (gR 0) [.ref b] h (some (.int (iI 0))) := by
  refine ga_met (own := RX9) 0 (by decide) rfl (Nat.le_of_ble_eq_true rfl) (L0 := [some (.ref b)]) rfl (fun X _ _ hE => ?_)
  refine ga_iconst (pc := 0) dX9_kind_0 ?_
  exact ga_iret hE dX9_kind_1 (Nat.le_of_ble_eq_true rfl) (Nat.le_of_ble_eq_true rfl) (⟨congrArg (fun z => some (Value.int (iI z))) (rfl), rfl⟩)
set_option maxHeartbeats 4000000 in
set_option maxRecDepth 100000 in
theorem m_X10_kind (l : Launch) (D : ga_G) (h : ga_H) (b : Nat)  : rM l D yX10_kind (ws_ yX10_kind cX10_kind 1 (some .int)) (gR 0) [.ref b] h (some (.int (iI 1))) := by
  refine ga_met (own := RX10) 0 (by decide) rfl (Nat.le_of_ble_eq_true rfl) (L0 := [some (.ref b)]) rfl (fun X _ _ hE => ?_)
  refine ga_iconst (pc := 0) dX10_kind_0 ?_
  exact ga_iret hE dX10_kind_1 (Nat.le_of_ble_eq_true rfl) (Nat.le_of_ble_eq_true rfl) (⟨congrArg (fun z => some (Value.int (iI z))) (rfl), rfl⟩)
set_option maxHeartbeats 4000000 in
set_option maxRecDepth 100000 in
theorem m_X11_kind (l : Launch) (D : ga_G) (h : ga_H) (b : Nat)  : rM l D yX11_kind (ws_ yX11_kind cX11_kind 1 (some .int)) (gR 0) [.ref b] h (some (.int (iI 2))) := by
  refine ga_met (own := RX11) 0 (by decide) rfl (Nat.le_of_ble_eq_true rfl) (L0 := [some (.ref b)]) rfl (fun X _ _ hE => ?_)
  refine ga_iconst (pc := 0) dX11_kind_0 ?_
  exact ga_iret hE dX11_kind_1 (Nat.le_of_ble_eq_true rfl) (Nat.le_of_ble_eq_true rfl) (⟨congrArg (fun z => some (Value.int (iI z))) (rfl), rfl⟩)
set_option maxHeartbeats 4000000 in
set_option maxRecDepth 100000 in
theorem m_X12_kind (l : Launch) (D : ga_G) (h : ga_H) (b : Nat)  : rM l D yX12_kind (ws_ yX12_kind cX12_kind 1 (some .int)) (gR 0) [.ref b] h (some (.int (iI 3))) := by
  refine ga_met (own := RX12) 0 (by decide) rfl (Nat.le_of_ble_eq_true rfl) (L0 := [some (.ref b)]) rfl (fun X _ _ hE => ?_)
  refine ga_iconst (pc := 0) dX12_kind_0 ?_
  exact ga_iret hE dX12_kind_1 (Nat.le_of_ble_eq_true rfl) (Nat.le_of_ble_eq_true rfl) (⟨congrArg (fun z => some (Value.int (iI z))) (rfl), rfl⟩)
set_option maxHeartbeats 4000000 in
set_option maxRecDepth 100000 in
theorem m_X13_kind (l : Launch) (D : ga_G) (h : ga_H) (b : Nat)  : rM l D yX13_kind (ws_ yX13_kind cX13_kind 1 (some .int)) (gR 0) [.ref b] h (some (.int (iI 4))) := by
  refine ga_met (own := RX13) 0 (by decide) rfl (Nat.le_of_ble_eq_true rfl) (L0 := [some (.ref b)]) rfl (fun X _ _ hE => ?_)
  refine ga_iconst (pc := 0) dX13_kind_0 ?_
  exact ga_iret hE dX13_kind_1 (Nat.le_of_ble_eq_true rfl) (Nat.le_of_ble_eq_true rfl) (⟨congrArg (fun z => some (Value.int (iI z))) (rfl), rfl⟩)
set_option maxHeartbeats 4000000 in
set_option maxRecDepth 100000 in
theorem m_X14_kind (l : Launch) (D : ga_G) (h : ga_H) (b : Nat)  : rM l D yX14_kind (ws_ yX14_kind cX14_kind 1 (some .int)) (gR 0) [.ref b] h (some (.int (iI 5))) := by
  refine ga_met (own := RX14) 0 (by decide) rfl (Nat.le_of_ble_eq_true rfl) (L0 := [some (.ref b)]) rfl (fun X _ _ hE => ?_)
  refine ga_iconst (pc := 0) dX14_kind_0 ?_
  exact ga_iret hE dX14_kind_1 (Nat.le_of_ble_eq_true rfl) (Nat.le_of_ble_eq_true rfl) (⟨congrArg (fun z => some (Value.int (iI z))) (rfl), rfl⟩)
set_option maxHeartbeats 4000000 in
set_option maxRecDepth 100000 in
theorem m_X15_kind (l : Launch) (D : ga_G) (h : ga_H) (b : Nat)  : rM l D yX15_kind (ws_ yX15_kind cX15_kind 1 (some .int)) (gR 0) [.ref b] h (some (.int (iI 6))) := by
  refine ga_met (own := RX15) 0 (by decide) rfl (Nat.le_of_ble_eq_true rfl) (L0 := [some (.ref b)]) rfl (fun X _ _ hE => ?_)
  refine ga_bipush (pc := 0) dX15_kind_0 rfl ?_
  exact ga_iret hE dX15_kind_2 (Nat.le_of_ble_eq_true rfl) (Nat.le_of_ble_eq_true rfl) (⟨congrArg (fun z => some (Value.int (iI z))) (rfl), rfl⟩)
set_option maxHeartbeats 4000000 in
set_option maxRecDepth 100000 in
theorem m_X9_needsSquare (l : Launch) (D : ga_G) (h : ga_H) (b : Nat)  : rM l D yX9_needsSquare (ws_ yX9_needsSquare cX9_needsSquare 1 (some .boolean)) (gR 0) [.ref b] h (some (.int (iI (bI False)))) := by
  refine ga_met (own := RX9) 0 (by decide) rfl (Nat.le_of_ble_eq_true rfl) (L0 := [some (.ref b)]) rfl (fun X _ _ hE => ?_)
  refine ga_iconst (pc := 0) dX9_needsSquare_0 ?_
  exact ga_zret hE dX9_needsSquare_1 (Nat.le_of_ble_eq_true rfl) (Nat.le_of_ble_eq_true rfl) (by first | exact Or.inl rfl | exact Or.inr rfl) (⟨congrArg (fun z => some (Value.int (iI z))) ((if_neg (fun z => z)).symm), rfl⟩)
set_option maxHeartbeats 4000000 in
set_option maxRecDepth 100000 in
theorem m_X11_needsSquare (l : Launch) (D : ga_G) (h : ga_H) (b : Nat)  : rM l D yX11_needsSquare (ws_ yX11_needsSquare cX11_needsSquare 1 (some .boolean)) (gR 0) [.ref b] h (some (.int (iI (bI True)))) := by
  refine ga_met (own := RX11) 0 (by decide) rfl (Nat.le_of_ble_eq_true rfl) (L0 := [some (.ref b)]) rfl (fun X _ _ hE => ?_)
  refine ga_iconst (pc := 0) dX11_needsSquare_0 ?_
  exact ga_zret hE dX11_needsSquare_1 (Nat.le_of_ble_eq_true rfl) (Nat.le_of_ble_eq_true rfl) (by first | exact Or.inl rfl | exact Or.inr rfl) (⟨congrArg (fun z => some (Value.int (iI z))) ((if_pos trivial).symm), rfl⟩)
set_option maxHeartbeats 4000000 in
set_option maxRecDepth 100000 in
theorem m_X12_needsSquare (l : Launch) (D : ga_G) (h : ga_H) (b : Nat)  : rM l D yX12_needsSquare (ws_ yX12_needsSquare cX12_needsSquare 1 (some .boolean)) (gR 0) [.ref b] h (some (.int (iI (bI True)))) := by
  refine ga_met (own := RX12) 0 (by decide) rfl (Nat.le_of_ble_eq_true rfl) (L0 := [some (.ref b)]) rfl (fun X _ _ hE => ?_)
  refine ga_iconst (pc := 0) dX12_needsSquare_0 ?_
  exact ga_zret hE dX12_needsSquare_1 (Nat.le_of_ble_eq_true rfl) (Nat.le_of_ble_eq_true rfl) (by first | exact Or.inl rfl | exact Or.inr rfl) (⟨congrArg (fun z => some (Value.int (iI z))) ((if_pos trivial).symm), rfl⟩)
set_option maxHeartbeats 4000000 in
set_option maxRecDepth 100000 in
theorem m_X9_unknowns (l : Launch) (D : ga_G) (h : ga_H) (b : Nat) (m w : Int)  : rM l D yX9_unknowns (ws_ yX9_unknowns cX9_unknowns 3 (some .int)) (gR 0) [.ref b, .int (iI m), .int (iI w)] h (some (.int (iI (m * w)))) := by
  refine ga_met (own := RX9) 0 (by decide) rfl (Nat.le_of_ble_eq_true rfl) (L0 := [some (.ref b), some (.int (iI m)), some (.int (iI w))]) rfl (fun X _ _ hE => ?_)
  refine ga_iload_n (pc := 0) dX9_unknowns_0 rfl ?_
  refine ga_iload_n (pc := 1) dX9_unknowns_1 rfl ?_
  refine ga_imul (pc := 2) dX9_unknowns_2 ?_
  exact ga_iret hE dX9_unknowns_3 (Nat.le_of_ble_eq_true rfl) (Nat.le_of_ble_eq_true rfl) (⟨congrArg (fun z => some (Value.int (iI z))) (rfl), rfl⟩)
set_option maxHeartbeats 4000000 in
set_option maxRecDepth 100000 in
theorem m_X13_unknowns (l : Launch) (D : ga_G) (h : ga_H) (b : Nat) (m w : Int)  : rM l D yX13_unknowns (ws_ yX13_unknowns cX13_unknowns 3 (some .int)) (gR 0) [.ref b, .int (iI m), .int (iI w)] h (some (.int (iI m))) := by
  refine ga_met (own := RX13) 0 (by decide) rfl (Nat.le_of_ble_eq_true rfl) (L0 := [some (.ref b), some (.int (iI m)), some (.int (iI w))]) rfl (fun X _ _ hE => ?_)
  refine ga_iload_n (pc := 0) dX13_unknowns_0 rfl ?_
  exact ga_iret hE dX13_unknowns_1 (Nat.le_of_ble_eq_true rfl) (Nat.le_of_ble_eq_true rfl) (⟨congrArg (fun z => some (Value.int (iI z))) (rfl), rfl⟩)
set_option maxHeartbeats 4000000 in
set_option maxRecDepth 100000 in
theorem m_X14_unknowns (l : Launch) (D : ga_G) (h : ga_H) (b : Nat) (m w : Int) (h1 : 1 ≤ m ∧ m ≤ 3) : rM l D yX14_unknowns (ws_ yX14_unknowns cX14_unknowns 3 (some .int)) (gR 0) [.ref b, .int (iI m), .int (iI w)] h (some (.int (iI ((m * (m + 1)).tdiv 2)))) := by
  refine ga_met (own := RX14) 0 (by decide) rfl (Nat.le_of_ble_eq_true rfl) (L0 := [some (.ref b), some (.int (iI m)), some (.int (iI w))]) rfl (fun X _ _ hE => ?_)
  have hmm : 0 ≤ m * (m + 1) ∧ m * (m + 1) ≤ 12 := by { rcases (by omega : m = 1 ∨ m = 2 ∨ m = 3) with z | z | z <;> (rw [z]; decide) }
  refine ga_iload_n (pc := 0) dX14_unknowns_0 rfl ?_
  refine ga_iload_n (pc := 1) dX14_unknowns_1 rfl ?_
  refine ga_iconst (pc := 2) dX14_unknowns_2 ?_
  refine ga_iadd (pc := 3) dX14_unknowns_3 ?_
  refine ga_imul (pc := 4) dX14_unknowns_4 ?_
  refine ga_iconst (pc := 5) dX14_unknowns_5 ?_
  refine ga_idiv (pc := 6) dX14_unknowns_6 (by omega) (by omega) (by omega) ?_
  exact ga_iret hE dX14_unknowns_7 (Nat.le_of_ble_eq_true rfl) (Nat.le_of_ble_eq_true rfl) (⟨congrArg (fun z => some (Value.int (iI z))) (rfl), rfl⟩)
set_option maxHeartbeats 4000000 in
set_option maxRecDepth 100000 in
theorem m_X15_unknowns (l : Launch) (D : ga_G) (h : ga_H) (b : Nat) (fs : List Value) (m w : Int) (hb : h b = some (oE 15 fs)) (h1 : 1 ≤ m ∧ m ≤ 3) : rM l D yX15_unknowns (ws_ yX15_unknowns cX15_unknowns 3 (some .int)) (gR 1) [.ref b, .int (iI m), .int (iI w)] h (some (.int (iI ((m * (m + 1)).tdiv 2 - m)))) := by
  refine ga_met (own := RX15) 0 (by decide) rfl (Nat.le_of_ble_eq_true rfl) (L0 := [some (.ref b), some (.int (iI m)), some (.int (iI w))]) rfl (fun X _ _ hE => ?_)
  refine ga_aload_n (pc := 0) dX15_unknowns_0 rfl ?_
  refine ga_iload_n (pc := 1) dX15_unknowns_1 rfl ?_
  refine ga_iload_n (pc := 2) dX15_unknowns_2 rfl ?_
  refine rm_go (pc := 3) (ga_runSU (m_X14_unknowns _ _ h b m w h1) q846 q2155 q782 q827 q126 q828 (by decide) (show ga_nn' yX14_unknowns 2 from (by unfold ga_nn'; decide +kernel)) ⟨rfl, rfl⟩ ⟨by show 0 + 1 ≤ _; exact Nat.le_of_ble_eq_true rfl, by show 8 + (3 + 11) + 64 * 0 ≤ _; exact Nat.le_of_ble_eq_true rfl⟩ ⟨Nat.le_of_ble_eq_true rfl, Nat.le_of_ble_eq_true rfl⟩ hb rfl (Nat.le_of_ble_eq_true rfl) dX15_unknowns_3 rfl) ?_
  refine ga_iload_n (pc := 6) dX15_unknowns_6 rfl ?_
  refine ga_isub (pc := 7) dX15_unknowns_7 ?_
  exact ga_iret hE dX15_unknowns_8 (Nat.le_of_ble_eq_true rfl) (Nat.le_of_ble_eq_true rfl) (⟨congrArg (fun z => some (Value.int (iI z))) (rfl), rfl⟩)
set_option maxHeartbeats 4000000 in
set_option maxRecDepth 100000 in
theorem m_X9_right (l : Launch) (D : ga_G) (h : ga_H) (b t ta tb tc e : Nat) (m w ro co i j : Int) (f : Int → Int) (ht : h t = some (oE 4 [.int (iI m), .int (iI w), .ref ta, .ref tb, .ref tc])) (htb : h tb = some (oE 5 [.int (iI ro), .int (iI co), .int (iI 9), .ref e])) (he : h e = some (aL 9 f)) (hij : 0 ≤ co * i + j ∧ co * i + j < 9) : rM l D yX9_right (ws_ yX9_right cX9_right 4 (some .long)) (gR 1) [.ref b, .ref t, .int (iI i), .int (iI j)] h (some (.long (lI (f (co * i + j))))) := by
  refine ga_met (own := RX9) 0 (by decide) rfl (Nat.le_of_ble_eq_true rfl) (L0 := [some (.ref b), some (.ref t), some (.int (iI i)), some (.int (iI j))]) rfl (fun X _ _ hE => ?_)
  refine ga_aload_n (pc := 0) dX9_right_0 rfl ?_
  refine ga_getN (pc := 1) (C := RX4) (T := TX4) (N := 5) (v := .ref tb) in_X4 rfl ht 3 (by decide) (ga_nt q315 rfl) rfl rfl dX9_right_1 ?_
  refine ga_iload_n (pc := 4) dX9_right_4 rfl ?_
  refine ga_iload_n (pc := 5) dX9_right_5 rfl ?_
  refine k_X5_at_X9 (pc := 6) (b := tb) (e := e) (ro := ro) (co := co) (i := i) (j := j) (f := f) (htb) (he) (by first | exact hij | omega) (rfl) ⟨Nat.le_of_ble_eq_true rfl, Nat.le_of_ble_eq_true rfl⟩ ⟨Nat.le_of_ble_eq_true rfl, Nat.le_of_ble_eq_true rfl⟩ (Nat.le_of_ble_eq_true rfl) dX9_right_6 ?_
  exact ga_lret hE dX9_right_9 (Nat.le_of_ble_eq_true rfl) (Nat.le_of_ble_eq_true rfl) (⟨congrArg (fun z => some (Value.long (lI z))) (rfl), rfl⟩)
set_option maxHeartbeats 4000000 in
set_option maxRecDepth 100000 in
theorem m_X10_right (l : Launch) (D : ga_G) (h : ga_H) (b t : Nat) (i j : Int)  : rM l D yX10_right (ws_ yX10_right cX10_right 4 (some .long)) (gR 0) [.ref b, .ref t, .int (iI i), .int (iI j)] h (some (.long (lI 0))) := by
  refine ga_met (own := RX10) 0 (by decide) rfl (Nat.le_of_ble_eq_true rfl) (L0 := [some (.ref b), some (.ref t), some (.int (iI i)), some (.int (iI j))]) rfl (fun X _ _ hE => ?_)
  refine ga_lconst (pc := 0) 0 dX10_right_0 rfl ?_
  exact ga_lret hE dX10_right_1 (Nat.le_of_ble_eq_true rfl) (Nat.le_of_ble_eq_true rfl) (⟨congrArg (fun z => some (Value.long (lI z))) (rfl), rfl⟩)
set_option maxHeartbeats 4000000 in
set_option maxRecDepth 100000 in
theorem m_X11_right (l : Launch) (D : ga_G) (h : ga_H) (b t ta tb tc e : Nat) (m w ro co i j : Int) (f : Int → Int) (ht : h t = some (oE 4 [.int (iI m), .int (iI w), .ref ta, .ref tb, .ref tc])) (htb : h ta = some (oE 5 [.int (iI ro), .int (iI co), .int (iI 9), .ref e])) (he : h e = some (aL 9 f)) (hij : 0 ≤ co * i + j ∧ co * i + j < 9) : rM l D yX11_right (ws_ yX11_right cX11_right 4 (some .long)) (gR 1) [.ref b, .ref t, .int (iI i), .int (iI j)] h (some (.long (lI (-f (co * i + j))))) := by
  refine ga_met (own := RX11) 0 (by decide) rfl (Nat.le_of_ble_eq_true rfl) (L0 := [some (.ref b), some (.ref t), some (.int (iI i)), some (.int (iI j))]) rfl (fun X _ _ hE => ?_)
  refine ga_aload_n (pc := 0) dX11_right_0 rfl ?_
  refine ga_getN (pc := 1) (C := RX4) (T := TX4) (N := 5) (v := .ref ta) in_X4 rfl ht 2 (by decide) (ga_nt q311 rfl) rfl rfl dX11_right_1 ?_
  refine ga_iload_n (pc := 4) dX11_right_4 rfl ?_
  refine ga_iload_n (pc := 5) dX11_right_5 rfl ?_
  refine k_X5_at_X11 (pc := 6) (b := ta) (e := e) (ro := ro) (co := co) (i := i) (j := j) (f := f) (htb) (he) (by first | exact hij | omega) (rfl) ⟨Nat.le_of_ble_eq_true rfl, Nat.le_of_ble_eq_true rfl⟩ ⟨Nat.le_of_ble_eq_true rfl, Nat.le_of_ble_eq_true rfl⟩ (Nat.le_of_ble_eq_true rfl) dX11_right_6 ?_
  refine ga_lneg (pc := 9) dX11_right_9 ?_
  exact ga_lret hE dX11_right_10 (Nat.le_of_ble_eq_true rfl) (Nat.le_of_ble_eq_true rfl) (⟨congrArg (fun z => some (Value.long (lI z))) (rfl), rfl⟩)
set_option maxHeartbeats 4000000 in
set_option maxRecDepth 100000 in
theorem m_X12_right (l : Launch) (D : ga_G) (h : ga_H) (b t ta tb tc e : Nat) (m w ro co i j : Int) (f : Int → Int) (ht : h t = some (oE 4 [.int (iI m), .int (iI w), .ref ta, .ref tb, .ref tc])) (htb : h ta = some (oE 5 [.int (iI ro), .int (iI co), .int (iI 9), .ref e])) (he : h e = some (aL 9 f)) (hij : 0 ≤ co * j + i ∧ co * j + i < 9) : rM l D yX12_right (ws_ yX12_right cX12_right 4 (some .long)) (gR 1) [.ref b, .ref t, .int (iI i), .int (iI j)] h (some (.long (lI (f (co * j + i))))) := by
  refine ga_met (own := RX12) 0 (by decide) rfl (Nat.le_of_ble_eq_true rfl) (L0 := [some (.ref b), some (.ref t), some (.int (iI i)), some (.int (iI j))]) rfl (fun X _ _ hE => ?_)
  refine ga_aload_n (pc := 0) dX12_right_0 rfl ?_
  refine ga_getN (pc := 1) (C := RX4) (T := TX4) (N := 5) (v := .ref ta) in_X4 rfl ht 2 (by decide) (ga_nt q312 rfl) rfl rfl dX12_right_1 ?_
  refine ga_iload_n (pc := 4) dX12_right_4 rfl ?_
  refine ga_iload_n (pc := 5) dX12_right_5 rfl ?_
  refine k_X5_at_X12 (pc := 6) (b := ta) (e := e) (ro := ro) (co := co) (i := j) (j := i) (f := f) (htb) (he) (hij) (rfl) ⟨Nat.le_of_ble_eq_true rfl, Nat.le_of_ble_eq_true rfl⟩ ⟨Nat.le_of_ble_eq_true rfl, Nat.le_of_ble_eq_true rfl⟩ (Nat.le_of_ble_eq_true rfl) dX12_right_6 ?_
  exact ga_lret hE dX12_right_9 (Nat.le_of_ble_eq_true rfl) (Nat.le_of_ble_eq_true rfl) (⟨congrArg (fun z => some (Value.long (lI z))) (rfl), rfl⟩)
