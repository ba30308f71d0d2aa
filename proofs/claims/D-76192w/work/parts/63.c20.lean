/-! THE CLASS: constructors of single cells -/
set_option maxHeartbeats 4000000 in
set_option maxRecDepth 100000 in
theorem m_X9_init_9 (l : Launch) (D : ga_G) (h : ga_H) (b : Nat) (v0 v1 : Value) (y sh : Int) (hb : h b = some (oE 9 [v0, v1]))  : ga_M l D yX9_init (ws_ yX9_init cX9_init 3 none) (gR 1) [.ref b, .int (iI y), .int (iI sh)] h (pV (fun h1 => h1 = ga_u h b (oE 9 [.int (iI y), .int (iI sh)]))) pX0 0 0 := by
  refine ga_met (own := RX9) 0 (by decide) rfl (Nat.le_of_ble_eq_true rfl) (L0 := [some (.ref b), some (.int (iI y)), some (.int (iI sh))]) rfl (fun X _ _ hE => ?_)
  refine ga_aload_n (pc := 0) dX9_init_0 rfl ?_
  refine ga_objInit (pc := 1) q730 (Nat.le_of_ble_eq_true rfl) (Nat.le_of_ble_eq_true rfl) dX9_init_1 ?_
  refine ga_aload_n (pc := 4) dX9_init_4 rfl ?_
  refine ga_iload_n (pc := 5) dX9_init_5 rfl ?_
  refine ga_putF (pc := 6) (fs1 := [.int (iI y), v1]) (C := RX9) (T := TX9) (N := 2) in_X9 tyX9_ok nmX9 rfl hb 0 (by decide) q731 rfl rfl hE.2.2.2.1 rfl rfl rfl (by show 0 < 2; decide) rfl dX9_init_6 ?_
  refine ga_aload_n (pc := 9) dX9_init_9 rfl ?_
  refine ga_iload_n (pc := 10) dX9_init_10 rfl ?_
  refine ga_putF (pc := 11) (fs1 := [.int (iI y), .int (iI sh)]) (C := RX9) (T := TX9) (N := 2) in_X9 tyX9_ok nmX9 rfl (ga_us _ _ _) 1 (by decide) q732 rfl rfl hE.2.2.2.1 rfl rfl rfl (by show 1 < 2; decide) rfl dX9_init_11 ?_
  refine ga_heq (pc := 14) (ga_uu _ _ _ _) ?_
  exact ga_vret hE dX9_init_14 (Nat.le_of_ble_eq_true rfl) (Nat.le_of_ble_eq_true rfl) (⟨rfl, rfl⟩)
set_option maxHeartbeats 4000000 in
set_option maxRecDepth 100000 in
theorem m_X9_init_10 (l : Launch) (D : ga_G) (h : ga_H) (b : Nat) (v0 v1 : Value) (y sh : Int) (hb : h b = some (oE 10 [v0, v1]))  : ga_M l D yX9_init (ws_ yX9_init cX9_init 3 none) (gR 1) [.ref b, .int (iI y), .int (iI sh)] h (pV (fun h1 => h1 = ga_u h b (oE 10 [.int (iI y), .int (iI sh)]))) pX0 0 0 := by
  refine ga_met (own := RX9) 0 (by decide) rfl (Nat.le_of_ble_eq_true rfl) (L0 := [some (.ref b), some (.int (iI y)), some (.int (iI sh))]) rfl (fun X _ _ hE => ?_)
  refine ga_aload_n (pc := 0) dX9_init_0 rfl ?_
  refine ga_objInit (pc := 1) q730 (Nat.le_of_ble_eq_true rfl) (Nat.le_of_ble_eq_true rfl) dX9_init_1 ?_
  refine ga_aload_n (pc := 4) dX9_init_4 rfl ?_
  refine ga_iload_n (pc := 5) dX9_init_5 rfl ?_
  refine ga_putF (pc := 6) (fs1 := [.int (iI y), v1]) (C := RX10) (T := TX10) (N := 2) in_X10 tyX10_ok nmX10 rfl hb 0 (by decide) q731 rfl rfl hE.2.2.2.1 rfl rfl rfl (by show 0 < 2; decide) rfl dX9_init_6 ?_
  refine ga_aload_n (pc := 9) dX9_init_9 rfl ?_
  refine ga_iload_n (pc := 10) dX9_init_10 rfl ?_
  refine ga_putF (pc := 11) (fs1 := [.int (iI y), .int (iI sh)]) (C := RX10) (T := TX10) (N := 2) in_X10 tyX10_ok nmX10 rfl (ga_us _ _ _) 1 (by decide) q732 rfl rfl hE.2.2.2.1 rfl rfl rfl (by show 1 < 2; decide) rfl dX9_init_11 ?_
  refine ga_heq (pc := 14) (ga_uu _ _ _ _) ?_
  exact ga_vret hE dX9_init_14 (Nat.le_of_ble_eq_true rfl) (Nat.le_of_ble_eq_true rfl) (⟨rfl, rfl⟩)
set_option maxHeartbeats 4000000 in
set_option maxRecDepth 100000 in
theorem m_X9_init_11 (l : Launch) (D : ga_G) (h : ga_H) (b : Nat) (v0 v1 : Value) (y sh : Int) (hb : h b = some (oE 11 [v0, v1]))  : ga_M l D yX9_init (ws_ yX9_init cX9_init 3 none) (gR 1) [.ref b, .int (iI y), .int (iI sh)] h (pV (fun h1 => h1 = ga_u h b (oE 11 [.int (iI y), .int (iI sh)]))) pX0 0 0 := by
  refine ga_met (own := RX9) 0 (by decide) rfl (Nat.le_of_ble_eq_true rfl) (L0 := [some (.ref b), some (.int (iI y)), some (.int (iI sh))]) rfl (fun X _ _ hE => ?_)
  refine ga_aload_n (pc := 0) dX9_init_0 rfl ?_
  refine ga_objInit (pc := 1) q730 (Nat.le_of_ble_eq_true rfl) (Nat.le_of_ble_eq_true rfl) dX9_init_1 ?_
  refine ga_aload_n (pc := 4) dX9_init_4 rfl ?_
  refine ga_iload_n (pc := 5) dX9_init_5 rfl ?_
  refine ga_putF (pc := 6) (fs1 := [.int (iI y), v1]) (C := RX11) (T := TX11) (N := 2) in_X11 tyX11_ok nmX11 rfl hb 0 (by decide) q731 rfl rfl hE.2.2.2.1 rfl rfl rfl (by show 0 < 2; decide) rfl dX9_init_6 ?_
  refine ga_aload_n (pc := 9) dX9_init_9 rfl ?_
  refine ga_iload_n (pc := 10) dX9_init_10 rfl ?_
  refine ga_putF (pc := 11) (fs1 := [.int (iI y), .int (iI sh)]) (C := RX11) (T := TX11) (N := 2) in_X11 tyX11_ok nmX11 rfl (ga_us _ _ _) 1 (by decide) q732 rfl rfl hE.2.2.2.1 rfl rfl rfl (by show 1 < 2; decide) rfl dX9_init_11 ?_
  refine ga_heq (pc := 14) (ga_uu _ _ _ _) ?_
  exact ga_vret hE dX9_init_14 (Nat.le_of_ble_eq_true rfl) (Nat.le_of_ble_eq_true rfl) (⟨rfl, rfl⟩)
set_option maxHeartbeats 4000000 in
set_option maxRecDepth 100000 in
theorem m_X9_init_12 (l : Launch) (D : ga_G) (h : ga_H) (b : Nat) (v0 v1 : Value) (y sh : Int) (hb : h b = some (oE 12 [v0, v1]))  : ga_M l D yX9_init (ws_ yX9_init cX9_init 3 none) (gR 1) [.ref b, .int (iI y), .int (iI sh)] h (pV (fun h1 => h1 = ga_u h b (oE 12 [.int (iI y), .int (iI sh)]))) pX0 0 0 := by
  refine ga_met (own := RX9) 0 (by decide) rfl (Nat.le_of_ble_eq_true rfl) (L0 := [some (.ref b), some (.int (iI y)), some (.int (iI sh))]) rfl (fun X _ _ hE => ?_)
  refine ga_aload_n (pc := 0) dX9_init_0 rfl ?_
  refine ga_objInit (pc := 1) q730 (Nat.le_of_ble_eq_true rfl) (Nat.le_of_ble_eq_true rfl) dX9_init_1 ?_
  refine ga_aload_n (pc := 4) dX9_init_4 rfl ?_
  refine ga_iload_n (pc := 5) dX9_init_5 rfl ?_
  refine ga_putF (pc := 6) (fs1 := [.int (iI y), v1]) (C := RX12) (T := TX12) (N := 2) in_X12 tyX12_ok nmX12 rfl hb 0 (by decide) q731 rfl rfl hE.2.2.2.1 rfl rfl rfl (by show 0 < 2; decide) rfl dX9_init_6 ?_
  refine ga_aload_n (pc := 9) dX9_init_9 rfl ?_
  refine ga_iload_n (pc := 10) dX9_init_10 rfl ?_
  refine ga_putF (pc := 11) (fs1 := [.int (iI y), .int (iI sh)]) (C := RX12) (T := TX12) (N := 2) in_X12 tyX12_ok nmX12 rfl (ga_us _ _ _) 1 (by decide) q732 rfl rfl hE.2.2.2.1 rfl rfl rfl (by show 1 < 2; decide) rfl dX9_init_11 ?_
  refine ga_heq (pc := 14) (ga_uu _ _ _ _) ?_
  exact ga_vret hE dX9_init_14 (Nat.le_of_ble_eq_true rfl) (Nat.le_of_ble_eq_true rfl) (⟨rfl, rfl⟩)
set_option maxHeartbeats 4000000 in
set_option maxRecDepth 100000 in
theorem m_X9_init_13 (l : Launch) (D : ga_G) (h : ga_H) (b : Nat) (v0 v1 : Value) (y sh : Int) (hb : h b = some (oE 13 [v0, v1]))  : ga_M l D yX9_init (ws_ yX9_init cX9_init 3 none) (gR 1) [.ref b, .int (iI y), .int (iI sh)] h (pV (fun h1 => h1 = ga_u h b (oE 13 [.int (iI y), .int (iI sh)]))) pX0 0 0 := by
  refine ga_met (own := RX9) 0 (by decide) rfl (Nat.le_of_ble_eq_true rfl) (L0 := [some (.ref b), some (.int (iI y)), some (.int (iI sh))]) rfl (fun X _ _ hE => ?_)
  refine ga_aload_n (pc := 0) dX9_init_0 rfl ?_
  refine ga_objInit (pc := 1) q730 (Nat.le_of_ble_eq_true rfl) (Nat.le_of_ble_eq_true rfl) dX9_init_1 ?_
  refine ga_aload_n (pc := 4) dX9_init_4 rfl ?_
  refine ga_iload_n (pc := 5) dX9_init_5 rfl ?_
  refine ga_putF (pc := 6) (fs1 := [.int (iI y), v1]) (C := RX13) (T := TX13) (N := 2) in_X13 tyX13_ok nmX13 rfl hb 0 (by decide) q731 rfl rfl hE.2.2.2.1 rfl rfl rfl (by show 0 < 2; decide) rfl dX9_init_6 ?_
  refine ga_aload_n (pc := 9) dX9_init_9 rfl ?_
  refine ga_iload_n (pc := 10) dX9_init_10 rfl ?_
  refine ga_putF (pc := 11) (fs1 := [.int (iI y), .int (iI sh)]) (C := RX13) (T := TX13) (N := 2) in_X13 tyX13_ok nmX13 rfl (ga_us _ _ _) 1 (by decide) q732 rfl rfl hE.2.2.2.1 rfl rfl rfl (by show 1 < 2; decide) rfl dX9_init_11 ?_
  refine ga_heq (pc := 14) (ga_uu _ _ _ _) ?_
  exact ga_vret hE dX9_init_14 (Nat.le_of_ble_eq_true rfl) (Nat.le_of_ble_eq_true rfl) (⟨rfl, rfl⟩)
set_option maxHeartbeats 4000000 in
set_option maxRecDepth 100000 in
theorem m_X9_init_14 (l : Launch) (D : ga_G) (h : ga_H) (b : Nat) (v0 v1 : Value) (y sh : Int) (hb : h b = some (oE 14 [v0, v1]))  : ga_M l D yX9_init (ws_ yX9_init cX9_init 3 none) (gR 1) [.ref b, .int (iI y), .int (iI sh)] h (pV (fun h1 => h1 = ga_u h b (oE 14 [.int (iI y), .int (iI sh)]))) pX0 0 0 := by
  refine ga_met (own := RX9) 0 (by decide) rfl (Nat.le_of_ble_eq_true rfl) (L0 := [some (.ref b), some (.int (iI y)), some (.int (iI sh))]) rfl (fun X _ _ hE => ?_)
  refine ga_aload_n (pc := 0) dX9_init_0 rfl ?_
  refine ga_objInit (pc := 1) q730 (Nat.le_of_ble_eq_true rfl) (Nat.le_of_ble_eq_true rfl) dX9_init_1 ?_
  refine ga_aload_n (pc := 4) dX9_init_4 rfl ?_
  refine ga_iload_n (pc := 5) dX9_init_5 rfl ?_
  refine ga_putF (pc := 6) (fs1 := [.int (iI y), v1]) (C := RX14) (T := TX14) (N := 2) in_X14 tyX14_ok nmX14 rfl hb 0 (by decide) q731 rfl rfl hE.2.2.2.1 rfl rfl rfl (by show 0 < 2; decide) rfl dX9_init_6 ?_
  refine ga_aload_n (pc := 9) dX9_init_9 rfl ?_
  refine ga_iload_n (pc := 10) dX9_init_10 rfl ?_
  refine ga_putF (pc := 11) (fs1 := [.int (iI y), .int (iI sh)]) (C := RX14) (T := TX14) (N := 2) in_X14 tyX14_ok nmX14 rfl (ga_us _ _ _) 1 (by decide) q732 rfl rfl hE.2.2.2.1 rfl rfl rfl (by show 1 < 2; decide) rfl dX9_init_11 ?_
  refine ga_heq (pc := 14) (ga_uu _ _ _ _) ?_
  exact ga_vret hE dX9_init_14 (Nat.le_of_ble_eq_true rfl) (Nat.le_of_ble_eq_true rfl) (⟨rfl, rfl⟩)
set_option maxHeartbeats 4000000 in
set_option maxRecDepth 100000 in
theorem m_X9_init_15 (l : Launch) (D : ga_G) (h : ga_H) (b : Nat) (v0 v1 : Value) (y sh : Int) (hb : h b = some (oE 15 [v0, v1]))  : ga_M l D yX9_init (ws_ yX9_init cX9_init 3 none) (gR 1) [.ref b, .int (iI y), .int (iI sh)] h (pV (fun h1 => h1 = ga_u h b (oE 15 [.int (iI y), .int (iI sh)]))) pX0 0 0 := by
  refine ga_met (own := RX9) 0 (by decide) rfl (Nat.le_of_ble_eq_true rfl) (L0 := [some (.ref b), some (.int (iI y)), some (.int (iI sh))]) rfl (fun X _ _ hE => ?_)
  refine ga_aload_n (pc := 0) dX9_init_0 rfl ?_
  refine ga_objInit (pc := 1) q730 (Nat.le_of_ble_eq_true rfl) (Nat.le_of_ble_eq_true rfl) dX9_init_1 ?_
  refine ga_aload_n (pc := 4) dX9_init_4 rfl ?_
  refine ga_iload_n (pc := 5) dX9_init_5 rfl ?_
  refine ga_putF (pc := 6) (fs1 := [.int (iI y), v1]) (C := RX15) (T := TX15) (N := 2) in_X15 tyX15_ok nmX15 rfl hb 0 (by decide) q731 rfl rfl hE.2.2.2.1 rfl rfl rfl (by show 0 < 2; decide) rfl dX9_init_6 ?_
  refine ga_aload_n (pc := 9) dX9_init_9 rfl ?_
  refine ga_iload_n (pc := 10) dX9_init_10 rfl ?_
  refine ga_putF (pc := 11) (fs1 := [.int (iI y), .int (iI sh)]) (C := RX15) (T := TX15) (N := 2) in_X15 tyX15_ok nmX15 rfl (ga_us _ _ _) 1 (by decide) q732 rfl rfl hE.2.2.2.1 rfl rfl rfl (by show 1 < 2; decide) rfl dX9_init_11 ?_
  refine ga_heq (pc := 14) (ga_uu _ _ _ _) ?_
  exact ga_vret hE dX9_init_14 (Nat.le_of_ble_eq_true rfl) (Nat.le_of_ble_eq_true rfl) (⟨rfl, rfl⟩)
set_option maxHeartbeats 4000000 in
set_option maxRecDepth 100000 in
theorem m_X9_init_16 (l : Launch) (D : ga_G) (h : ga_H) (b : Nat) (v0 v1 v2 : Value) (y sh : Int) (hb : h b = some (oE 16 [v0, v1, v2]))  : ga_M l D yX9_init (ws_ yX9_init cX9_init 3 none) (gR 1) [.ref b, .int (iI y), .int (iI sh)] h (pV (fun h1 => h1 = ga_u h b (oE 16 [.int (iI y), .int (iI sh), v2]))) pX0 0 0 := by
  refine ga_met (own := RX9) 0 (by decide) rfl (Nat.le_of_ble_eq_true rfl) (L0 := [some (.ref b), some (.int (iI y)), some (.int (iI sh))]) rfl (fun X _ _ hE => ?_)
  refine ga_aload_n (pc := 0) dX9_init_0 rfl ?_
  refine ga_objInit (pc := 1) q730 (Nat.le_of_ble_eq_true rfl) (Nat.le_of_ble_eq_true rfl) dX9_init_1 ?_
  refine ga_aload_n (pc := 4) dX9_init_4 rfl ?_
  refine ga_iload_n (pc := 5) dX9_init_5 rfl ?_
  refine ga_putF (pc := 6) (fs1 := [.int (iI y), v1, v2]) (C := RX16) (T := TX16) (N := 3) in_X16 tyX16_ok nmX16 rfl hb 0 (by decide) q731 rfl rfl hE.2.2.2.1 rfl rfl rfl (by show 0 < 3; decide) rfl dX9_init_6 ?_
  refine ga_aload_n (pc := 9) dX9_init_9 rfl ?_
  refine ga_iload_n (pc := 10) dX9_init_10 rfl ?_
  refine ga_putF (pc := 11) (fs1 := [.int (iI y), .int (iI sh), v2]) (C := RX16) (T := TX16) (N := 3) in_X16 tyX16_ok nmX16 rfl (ga_us _ _ _) 1 (by decide) q732 rfl rfl hE.2.2.2.1 rfl rfl rfl (by show 1 < 3; decide) rfl dX9_init_11 ?_
  refine ga_heq (pc := 14) (ga_uu _ _ _ _) ?_
  exact ga_vret hE dX9_init_14 (Nat.le_of_ble_eq_true rfl) (Nat.le_of_ble_eq_true rfl) (⟨rfl, rfl⟩)
set_option maxHeartbeats 4000000 in
set_option maxRecDepth 100000 in
theorem m_X9_init_17 (l : Launch) (D : ga_G) (h : ga_H) (b : Nat) (v0 v1 v2 v3 : Value) (y sh : Int) (hb : h b = some (oE 17 [v0, v1, v2, v3]))  : ga_M l D yX9_init (ws_ yX9_init cX9_init 3 none) (gR 1) [.ref b, .int (iI y), .int (iI sh)] h (pV (fun h1 => h1 = ga_u h b (oE 17 [.int (iI y), .int (iI sh), v2, v3]))) pX0 0 0 := by
  refine ga_met (own := RX9) 0 (by decide) rfl (Nat.le_of_ble_eq_true rfl) (L0 := [some (.ref b), some (.int (iI y)), some (.int (iI sh))]) rfl (fun X _ _ hE => ?_)
  refine ga_aload_n (pc := 0) dX9_init_0 rfl ?_
  refine ga_objInit (pc := 1) q730 (Nat.le_of_ble_eq_true rfl) (Nat.le_of_ble_eq_true rfl) dX9_init_1 ?_
  refine ga_aload_n (pc := 4) dX9_init_4 rfl ?_
  refine ga_iload_n (pc := 5) dX9_init_5 rfl ?_
  refine ga_putF (pc := 6) (fs1 := [.int (iI y), v1, v2, v3]) (C := RX17) (T := TX17) (N := 4) in_X17 tyX17_ok nmX17 rfl hb 0 (by decide) q731 rfl rfl hE.2.2.2.1 rfl rfl rfl (by show 0 < 4; decide) rfl dX9_init_6 ?_
  refine ga_aload_n (pc := 9) dX9_init_9 rfl ?_
  refine ga_iload_n (pc := 10) dX9_init_10 rfl ?_
  refine ga_putF (pc := 11) (fs1 := [.int (iI y), .int (iI sh), v2, v3]) (C := RX17) (T := TX17) (N := 4) in_X17 tyX17_ok nmX17 rfl (ga_us _ _ _) 1 (by decide) q732 rfl rfl hE.2.2.2.1 rfl rfl rfl (by show 1 < 4; decide) rfl dX9_init_11 ?_
  refine ga_heq (pc := 14) (ga_uu _ _ _ _) ?_
  exact ga_vret hE dX9_init_14 (Nat.le_of_ble_eq_true rfl) (Nat.le_of_ble_eq_true rfl) (⟨rfl, rfl⟩)
set_option maxHeartbeats 4000000 in
set_option maxRecDepth 100000 in
theorem m_X10_init_10 (l : Launch) (D : ga_G) (h : ga_H) (b : Nat) (v0 v1 : Value) (y sh : Int) (hb : h b = some (oE 10 [v0, v1]))  : ga_M l D yX10_init (ws_ yX10_init cX10_init 3 none) (gR 2) [.ref b, .int (iI y), .int (iI sh)] h (pV (fun h1 => h1 = ga_u h b (oE 10 [.int (iI y), .int (iI sh)]))) pX0 0 0 := by
  refine ga_met (own := RX10) 0 (by decide) rfl (Nat.le_of_ble_eq_true rfl) (L0 := [some (.ref b), some (.int (iI y)), some (.int (iI sh))]) rfl (fun X _ _ hE => ?_)
  refine ga_aload_n (pc := 0) dX10_init_0 rfl ?_
  refine ga_iload_n (pc := 1) dX10_init_1 rfl ?_
  refine ga_iload_n (pc := 2) dX10_init_2 rfl ?_
  refine ga_goV (pc := 3) (ga_runI (mc := 0) (ms := 0) (m_X9_init_10 _ _ _ b v0 v1 y sh hb ) (lw_meth q729) q121 q727 q728 rfl (show ga_nn' yX9_init 2 from (by unfold ga_nn'; decide +kernel)) ⟨rfl, rfl⟩ ⟨by show 1 + 1 ≤ _; exact Nat.le_of_ble_eq_true rfl, by show 8 + (3 + 11) + 64 * 1 ≤ _; exact Nat.le_of_ble_eq_true rfl⟩ ⟨Nat.le_of_ble_eq_true rfl, Nat.le_of_ble_eq_true rfl⟩ (Nat.le_of_ble_eq_true rfl) dX10_init_3 rfl) (fun h1 hp => ?_)
  subst hp
  exact ga_vret hE dX10_init_6 (Nat.le_of_ble_eq_true rfl) (Nat.le_of_ble_eq_true rfl) (⟨rfl, rfl⟩)
set_option maxHeartbeats 4000000 in
set_option maxRecDepth 100000 in
theorem m_X11_init_11 (l : Launch) (D : ga_G) (h : ga_H) (b : Nat) (v0 v1 : Value) (y sh : Int) (hb : h b = some (oE 11 [v0, v1]))  : ga_M l D yX11_init (ws_ yX11_init cX11_init 3 none) (gR 2) [.ref b, .int (iI y), .int (iI sh)] h (pV (fun h1 => h1 = ga_u h b (oE 11 [.int (iI y), .int (iI sh)]))) pX0 0 0 := by
  refine ga_met (own := RX11) 0 (by decide) rfl (Nat.le_of_ble_eq_true rfl) (L0 := [some (.ref b), some (.int (iI y)), some (.int (iI sh))]) rfl (fun X _ _ hE => ?_)
  refine ga_aload_n (pc := 0) dX11_init_0 rfl ?_
  refine ga_iload_n (pc := 1) dX11_init_1 rfl ?_
  refine ga_iload_n (pc := 2) dX11_init_2 rfl ?_
  refine ga_goV (pc := 3) (ga_runI (mc := 0) (ms := 0) (m_X9_init_11 _ _ _ b v0 v1 y sh hb ) (lw_meth q729) q121 q743 q728 rfl (show ga_nn' yX9_init 2 from (by unfold ga_nn'; decide +kernel)) ⟨rfl, rfl⟩ ⟨by show 1 + 1 ≤ _; exact Nat.le_of_ble_eq_true rfl, by show 8 + (3 + 11) + 64 * 1 ≤ _; exact Nat.le_of_ble_eq_true rfl⟩ ⟨Nat.le_of_ble_eq_true rfl, Nat.le_of_ble_eq_true rfl⟩ (Nat.le_of_ble_eq_true rfl) dX11_init_3 rfl) (fun h1 hp => ?_)
  subst hp
  exact ga_vret hE dX11_init_6 (Nat.le_of_ble_eq_true rfl) (Nat.le_of_ble_eq_true rfl) (⟨rfl, rfl⟩)
set_option maxHeartbeats 4000000 in
set_option maxRecDepth 100000 in
theorem m_X11_init_13 (l : Launch) (D : ga_G) (h : ga_H) (b : Nat) (v0 v1 : Value) (y sh : Int) (hb : h b = some (oE 13 [v0, v1]))  : ga_M l D yX11_init (ws_ yX11_init cX11_init 3 none) (gR 2) [.ref b, .int (iI y), .int (iI sh)] h (pV (fun h1 => h1 = ga_u h b (oE 13 [.int (iI y), .int (iI sh)]))) pX0 0 0 := by
  refine ga_met (own := RX11) 0 (by decide) rfl (Nat.le_of_ble_eq_true rfl) (L0 := [some (.ref b), some (.int (iI y)), some (.int (iI sh))]) rfl (fun X _ _ hE => ?_)
  refine ga_aload_n (pc := 0) dX11_init_0 rfl ?_
  refine ga_iload_n (pc := 1) dX11_init_1 rfl ?_
  refine ga_iload_n (pc := 2) dX11_init_2 rfl ?_
  refine ga_goV (pc := 3) (ga_runI (mc := 0) (ms := 0) (m_X9_init_13 _ _ _ b v0 v1 y sh hb ) (lw_meth q729) q121 q743 q728 rfl (show ga_nn' yX9_init 2 from (by unfold ga_nn'; decide +kernel)) ⟨rfl, rfl⟩ ⟨by show 1 + 1 ≤ _; exact Nat.le_of_ble_eq_true rfl, by show 8 + (3 + 11) + 64 * 1 ≤ _; exact Nat.le_of_ble_eq_true rfl⟩ ⟨Nat.le_of_ble_eq_true rfl, Nat.le_of_ble_eq_true rfl⟩ (Nat.le_of_ble_eq_true rfl) dX11_init_3 rfl) (fun h1 hp => ?_)
  subst hp
  exact ga_vret hE dX11_init_6 (Nat.le_of_ble_eq_true rfl) (Nat.le_of_ble_eq_true rfl) (⟨rfl, rfl⟩)
set_option maxHeartbeats 4000000 in
set_option maxRecDepth 100000 in
theorem m_X12_init_12 (l : Launch) (D : ga_G) (h : ga_H) (b : Nat) (v0 v1 : Value) (y sh : Int) (hb : h b = some (oE 12 [v0, v1]))  : ga_M l D yX12_init (ws_ yX12_init cX12_init 3 none) (gR 2) [.ref b, .int (iI y), .int (iI sh)] h (pV (fun h1 => h1 = ga_u h b (oE 12 [.int (iI y), .int (iI sh)]))) pX0 0 0 := by
  refine ga_met (own := RX12) 0 (by decide) rfl (Nat.le_of_ble_eq_true rfl) (L0 := [some (.ref b), some (.int (iI y)), some (.int (iI sh))]) rfl (fun X _ _ hE => ?_)
  refine ga_aload_n (pc := 0) dX12_init_0 rfl ?_
  refine ga_iload_n (pc := 1) dX12_init_1 rfl ?_
  refine ga_iload_n (pc := 2) dX12_init_2 rfl ?_
  refine ga_goV (pc := 3) (ga_runI (mc := 0) (ms := 0) (m_X9_init_12 _ _ _ b v0 v1 y sh hb ) (lw_meth q729) q121 q752 q728 rfl (show ga_nn' yX9_init 2 from (by unfold ga_nn'; decide +kernel)) ⟨rfl, rfl⟩ ⟨by show 1 + 1 ≤ _; exact Nat.le_of_ble_eq_true rfl, by show 8 + (3 + 11) + 64 * 1 ≤ _; exact Nat.le_of_ble_eq_true rfl⟩ ⟨Nat.le_of_ble_eq_true rfl, Nat.le_of_ble_eq_true rfl⟩ (Nat.le_of_ble_eq_true rfl) dX12_init_3 rfl) (fun h1 hp => ?_)
  subst hp
  exact ga_vret hE dX12_init_6 (Nat.le_of_ble_eq_true rfl) (Nat.le_of_ble_eq_true rfl) (⟨rfl, rfl⟩)
set_option maxHeartbeats 4000000 in
set_option maxRecDepth 100000 in
theorem m_X12_init_14 (l : Launch) (D : ga_G) (h : ga_H) (b : Nat) (v0 v1 : Value) (y sh : Int) (hb : h b = some (oE 14 [v0, v1]))  : ga_M l D yX12_init (ws_ yX12_init cX12_init 3 none) (gR 2) [.ref b, .int (iI y), .int (iI sh)] h (pV (fun h1 => h1 = ga_u h b (oE 14 [.int (iI y), .int (iI sh)]))) pX0 0 0 := by
  refine ga_met (own := RX12) 0 (by decide) rfl (Nat.le_of_ble_eq_true rfl) (L0 := [some (.ref b), some (.int (iI y)), some (.int (iI sh))]) rfl (fun X _ _ hE => ?_)
  refine ga_aload_n (pc := 0) dX12_init_0 rfl ?_
  refine ga_iload_n (pc := 1) dX12_init_1 rfl ?_
  refine ga_iload_n (pc := 2) dX12_init_2 rfl ?_
  refine ga_goV (pc := 3) (ga_runI (mc := 0) (ms := 0) (m_X9_init_14 _ _ _ b v0 v1 y sh hb ) (lw_meth q729) q121 q752 q728 rfl (show ga_nn' yX9_init 2 from (by unfold ga_nn'; decide +kernel)) ⟨rfl, rfl⟩ ⟨by show 1 + 1 ≤ _; exact Nat.le_of_ble_eq_true rfl, by show 8 + (3 + 11) + 64 * 1 ≤ _; exact Nat.le_of_ble_eq_true rfl⟩ ⟨Nat.le_of_ble_eq_true rfl, Nat.le_of_ble_eq_true rfl⟩ (Nat.le_of_ble_eq_true rfl) dX12_init_3 rfl) (fun h1 hp => ?_)
  subst hp
  exact ga_vret hE dX12_init_6 (Nat.le_of_ble_eq_true rfl) (Nat.le_of_ble_eq_true rfl) (⟨rfl, rfl⟩)
set_option maxHeartbeats 4000000 in
set_option maxRecDepth 100000 in
theorem m_X12_init_15 (l : Launch) (D : ga_G) (h : ga_H) (b : Nat) (v0 v1 : Value) (y sh : Int) (hb : h b = some (oE 15 [v0, v1]))  : ga_M l D yX12_init (ws_ yX12_init cX12_init 3 none) (gR 2) [.ref b, .int (iI y), .int (iI sh)] h (pV (fun h1 => h1 = ga_u h b (oE 15 [.int (iI y), .int (iI sh)]))) pX0 0 0 := by
  refine ga_met (own := RX12) 0 (by decide) rfl (Nat.le_of_ble_eq_true rfl) (L0 := [some (.ref b), some (.int (iI y)), some (.int (iI sh))]) rfl (fun X _ _ hE => ?_)
  refine ga_aload_n (pc := 0) dX12_init_0 rfl ?_
  refine ga_iload_n (pc := 1) dX12_init_1 rfl ?_
  refine ga_iload_n (pc := 2) dX12_init_2 rfl ?_
  refine ga_goV (pc := 3) (ga_runI (mc := 0) (ms := 0) (m_X9_init_15 _ _ _ b v0 v1 y sh hb ) (lw_meth q729) q121 q752 q728 rfl (show ga_nn' yX9_init 2 from (by unfold ga_nn'; decide +kernel)) ⟨rfl, rfl⟩ ⟨by show 1 + 1 ≤ _; exact Nat.le_of_ble_eq_true rfl, by show 8 + (3 + 11) + 64 * 1 ≤ _; exact Nat.le_of_ble_eq_true rfl⟩ ⟨Nat.le_of_ble_eq_true rfl, Nat.le_of_ble_eq_true rfl⟩ (Nat.le_of_ble_eq_true rfl) dX12_init_3 rfl) (fun h1 hp => ?_)
  subst hp
  exact ga_vret hE dX12_init_6 (Nat.le_of_ble_eq_true rfl) (Nat.le_of_ble_eq_true rfl) (⟨rfl, rfl⟩)
set_option maxHeartbeats 4000000 in
set_option maxRecDepth 100000 in
theorem m_X13_init_13 (l : Launch) (D : ga_G) (h : ga_H) (b : Nat) (v0 v1 : Value) (y sh : Int) (hb : h b = some (oE 13 [v0, v1]))  : ga_M l D yX13_init (ws_ yX13_init cX13_init 3 none) (gR 3) [.ref b, .int (iI y), .int (iI sh)] h (pV (fun h1 => h1 = ga_u h b (oE 13 [.int (iI y), .int (iI sh)]))) pX0 0 0 := by
  refine ga_met (own := RX13) 0 (by decide) rfl (Nat.le_of_ble_eq_true rfl) (L0 := [some (.ref b), some (.int (iI y)), some (.int (iI sh))]) rfl (fun X _ _ hE => ?_)
  refine ga_aload_n (pc := 0) dX13_init_0 rfl ?_
  refine ga_iload_n (pc := 1) dX13_init_1 rfl ?_
  refine ga_iload_n (pc := 2) dX13_init_2 rfl ?_
  refine ga_goV (pc := 3) (ga_runI (mc := 0) (ms := 0) (m_X11_init_13 _ _ _ b v0 v1 y sh hb ) (lw_meth q742) q123 q761 q741 rfl (show ga_nn' yX11_init 2 from (by unfold ga_nn'; decide +kernel)) ⟨rfl, rfl⟩ ⟨by show 2 + 1 ≤ _; exact Nat.le_of_ble_eq_true rfl, by show 8 + (3 + 11) + 64 * 2 ≤ _; exact Nat.le_of_ble_eq_true rfl⟩ ⟨Nat.le_of_ble_eq_true rfl, Nat.le_of_ble_eq_true rfl⟩ (Nat.le_of_ble_eq_true rfl) dX13_init_3 rfl) (fun h1 hp => ?_)
  subst hp
  exact ga_vret hE dX13_init_6 (Nat.le_of_ble_eq_true rfl) (Nat.le_of_ble_eq_true rfl) (⟨rfl, rfl⟩)
set_option maxHeartbeats 4000000 in
set_option maxRecDepth 100000 in
theorem m_X14_init_14 (l : Launch) (D : ga_G) (h : ga_H) (b : Nat) (v0 v1 : Value) (y sh : Int) (hb : h b = some (oE 14 [v0, v1]))  : ga_M l D yX14_init (ws_ yX14_init cX14_init 3 none) (gR 3) [.ref b, .int (iI y), .int (iI sh)] h (pV (fun h1 => h1 = ga_u h b (oE 14 [.int (iI y), .int (iI sh)]))) pX0 0 0 := by
  refine ga_met (own := RX14) 0 (by decide) rfl (Nat.le_of_ble_eq_true rfl) (L0 := [some (.ref b), some (.int (iI y)), some (.int (iI sh))]) rfl (fun X _ _ hE => ?_)
  refine ga_aload_n (pc := 0) dX14_init_0 rfl ?_
  refine ga_iload_n (pc := 1) dX14_init_1 rfl ?_
  refine ga_iload_n (pc := 2) dX14_init_2 rfl ?_
  refine ga_goV (pc := 3) (ga_runI (mc := 0) (ms := 0) (m_X12_init_14 _ _ _ b v0 v1 y sh hb ) (lw_meth q751) q124 q770 q750 rfl (show ga_nn' yX12_init 2 from (by unfold ga_nn'; decide +kernel)) ⟨rfl, rfl⟩ ⟨by show 2 + 1 ≤ _; exact Nat.le_of_ble_eq_true rfl, by show 8 + (3 + 11) + 64 * 2 ≤ _; exact Nat.le_of_ble_eq_true rfl⟩ ⟨Nat.le_of_ble_eq_true rfl, Nat.le_of_ble_eq_true rfl⟩ (Nat.le_of_ble_eq_true rfl) dX14_init_3 rfl) (fun h1 hp => ?_)
  subst hp
  exact ga_vret hE dX14_init_6 (Nat.le_of_ble_eq_true rfl) (Nat.le_of_ble_eq_true rfl) (⟨rfl, rfl⟩)
set_option maxHeartbeats 4000000 in
set_option maxRecDepth 100000 in
theorem m_X14_init_15 (l : Launch) (D : ga_G) (h : ga_H) (b : Nat) (v0 v1 : Value) (y sh : Int) (hb : h b = some (oE 15 [v0, v1]))  : ga_M l D yX14_init (ws_ yX14_init cX14_init 3 none) (gR 3) [.ref b, .int (iI y), .int (iI sh)] h (pV (fun h1 => h1 = ga_u h b (oE 15 [.int (iI y), .int (iI sh)]))) pX0 0 0 := by
  refine ga_met (own := RX14) 0 (by decide) rfl (Nat.le_of_ble_eq_true rfl) (L0 := [some (.ref b), some (.int (iI y)), some (.int (iI sh))]) rfl (fun X _ _ hE => ?_)
  refine ga_aload_n (pc := 0) dX14_init_0 rfl ?_
  refine ga_iload_n (pc := 1) dX14_init_1 rfl ?_
  refine ga_iload_n (pc := 2) dX14_init_2 rfl ?_
  refine ga_goV (pc := 3) (ga_runI (mc := 0) (ms := 0) (m_X12_init_15 _ _ _ b v0 v1 y sh hb ) (lw_meth q751) q124 q770 q750 rfl (show ga_nn' yX12_init 2 from (by unfold ga_nn'; decide +kernel)) ⟨rfl, rfl⟩ ⟨by show 2 + 1 ≤ _; exact Nat.le_of_ble_eq_true rfl, by show 8 + (3 + 11) + 64 * 2 ≤ _; exact Nat.le_of_ble_eq_true rfl⟩ ⟨Nat.le_of_ble_eq_true rfl, Nat.le_of_ble_eq_true rfl⟩ (Nat.le_of_ble_eq_true rfl) dX14_init_3 rfl) (fun h1 hp => ?_)
  subst hp
  exact ga_vret hE dX14_init_6 (Nat.le_of_ble_eq_true rfl) (Nat.le_of_ble_eq_true rfl) (⟨rfl, rfl⟩)
set_option maxHeartbeats 4000000 in
set_option maxRecDepth 100000 in
theorem m_X15_init_15 (l : Launch) (D : ga_G) (h : ga_H) (b : Nat) (v0 v1 : Value) (y sh : Int) (hb : h b = some (oE 15 [v0, v1]))  : ga_M l D yX15_init (ws_ yX15_init cX15_init 3 none) (gR 4) [.ref b, .int (iI y), .int (iI sh)] h (pV (fun h1 => h1 = ga_u h b (oE 15 [.int (iI y), .int (iI sh)]))) pX0 0 0 := by
  refine ga_met (own := RX15) 0 (by decide) rfl (Nat.le_of_ble_eq_true rfl) (L0 := [some (.ref b), some (.int (iI y)), some (.int (iI sh))]) rfl (fun X _ _ hE => ?_)
  refine ga_aload_n (pc := 0) dX15_init_0 rfl ?_
  refine ga_iload_n (pc := 1) dX15_init_1 rfl ?_
  refine ga_iload_n (pc := 2) dX15_init_2 rfl ?_
  refine ga_goV (pc := 3) (ga_runI (mc := 0) (ms := 0) (m_X14_init_15 _ _ _ b v0 v1 y sh hb ) (lw_meth q769) q126 q779 q768 rfl (show ga_nn' yX14_init 2 from (by unfold ga_nn'; decide +kernel)) ⟨rfl, rfl⟩ ⟨by show 3 + 1 ≤ _; exact Nat.le_of_ble_eq_true rfl, by show 8 + (3 + 11) + 64 * 3 ≤ _; exact Nat.le_of_ble_eq_true rfl⟩ ⟨Nat.le_of_ble_eq_true rfl, Nat.le_of_ble_eq_true rfl⟩ (Nat.le_of_ble_eq_true rfl) dX15_init_3 rfl) (fun h1 hp => ?_)
  subst hp
  exact ga_vret hE dX15_init_6 (Nat.le_of_ble_eq_true rfl) (Nat.le_of_ble_eq_true rfl) (⟨rfl, rfl⟩)
set_option maxHeartbeats 4000000 in
set_option maxRecDepth 100000 in
theorem m_X18_init_18 (l : Launch) (D : ga_G) (h : ga_H) (b : Nat) (v0 : Value) (y : Int) (hb : h b = some (oE 18 [v0]))  : ga_M l D yX18_init (ws_ yX18_init cX18_init 2 none) (gR 1) [.ref b, .int (iI y)] h (pV (fun h1 => h1 = ga_u h b (oE 18 [.int (iI y)]))) pX0 0 0 := by
  refine ga_met (own := RX18) 0 (by decide) rfl (Nat.le_of_ble_eq_true rfl) (L0 := [some (.ref b), some (.int (iI y))]) rfl (fun X _ _ hE => ?_)
  refine ga_aload_n (pc := 0) dX18_init_0 rfl ?_
  refine ga_objInit (pc := 1) q1317 (Nat.le_of_ble_eq_true rfl) (Nat.le_of_ble_eq_true rfl) dX18_init_1 ?_
  refine ga_aload_n (pc := 4) dX18_init_4 rfl ?_
  refine ga_iload_n (pc := 5) dX18_init_5 rfl ?_
  refine ga_putF (pc := 6) (fs1 := [.int (iI y)]) (C := RX18) (T := TX18) (N := 1) in_X18 tyX18_ok nmX18 rfl hb 0 (by decide) q1318 rfl rfl hE.2.2.2.1 rfl rfl rfl (by show 0 < 1; decide) rfl dX18_init_6 ?_
  exact ga_vret hE dX18_init_9 (Nat.le_of_ble_eq_true rfl) (Nat.le_of_ble_eq_true rfl) (⟨rfl, rfl⟩)
set_option maxRecDepth 100000 in
theorem v_number_X16 {X : ga_X} {R : Room} {nL : Nat} {cc : ByteArray} {h : ga_H} {k n pc : Nat} {L : List (Option Value)} {st : List Value} {p : Nat} {kd y sh : Int}  {z : Int} (hb : h p = some (oE (9 + kd.toNat) [.int (iI y), .int (iI sh)])) (hk9 : 0 ≤ kd ∧ kd ≤ 6)  (hz : y = z) (hR : 0 + 1 ≤ R.frames ∧ 19 + 1 + 64 * 0 ≤ R.locals) (hk : k ≤ R.cells ∧ n ≤ R.slots) (hs : (st.map fun v => v.category).sum ≤ 8) (d : decode cc pc = .ok (.invokevirtual 1, 3)) (kk : G X R RX16 nL cc h k n (pc + 3) L (.int (iI z) :: st)) : G X R RX16 nL cc h k n pc L (.ref p :: st) := by
  subst hz
  rcases (by omega : kd = 0 ∨ kd = 1 ∨ kd = 2 ∨ kd = 3 ∨ kd = 4 ∨ kd = 5 ∨ kd = 6) with rfl | rfl | rfl | rfl | rfl | rfl | rfl
  · exact rm_go (ga_runV (C := RX9) (T := TX9) (N := 2) (m_X9_number_9 _ _ h p y sh hb) (lw_V q1052 q1053 q1054 q121 q1064) rfl (show ga_nn' yX9_number 0 from (by unfold ga_nn'; decide +kernel)) ⟨rfl, rfl⟩ ⟨by show 0 + 1 ≤ _; omega, by show 8 + (1 + 11) + 64 * 0 ≤ _; omega⟩ hk hb rfl hs d rfl) kk
  · exact rm_go (ga_runU (C := RX10) (T := TX10) (N := 2) (owner := "TwoSidedTables$Plain") (x := ⟨"TwoSidedTables$Plain", "number", "()I"⟩) (m_X9_number_10 _ _ h p y sh hb) q1052 q1055 q1053 q1064 q1058 q1053 q121 q1064 ⟨by decide, by decide⟩ (show ga_nn' yX9_number 0 from (by unfold ga_nn'; decide +kernel)) ⟨rfl, rfl⟩ ⟨by show 0 + 1 ≤ _; omega, by show 8 + (1 + 11) + 64 * 0 ≤ _; omega⟩ hk hb rfl hs d rfl) kk
  · exact rm_go (ga_runU (C := RX11) (T := TX11) (N := 2) (owner := "TwoSidedTables$Plain") (x := ⟨"TwoSidedTables$Plain", "number", "()I"⟩) (m_X9_number_11 _ _ h p y sh hb) q1052 q1055 q1053 q1064 q1056 q1053 q121 q1064 ⟨by decide, by decide⟩ (show ga_nn' yX9_number 0 from (by unfold ga_nn'; decide +kernel)) ⟨rfl, rfl⟩ ⟨by show 0 + 1 ≤ _; omega, by show 8 + (1 + 11) + 64 * 0 ≤ _; omega⟩ hk hb rfl hs d rfl) kk
  · exact rm_go (ga_runU (C := RX12) (T := TX12) (N := 2) (owner := "TwoSidedTables$Plain") (x := ⟨"TwoSidedTables$Plain", "number", "()I"⟩) (m_X9_number_12 _ _ h p y sh hb) q1052 q1055 q1053 q1064 q1063 q1053 q121 q1064 ⟨by decide, by decide⟩ (show ga_nn' yX9_number 0 from (by unfold ga_nn'; decide +kernel)) ⟨rfl, rfl⟩ ⟨by show 0 + 1 ≤ _; omega, by show 8 + (1 + 11) + 64 * 0 ≤ _; omega⟩ hk hb rfl hs d rfl) kk
  · exact rm_go (ga_runU (C := RX13) (T := TX13) (N := 2) (owner := "TwoSidedTables$Plain") (x := ⟨"TwoSidedTables$Plain", "number", "()I"⟩) (m_X9_number_13 _ _ h p y sh hb) q1052 q1055 q1053 q1064 q1059 q1053 q121 q1064 ⟨by decide, by decide⟩ (show ga_nn' yX9_number 0 from (by unfold ga_nn'; decide +kernel)) ⟨rfl, rfl⟩ ⟨by show 0 + 1 ≤ _; omega, by show 8 + (1 + 11) + 64 * 0 ≤ _; omega⟩ hk hb rfl hs d rfl) kk
  · exact rm_go (ga_runU (C := RX14) (T := TX14) (N := 2) (owner := "TwoSidedTables$Plain") (x := ⟨"TwoSidedTables$Plain", "number", "()I"⟩) (m_X9_number_14 _ _ h p y sh hb) q1052 q1055 q1053 q1064 q1057 q1053 q121 q1064 ⟨by decide, by decide⟩ (show ga_nn' yX9_number 0 from (by unfold ga_nn'; decide +kernel)) ⟨rfl, rfl⟩ ⟨by show 0 + 1 ≤ _; omega, by show 8 + (1 + 11) + 64 * 0 ≤ _; omega⟩ hk hb rfl hs d rfl) kk
  · exact rm_go (ga_runU (C := RX15) (T := TX15) (N := 2) (owner := "TwoSidedTables$Plain") (x := ⟨"TwoSidedTables$Plain", "number", "()I"⟩) (m_X9_number_15 _ _ h p y sh hb) q1052 q1055 q1053 q1064 q1062 q1053 q121 q1064 ⟨by decide, by decide⟩ (show ga_nn' yX9_number 0 from (by unfold ga_nn'; decide +kernel)) ⟨rfl, rfl⟩ ⟨by show 0 + 1 ≤ _; omega, by show 8 + (1 + 11) + 64 * 0 ≤ _; omega⟩ hk hb rfl hs d rfl) kk
set_option maxRecDepth 100000 in
theorem v_shift_X16 {X : ga_X} {R : Room} {nL : Nat} {cc : ByteArray} {h : ga_H} {k n pc : Nat} {L : List (Option Value)} {st : List Value} {p : Nat} {kd y sh : Int}  {z : Int} (hb : h p = some (oE (9 + kd.toNat) [.int (iI y), .int (iI sh)])) (hk9 : 0 ≤ kd ∧ kd ≤ 6)  (hz : sh = z) (hR : 0 + 1 ≤ R.frames ∧ 19 + 1 + 64 * 0 ≤ R.locals) (hk : k ≤ R.cells ∧ n ≤ R.slots) (hs : (st.map fun v => v.category).sum ≤ 8) (d : decode cc pc = .ok (.invokevirtual 7, 3)) (kk : G X R RX16 nL cc h k n (pc + 3) L (.int (iI z) :: st)) : G X R RX16 nL cc h k n pc L (.ref p :: st) := by
  subst hz
  rcases (by omega : kd = 0 ∨ kd = 1 ∨ kd = 2 ∨ kd = 3 ∨ kd = 4 ∨ kd = 5 ∨ kd = 6) with rfl | rfl | rfl | rfl | rfl | rfl | rfl
  · exact rm_go (ga_runV (C := RX9) (T := TX9) (N := 2) (m_X9_shift_9 _ _ h p y sh hb) (lw_V q1065 q874 q875 q121 q885) rfl (show ga_nn' yX9_shift 0 from (by unfold ga_nn'; decide +kernel)) ⟨rfl, rfl⟩ ⟨by show 0 + 1 ≤ _; omega, by show 8 + (1 + 11) + 64 * 0 ≤ _; omega⟩ hk hb rfl hs d rfl) kk
  · exact rm_go (ga_runU (C := RX10) (T := TX10) (N := 2) (owner := "TwoSidedTables$Plain") (x := ⟨"TwoSidedTables$Plain", "shift", "()I"⟩) (m_X9_shift_10 _ _ h p y sh hb) q1065 q876 q874 q885 q879 q874 q121 q885 ⟨by decide, by decide⟩ (show ga_nn' yX9_shift 0 from (by unfold ga_nn'; decide +kernel)) ⟨rfl, rfl⟩ ⟨by show 0 + 1 ≤ _; omega, by show 8 + (1 + 11) + 64 * 0 ≤ _; omega⟩ hk hb rfl hs d rfl) kk
  · exact rm_go (ga_runU (C := RX11) (T := TX11) (N := 2) (owner := "TwoSidedTables$Plain") (x := ⟨"TwoSidedTables$Plain", "shift", "()I"⟩) (m_X9_shift_11 _ _ h p y sh hb) q1065 q876 q874 q885 q877 q874 q121 q885 ⟨by decide, by decide⟩ (show ga_nn' yX9_shift 0 from (by unfold ga_nn'; decide +kernel)) ⟨rfl, rfl⟩ ⟨by show 0 + 1 ≤ _; omega, by show 8 + (1 + 11) + 64 * 0 ≤ _; omega⟩ hk hb rfl hs d rfl) kk
  · exact rm_go (ga_runU (C := RX12) (T := TX12) (N := 2) (owner := "TwoSidedTables$Plain") (x := ⟨"TwoSidedTables$Plain", "shift", "()I"⟩) (m_X9_shift_12 _ _ h p y sh hb) q1065 q876 q874 q885 q884 q874 q121 q885 ⟨by decide, by decide⟩ (show ga_nn' yX9_shift 0 from (by unfold ga_nn'; decide +kernel)) ⟨rfl, rfl⟩ ⟨by show 0 + 1 ≤ _; omega, by show 8 + (1 + 11) + 64 * 0 ≤ _; omega⟩ hk hb rfl hs d rfl) kk
  · exact rm_go (ga_runU (C := RX13) (T := TX13) (N := 2) (owner := "TwoSidedTables$Plain") (x := ⟨"TwoSidedTables$Plain", "shift", "()I"⟩) (m_X9_shift_13 _ _ h p y sh hb) q1065 q876 q874 q885 q880 q874 q121 q885 ⟨by decide, by decide⟩ (show ga_nn' yX9_shift 0 from (by unfold ga_nn'; decide +kernel)) ⟨rfl, rfl⟩ ⟨by show 0 + 1 ≤ _; omega, by show 8 + (1 + 11) + 64 * 0 ≤ _; omega⟩ hk hb rfl hs d rfl) kk
  · exact rm_go (ga_runU (C := RX14) (T := TX14) (N := 2) (owner := "TwoSidedTables$Plain") (x := ⟨"TwoSidedTables$Plain", "shift", "()I"⟩) (m_X9_shift_14 _ _ h p y sh hb) q1065 q876 q874 q885 q878 q874 q121 q885 ⟨by decide, by decide⟩ (show ga_nn' yX9_shift 0 from (by unfold ga_nn'; decide +kernel)) ⟨rfl, rfl⟩ ⟨by show 0 + 1 ≤ _; omega, by show 8 + (1 + 11) + 64 * 0 ≤ _; omega⟩ hk hb rfl hs d rfl) kk
  · exact rm_go (ga_runU (C := RX15) (T := TX15) (N := 2) (owner := "TwoSidedTables$Plain") (x := ⟨"TwoSidedTables$Plain", "shift", "()I"⟩) (m_X9_shift_15 _ _ h p y sh hb) q1065 q876 q874 q885 q883 q874 q121 q885 ⟨by decide, by decide⟩ (show ga_nn' yX9_shift 0 from (by unfold ga_nn'; decide +kernel)) ⟨rfl, rfl⟩ ⟨by show 0 + 1 ≤ _; omega, by show 8 + (1 + 11) + 64 * 0 ≤ _; omega⟩ hk hb rfl hs d rfl) kk
set_option maxHeartbeats 4000000 in
set_option maxRecDepth 100000 in
theorem m_X16_init_16 (l : Launch) (D : ga_G) (h : ga_H) (b : Nat) (v0 v1 v2 : Value) (o : Nat) (kd y sh : Int) (hb : h b = some (oE 16 [v0, v1, v2])) (ho : h o = some (oE (9 + kd.toNat) [.int (iI y), .int (iI sh)])) (hkd : 0 ≤ kd ∧ kd ≤ 6) : ga_M l D yX16_init (ws_ yX16_init cX16_init 2 none) (gR 2) [.ref b, .ref o] h (pV (fun h1 => h1 = ga_u h b (oE 16 [.int (iI y), .int (iI sh), .ref o]))) pX0 0 0 := by
  refine ga_met (own := RX16) 0 (by decide) rfl (Nat.le_of_ble_eq_true rfl) (L0 := [some (.ref b), some (.ref o)]) rfl (fun X _ _ hE => ?_)
  refine ga_aload_n (pc := 0) dX16_init_0 rfl ?_
  refine ga_aload_n (pc := 1) dX16_init_1 rfl ?_
  refine v_number_X16 (pc := 2) (p := o) (kd := kd) (y := y) (sh := sh) ho hkd rfl ⟨Nat.le_of_ble_eq_true rfl, Nat.le_of_ble_eq_true rfl⟩ ⟨Nat.le_of_ble_eq_true rfl, Nat.le_of_ble_eq_true rfl⟩ (Nat.le_of_ble_eq_true rfl) dX16_init_2 ?_
  refine ga_aload_n (pc := 5) dX16_init_5 rfl ?_
  refine v_shift_X16 (pc := 6) (p := o) (kd := kd) (y := y) (sh := sh) ho hkd rfl ⟨Nat.le_of_ble_eq_true rfl, Nat.le_of_ble_eq_true rfl⟩ ⟨Nat.le_of_ble_eq_true rfl, Nat.le_of_ble_eq_true rfl⟩ (Nat.le_of_ble_eq_true rfl) dX16_init_6 ?_
  refine ga_goV (pc := 9) (ga_runI (mc := 0) (ms := 0) (m_X9_init_16 _ _ _ b v0 v1 v2 y sh hb ) (lw_meth q729) q121 q1066 q728 rfl (show ga_nn' yX9_init 2 from (by unfold ga_nn'; decide +kernel)) ⟨rfl, rfl⟩ ⟨by show 1 + 1 ≤ _; exact Nat.le_of_ble_eq_true rfl, by show 8 + (3 + 11) + 64 * 1 ≤ _; exact Nat.le_of_ble_eq_true rfl⟩ ⟨Nat.le_of_ble_eq_true rfl, Nat.le_of_ble_eq_true rfl⟩ (Nat.le_of_ble_eq_true rfl) dX16_init_9 rfl) (fun h1 hp => ?_)
  subst hp
  refine ga_aload_n (pc := 12) dX16_init_12 rfl ?_
  refine ga_aload_n (pc := 13) dX16_init_13 rfl ?_
  refine ga_putF (pc := 14) (fs1 := [.int (iI y), .int (iI sh), .ref o]) (C := RX16) (T := TX16) (N := 3) in_X16 tyX16_ok nmX16 rfl (ga_us _ _ _) 2 (by decide) q1067 rfl rfl hE.2.2.2.1 rfl rfl rfl (by show 2 < 3; decide) rfl dX16_init_14 ?_
  refine ga_heq (pc := 17) (ga_uu _ _ _ _) ?_
  exact ga_vret hE dX16_init_17 (Nat.le_of_ble_eq_true rfl) (Nat.le_of_ble_eq_true rfl) (⟨rfl, rfl⟩)
set_option maxHeartbeats 4000000 in
set_option maxRecDepth 100000 in
theorem m_X16_init_17 (l : Launch) (D : ga_G) (h : ga_H) (b : Nat) (v0 v1 v2 v3 : Value) (o : Nat) (kd y sh : Int) (hb : h b = some (oE 17 [v0, v1, v2, v3])) (ho : h o = some (oE (9 + kd.toNat) [.int (iI y), .int (iI sh)])) (hkd : 0 ≤ kd ∧ kd ≤ 6) : ga_M l D yX16_init (ws_ yX16_init cX16_init 2 none) (gR 2) [.ref b, .ref o] h (pV (fun h1 => h1 = ga_u h b (oE 17 [.int (iI y), .int (iI sh), .ref o, v3]))) pX0 0 0 := by
  refine ga_met (own := RX16) 0 (by decide) rfl (Nat.le_of_ble_eq_true rfl) (L0 := [some (.ref b), some (.ref o)]) rfl (fun X _ _ hE => ?_)
  refine ga_aload_n (pc := 0) dX16_init_0 rfl ?_
  refine ga_aload_n (pc := 1) dX16_init_1 rfl ?_
  refine v_number_X16 (pc := 2) (p := o) (kd := kd) (y := y) (sh := sh) ho hkd rfl ⟨Nat.le_of_ble_eq_true rfl, Nat.le_of_ble_eq_true rfl⟩ ⟨Nat.le_of_ble_eq_true rfl, Nat.le_of_ble_eq_true rfl⟩ (Nat.le_of_ble_eq_true rfl) dX16_init_2 ?_
  refine ga_aload_n (pc := 5) dX16_init_5 rfl ?_
  refine v_shift_X16 (pc := 6) (p := o) (kd := kd) (y := y) (sh := sh) ho hkd rfl ⟨Nat.le_of_ble_eq_true rfl, Nat.le_of_ble_eq_true rfl⟩ ⟨Nat.le_of_ble_eq_true rfl, Nat.le_of_ble_eq_true rfl⟩ (Nat.le_of_ble_eq_true rfl) dX16_init_6 ?_
  refine ga_goV (pc := 9) (ga_runI (mc := 0) (ms := 0) (m_X9_init_17 _ _ _ b v0 v1 v2 v3 y sh hb ) (lw_meth q729) q121 q1066 q728 rfl (show ga_nn' yX9_init 2 from (by unfold ga_nn'; decide +kernel)) ⟨rfl, rfl⟩ ⟨by show 1 + 1 ≤ _; exact Nat.le_of_ble_eq_true rfl, by show 8 + (3 + 11) + 64 * 1 ≤ _; exact Nat.le_of_ble_eq_true rfl⟩ ⟨Nat.le_of_ble_eq_true rfl, Nat.le_of_ble_eq_true rfl⟩ (Nat.le_of_ble_eq_true rfl) dX16_init_9 rfl) (fun h1 hp => ?_)
  subst hp
  refine ga_aload_n (pc := 12) dX16_init_12 rfl ?_
  refine ga_aload_n (pc := 13) dX16_init_13 rfl ?_
  refine ga_putF (pc := 14) (fs1 := [.int (iI y), .int (iI sh), .ref o, v3]) (C := RX17) (T := TX17) (N := 4) in_X17 tyX17_ok nmX17 rfl (ga_us _ _ _) 2 (by decide) q1067 rfl rfl hE.2.2.2.1 rfl rfl rfl (by show 2 < 4; decide) rfl dX16_init_14 ?_
  refine ga_heq (pc := 17) (ga_uu _ _ _ _) ?_
  exact ga_vret hE dX16_init_17 (Nat.le_of_ble_eq_true rfl) (Nat.le_of_ble_eq_true rfl) (⟨rfl, rfl⟩)
set_option maxHeartbeats 4000000 in
set_option maxRecDepth 100000 in
theorem m_X17_init_17 (l : Launch) (D : ga_G) (h : ga_H) (b : Nat) (v0 v1 v2 v3 : Value) (o : Nat) (kd y sh fr : Int) (hb : h b = some (oE 17 [v0, v1, v2, v3])) (ho : h o = some (oE (9 + kd.toNat) [.int (iI y), .int (iI sh)])) (hkd : 0 ≤ kd ∧ kd ≤ 6) : ga_M l D yX17_init (ws_ yX17_init cX17_init 3 none) (gR 3) [.ref b, .ref o, .int (iI fr)] h (pV (fun h1 => h1 = ga_u h b (oE 17 [.int (iI y), .int (iI sh), .ref o, .int (iI fr)]))) pX0 0 0 := by
  refine ga_met (own := RX17) 0 (by decide) rfl (Nat.le_of_ble_eq_true rfl) (L0 := [some (.ref b), some (.ref o), some (.int (iI fr))]) rfl (fun X _ _ hE => ?_)
  refine ga_aload_n (pc := 0) dX17_init_0 rfl ?_
  refine ga_aload_n (pc := 1) dX17_init_1 rfl ?_
  refine ga_goV (pc := 2) (ga_runI (mc := 0) (ms := 0) (m_X16_init_17 _ _ _ b v0 v1 v2 v3 o kd y sh hb ho hkd) (lw_meth q1051) q129 q1089 q1050 rfl (show ga_nn' yX16_init 1 from (by unfold ga_nn'; decide +kernel)) ⟨rfl, rfl⟩ ⟨by show 2 + 1 ≤ _; exact Nat.le_of_ble_eq_true rfl, by show 8 + (2 + 11) + 64 * 2 ≤ _; exact Nat.le_of_ble_eq_true rfl⟩ ⟨Nat.le_of_ble_eq_true rfl, Nat.le_of_ble_eq_true rfl⟩ (Nat.le_of_ble_eq_true rfl) dX17_init_2 rfl) (fun h1 hp => ?_)
  subst hp
  refine ga_aload_n (pc := 5) dX17_init_5 rfl ?_
  refine ga_iload_n (pc := 6) dX17_init_6 rfl ?_
  refine ga_putF (pc := 7) (fs1 := [.int (iI y), .int (iI sh), .ref o, .int (iI fr)]) (C := RX17) (T := TX17) (N := 4) in_X17 tyX17_ok nmX17 rfl (ga_us _ _ _) 3 (by decide) q1090 rfl rfl hE.2.2.2.1 rfl rfl rfl (by show 3 < 4; decide) rfl dX17_init_7 ?_
  refine ga_heq (pc := 10) (ga_uu _ _ _ _) ?_
  exact ga_vret hE dX17_init_10 (Nat.le_of_ble_eq_true rfl) (Nat.le_of_ble_eq_true rfl) (⟨rfl, rfl⟩)
set_option maxHeartbeats 4000000 in
set_option maxRecDepth 100000 in
theorem m_X0_made (l : Launch) (D : ga_G) (h : ga_H) (kd y sh : Int) (hk : 0 ≤ kd ∧ kd ≤ 6) : ga_M l D yX0_made (ws_ yX0_made cX0_made 3 (some (.object "TwoSidedTables$Plain"))) (gK 5 1 2) [.int (iI kd), .int (iI y), .int (iI sh)] h (pR (fun r h1 => ∃ b : Nat, r = some b ∧ h b = none ∧ h1 = ga_u h b (oE (9 + kd.toNat) [.int (iI y), .int (iI sh)]))) pX0 1 2 := by
  refine ga_met (own := RX0) 0 (by decide) rfl (Nat.le_of_ble_eq_true rfl) (L0 := [some (.int (iI kd)), some (.int (iI y)), some (.int (iI sh))]) rfl (fun X _ _ hE => ?_)
  refine ga_iload_n (pc := 0) dX0_made_0 rfl ?_
  by_cases c1_0 : kd = 1
  · refine ga_tabIn (pc := 1) (tgt := 40) 0 dX0_made_1 (by omega) (by omega) (by decide) rfl rfl ?_
    refine ga_new (pc := 40) (ci := 10) (fs := [.int (iI 0), .int (iI 0)]) in_X10 tyX10_ok rfl q722 q723 q122 (fun j hj => by rcases j with _ | _ | j <;> first | rfl | omega) (by decide) (by decide) dX0_made_40 (fun b hab => ?_)
    refine ga_dup (pc := 43) dX0_made_43 rfl ?_
    refine ga_iload_n (pc := 44) dX0_made_44 rfl ?_
    refine ga_iload_n (pc := 45) dX0_made_45 rfl ?_
    refine ga_goV (pc := 46) (ga_runI (mc := 0) (ms := 0) (m_X10_init_10 _ _ _ b _ _ y sh (ga_us _ _ _)) (lw_meth q726) q122 q724 q725 rfl (show ga_nn' yX10_init 2 from (by unfold ga_nn'; decide +kernel)) ⟨rfl, rfl⟩ ⟨by show 2 + 1 ≤ _; exact Nat.le_of_ble_eq_true rfl, by show 8 + (3 + 11) + 64 * 2 ≤ _; exact Nat.le_of_ble_eq_true rfl⟩ ⟨Nat.le_of_ble_eq_true rfl, Nat.le_of_ble_eq_true rfl⟩ (Nat.le_of_ble_eq_true rfl) dX0_made_46 rfl) (fun h1 hp => ?_)
    subst hp
    refine ga_heq (pc := 49) (ga_uu _ _ _ _) ?_
    refine ga_eq (pc := 49) (st1 := [va_rf (some b)]) rfl rfl rfl ?_
    exact ga_aret hE (Or.inl ⟨_, rfl⟩) dX0_made_49 (Nat.le_of_ble_eq_true rfl) (Nat.le_of_ble_eq_true rfl) (⟨_, rfl, b, rfl, hab, by rw [show kd = 1 by omega]; rfl⟩)
  by_cases c1_1 : kd = 2
  · refine ga_tabIn (pc := 1) (tgt := 50) 1 dX0_made_1 (by omega) (by omega) (by decide) rfl rfl ?_
    refine ga_new (pc := 50) (ci := 11) (fs := [.int (iI 0), .int (iI 0)]) in_X11 tyX11_ok rfl q738 q739 q123 (fun j hj => by rcases j with _ | _ | j <;> first | rfl | omega) (by decide) (by decide) dX0_made_50 (fun b hab => ?_)
    refine ga_dup (pc := 53) dX0_made_53 rfl ?_
    refine ga_iload_n (pc := 54) dX0_made_54 rfl ?_
    refine ga_iload_n (pc := 55) dX0_made_55 rfl ?_
    refine ga_goV (pc := 56) (ga_runI (mc := 0) (ms := 0) (m_X11_init_11 _ _ _ b _ _ y sh (ga_us _ _ _)) (lw_meth q742) q123 q740 q741 rfl (show ga_nn' yX11_init 2 from (by unfold ga_nn'; decide +kernel)) ⟨rfl, rfl⟩ ⟨by show 2 + 1 ≤ _; exact Nat.le_of_ble_eq_true rfl, by show 8 + (3 + 11) + 64 * 2 ≤ _; exact Nat.le_of_ble_eq_true rfl⟩ ⟨Nat.le_of_ble_eq_true rfl, Nat.le_of_ble_eq_true rfl⟩ (Nat.le_of_ble_eq_true rfl) dX0_made_56 rfl) (fun h1 hp => ?_)
    subst hp
    refine ga_heq (pc := 59) (ga_uu _ _ _ _) ?_
    refine ga_eq (pc := 59) (st1 := [va_rf (some b)]) rfl rfl rfl ?_
    exact ga_aret hE (Or.inl ⟨_, rfl⟩) dX0_made_59 (Nat.le_of_ble_eq_true rfl) (Nat.le_of_ble_eq_true rfl) (⟨_, rfl, b, rfl, hab, by rw [show kd = 2 by omega]; rfl⟩)
  by_cases c1_2 : kd = 3
  · refine ga_tabIn (pc := 1) (tgt := 60) 2 dX0_made_1 (by omega) (by omega) (by decide) rfl rfl ?_
    refine ga_new (pc := 60) (ci := 12) (fs := [.int (iI 0), .int (iI 0)]) in_X12 tyX12_ok rfl q747 q748 q124 (fun j hj => by rcases j with _ | _ | j <;> first | rfl | omega) (by decide) (by decide) dX0_made_60 (fun b hab => ?_)
    refine ga_dup (pc := 63) dX0_made_63 rfl ?_
    refine ga_iload_n (pc := 64) dX0_made_64 rfl ?_
    refine ga_iload_n (pc := 65) dX0_made_65 rfl ?_
    refine ga_goV (pc := 66) (ga_runI (mc := 0) (ms := 0) (m_X12_init_12 _ _ _ b _ _ y sh (ga_us _ _ _)) (lw_meth q751) q124 q749 q750 rfl (show ga_nn' yX12_init 2 from (by unfold ga_nn'; decide +kernel)) ⟨rfl, rfl⟩ ⟨by show 2 + 1 ≤ _; exact Nat.le_of_ble_eq_true rfl, by show 8 + (3 + 11) + 64 * 2 ≤ _; exact Nat.le_of_ble_eq_true rfl⟩ ⟨Nat.le_of_ble_eq_true rfl, Nat.le_of_ble_eq_true rfl⟩ (Nat.le_of_ble_eq_true rfl) dX0_made_66 rfl) (fun h1 hp => ?_)
    subst hp
    refine ga_heq (pc := 69) (ga_uu _ _ _ _) ?_
    refine ga_eq (pc := 69) (st1 := [va_rf (some b)]) rfl rfl rfl ?_
    exact ga_aret hE (Or.inl ⟨_, rfl⟩) dX0_made_69 (Nat.le_of_ble_eq_true rfl) (Nat.le_of_ble_eq_true rfl) (⟨_, rfl, b, rfl, hab, by rw [show kd = 3 by omega]; rfl⟩)
  by_cases c1_3 : kd = 4
  · refine ga_tabIn (pc := 1) (tgt := 70) 3 dX0_made_1 (by omega) (by omega) (by decide) rfl rfl ?_
    refine ga_new (pc := 70) (ci := 13) (fs := [.int (iI 0), .int (iI 0)]) in_X13 tyX13_ok rfl q756 q757 q125 (fun j hj => by rcases j with _ | _ | j <;> first | rfl | omega) (by decide) (by decide) dX0_made_70 (fun b hab => ?_)
    refine ga_dup (pc := 73) dX0_made_73 rfl ?_
    refine ga_iload_n (pc := 74) dX0_made_74 rfl ?_
    refine ga_iload_n (pc := 75) dX0_made_75 rfl ?_
    refine ga_goV (pc := 76) (ga_runI (mc := 0) (ms := 0) (m_X13_init_13 _ _ _ b _ _ y sh (ga_us _ _ _)) (lw_meth q760) q125 q758 q759 rfl (show ga_nn' yX13_init 2 from (by unfold ga_nn'; decide +kernel)) ⟨rfl, rfl⟩ ⟨by show 3 + 1 ≤ _; exact Nat.le_of_ble_eq_true rfl, by show 8 + (3 + 11) + 64 * 3 ≤ _; exact Nat.le_of_ble_eq_true rfl⟩ ⟨Nat.le_of_ble_eq_true rfl, Nat.le_of_ble_eq_true rfl⟩ (Nat.le_of_ble_eq_true rfl) dX0_made_76 rfl) (fun h1 hp => ?_)
    subst hp
    refine ga_heq (pc := 79) (ga_uu _ _ _ _) ?_
    refine ga_eq (pc := 79) (st1 := [va_rf (some b)]) rfl rfl rfl ?_
    exact ga_aret hE (Or.inl ⟨_, rfl⟩) dX0_made_79 (Nat.le_of_ble_eq_true rfl) (Nat.le_of_ble_eq_true rfl) (⟨_, rfl, b, rfl, hab, by rw [show kd = 4 by omega]; rfl⟩)
  by_cases c1_4 : kd = 5
  · refine ga_tabIn (pc := 1) (tgt := 80) 4 dX0_made_1 (by omega) (by omega) (by decide) rfl rfl ?_
    refine ga_new (pc := 80) (ci := 14) (fs := [.int (iI 0), .int (iI 0)]) in_X14 tyX14_ok rfl q765 q766 q126 (fun j hj => by rcases j with _ | _ | j <;> first | rfl | omega) (by decide) (by decide) dX0_made_80 (fun b hab => ?_)
    refine ga_dup (pc := 83) dX0_made_83 rfl ?_
    refine ga_iload_n (pc := 84) dX0_made_84 rfl ?_
    refine ga_iload_n (pc := 85) dX0_made_85 rfl ?_
    refine ga_goV (pc := 86) (ga_runI (mc := 0) (ms := 0) (m_X14_init_14 _ _ _ b _ _ y sh (ga_us _ _ _)) (lw_meth q769) q126 q767 q768 rfl (show ga_nn' yX14_init 2 from (by unfold ga_nn'; decide +kernel)) ⟨rfl, rfl⟩ ⟨by show 3 + 1 ≤ _; exact Nat.le_of_ble_eq_true rfl, by show 8 + (3 + 11) + 64 * 3 ≤ _; exact Nat.le_of_ble_eq_true rfl⟩ ⟨Nat.le_of_ble_eq_true rfl, Nat.le_of_ble_eq_true rfl⟩ (Nat.le_of_ble_eq_true rfl) dX0_made_86 rfl) (fun h1 hp => ?_)
    subst hp
    refine ga_heq (pc := 89) (ga_uu _ _ _ _) ?_
    refine ga_eq (pc := 89) (st1 := [va_rf (some b)]) rfl rfl rfl ?_
    exact ga_aret hE (Or.inl ⟨_, rfl⟩) dX0_made_89 (Nat.le_of_ble_eq_true rfl) (Nat.le_of_ble_eq_true rfl) (⟨_, rfl, b, rfl, hab, by rw [show kd = 5 by omega]; rfl⟩)
  by_cases c1_5 : kd = 6
  · refine ga_tabIn (pc := 1) (tgt := 90) 5 dX0_made_1 (by omega) (by omega) (by decide) rfl rfl ?_
    refine ga_new (pc := 90) (ci := 15) (fs := [.int (iI 0), .int (iI 0)]) in_X15 tyX15_ok rfl q774 q775 q127 (fun j hj => by rcases j with _ | _ | j <;> first | rfl | omega) (by decide) (by decide) dX0_made_90 (fun b hab => ?_)
    refine ga_dup (pc := 93) dX0_made_93 rfl ?_
    refine ga_iload_n (pc := 94) dX0_made_94 rfl ?_
    refine ga_iload_n (pc := 95) dX0_made_95 rfl ?_
    refine ga_goV (pc := 96) (ga_runI (mc := 0) (ms := 0) (m_X15_init_15 _ _ _ b _ _ y sh (ga_us _ _ _)) (lw_meth q778) q127 q776 q777 rfl (show ga_nn' yX15_init 2 from (by unfold ga_nn'; decide +kernel)) ⟨rfl, rfl⟩ ⟨by show 4 + 1 ≤ _; exact Nat.le_of_ble_eq_true rfl, by show 8 + (3 + 11) + 64 * 4 ≤ _; exact Nat.le_of_ble_eq_true rfl⟩ ⟨Nat.le_of_ble_eq_true rfl, Nat.le_of_ble_eq_true rfl⟩ (Nat.le_of_ble_eq_true rfl) dX0_made_96 rfl) (fun h1 hp => ?_)
    subst hp
    refine ga_heq (pc := 99) (ga_uu _ _ _ _) ?_
    refine ga_eq (pc := 99) (st1 := [va_rf (some b)]) rfl rfl rfl ?_
    exact ga_aret hE (Or.inl ⟨_, rfl⟩) dX0_made_99 (Nat.le_of_ble_eq_true rfl) (Nat.le_of_ble_eq_true rfl) (⟨_, rfl, b, rfl, hab, by rw [show kd = 6 by omega]; rfl⟩)
  refine ga_tabOut (pc := 1) (tgt := 100) dX0_made_1 (by omega) (by omega) rfl ?_
  refine ga_new (pc := 100) (ci := 9) (fs := [.int (iI 0), .int (iI 0)]) in_X9 tyX9_ok rfl q330 q783 q121 (fun j hj => by rcases j with _ | _ | j <;> first | rfl | omega) (by decide) (by decide) dX0_made_100 (fun b hab => ?_)
  refine ga_dup (pc := 103) dX0_made_103 rfl ?_
  refine ga_iload_n (pc := 104) dX0_made_104 rfl ?_
  refine ga_iload_n (pc := 105) dX0_made_105 rfl ?_
  refine ga_goV (pc := 106) (ga_runI (mc := 0) (ms := 0) (m_X9_init_9 _ _ _ b _ _ y sh (ga_us _ _ _)) (lw_meth q729) q121 q784 q728 rfl (show ga_nn' yX9_init 2 from (by unfold ga_nn'; decide +kernel)) ⟨rfl, rfl⟩ ⟨by show 1 + 1 ≤ _; exact Nat.le_of_ble_eq_true rfl, by show 8 + (3 + 11) + 64 * 1 ≤ _; exact Nat.le_of_ble_eq_true rfl⟩ ⟨Nat.le_of_ble_eq_true rfl, Nat.le_of_ble_eq_true rfl⟩ (Nat.le_of_ble_eq_true rfl) dX0_made_106 rfl) (fun h1 hp => ?_)
  subst hp
  refine ga_heq (pc := 109) (ga_uu _ _ _ _) ?_
  refine ga_eq (pc := 109) (st1 := [va_rf (some b)]) rfl rfl rfl ?_
  exact ga_aret hE (Or.inl ⟨_, rfl⟩) dX0_made_109 (Nat.le_of_ble_eq_true rfl) (Nat.le_of_ble_eq_true rfl) (⟨_, rfl, b, rfl, hab, by rw [show kd = 0 by omega]; rfl⟩)
