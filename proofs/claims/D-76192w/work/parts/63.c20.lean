/-! THE CLASS: constructors of single cells -/
set_option maxHeartbeats 4000000 in
set_option maxRecDepth 100000 in
theorem m_X9_init_9 (l : Launch) (D : ga_G) (h : ga_H) (b : Nat) (v0 v1 : Value) (y sh : Int) (hb : h b = some (oE 9 [v0, v1]))  : ga_M l D yX9_init (ws_ yX9_init cX9_init 3 none) (gR 1) [.ref b, .int (iI y), .int (iI sh)] h (pV (fun h1 => h1 = ga_u h b (oE 9 [.int (iI y), .int (iI sh)]))) pX0 0 0 := by
  refine ga_met (own := RX9) 0 (by decide) rfl (Nat.le_of_ble_eq_true rfl) (L0 := [some (.ref b), some (.int (iI y)), some (.int (iI sh))]) rfl (fun X _ _ hE => ?_)
  refine ga_aload_n (pc := 0) dX9_init_0 rfl ?_
  refine ga_objInit (pc := 1) q730 (Nat.le_of_ble_eq_true rfl) (Nat.le_of_ble_eq_true rfl) dX9_init_1 ?_
  refine ga_aload_n (pc := 4) dX9_init_4 rfl ?_
  refine ga_iload_n (pc := 5) dX9_init_5 rfl ?_
  refine ga_putF (pc := 6) (C := RX9) (T := TX9) (N := 2) in_X9 tyX9_ok nmX9 rfl hb 0 (by decide) q731 rfl rfl hE.2.2.2.1 rfl rfl rfl (by show 0 < 2; decide) rfl dX9_init_6 ?_
  refine ga_aload_n (pc := 9) dX9_init_9 rfl ?_
  refine ga_iload_n (pc := 10) dX9_init_10 rfl ?_
  refine ga_putF (pc := 11) (C := RX9) (T := TX9) (N := 2) in_X9 tyX9_ok nmX9 rfl (ga_us _ _ _) 1 (by decide) q732 rfl rfl hE.2.2.2.1 rfl rfl rfl (by show 1 < 2; decide) rfl dX9_init_11 ?_
  refine ga_heq (pc := 14) (ga_uu _ _ _ _) ?_
  exact ga_vret hE dX9_init_14 (Nat.le_of_ble_eq_true rfl) (Nat.le_of_ble_eq_true rfl) (⟨rfl, rfl⟩)
set_option maxHeartbeats 4000000 in
set_option maxRecDepth 100000 in
theorem m_X9_init_10 (l : Launch) (D : ga_G) (h : ga_H) (b : Nat) (v0 v1 : Value) (y sh : Int) (hb : h b = some (oE 10 [v0, v1]))  : ga_M l D yX9_init (ws_ yX9_init cX9_init 3 none) (gR 1) [.ref b, .int (iI y), .int (iI sh)] h (pV (fun h1 => h1 = ga_u h b (oE 10 [.int (iI y), .int (iI sh)]))) pX0 0 0 := by
  refine ga_met (own := RX9) 0 (by decide) rfl (Nat.le_of_ble_eq_true rfl) (L0 := [some (.ref b), some (.int (iI y)), some (.int (iI sh))]) rfl (fun X _ _ hE => ?_)
  refine ga_aload_n (pc := 0) dX9_init_0 rfl ?_
  refine ga_objInit (pc := 1) q730 (Nat.le_of_ble_eq_true rfl) (Nat.le_of_ble_eq_true rfl) dX9_init_1 ?_
  refine ga_aload_n (pc := 4) dX9_init_4 rfl ?_
  refine ga_iload_n (pc := 5) dX9_init_5 rfl ?_
  refine ga_putF (pc := 6) (C := RX10) (T := TX10) (N := 2) in_X10 tyX10_ok nmX10 rfl hb 0 (by decide) q731 rfl rfl hE.2.2.2.1 rfl rfl rfl (by show 0 < 2; decide) rfl dX9_init_6 ?_
  refine ga_aload_n (pc := 9) dX9_init_9 rfl ?_
  refine ga_iload_n (pc := 10) dX9_init_10 rfl ?_
  refine ga_putF (pc := 11) (C := RX10) (T := TX10) (N := 2) in_X10 tyX10_ok nmX10 rfl (ga_us _ _ _) 1 (by decide) q732 rfl rfl hE.2.2.2.1 rfl rfl rfl (by show 1 < 2; decide) rfl dX9_init_11 ?_
  refine ga_heq (pc := 14) (ga_uu _ _ _ _) ?_
  exact ga_vret hE dX9_init_14 (Nat.le_of_ble_eq_true rfl) (Nat.le_of_ble_eq_true rfl) (⟨rfl, rfl⟩)
set_option maxHeartbeats 4000000 in
set_option maxRecDepth 100000 in
theorem m_X9_init_11 (l : Launch) (D : ga_G) (h : ga_H) (b : Nat) (v0 v1 : Value) (y sh : Int) (hb : h b = some (oE 11 [v0, v1]))  : ga_M l D yX9_init (ws_ yX9_init cX9_init 3 none) (gR 1) [.ref b, .int (iI y), .int (iI sh)] h (pV (fun h1 => h1 = ga_u h b (oE 11 [.int (iI y), .int (iI sh)]))) pX0 0 0 := by
  refine ga_met (own := RX9) 0 (by decide) rfl (Nat.le_of_ble_eq_true rfl) (L0 := [some (.ref b), some (.int (iI y)), some (.int (iI sh))]) rfl (fun X _ _ hE => ?_)
  refine ga_aload_n (pc := 0) dX9_init_0 rfl ?_
  refine ga_objInit (pc := 1) q730 (Nat.le_of_ble_eq_true rfl) (Nat.le_of_ble_eq_true rfl) dX9_init_1 ?_
  refine ga_aload_n (pc := 4) dX9_init_4 rfl ?_
  refine ga_iload_n (pc := 5) dX9_init_5 rfl ?_
  refine ga_putF (pc := 6) (C := RX11) (T := TX11) (N := 2) in_X11 tyX11_ok nmX11 rfl hb 0 (by decide) q731 rfl rfl hE.2.2.2.1 rfl rfl rfl (by show 0 < 2; decide) rfl dX9_init_6 ?_
  refine ga_aload_n (pc := 9) dX9_init_9 rfl ?_
  refine ga_iload_n (pc := 10) dX9_init_10 rfl ?_
  refine ga_putF (pc := 11) (C := RX11) (T := TX11) (N := 2) in_X11 tyX11_ok nmX11 rfl (ga_us _ _ _) 1 (by decide) q732 rfl rfl hE.2.2.2.1 rfl rfl rfl (by show 1 < 2; decide) rfl dX9_init_11 ?_
  refine ga_heq (pc := 14) (ga_uu _ _ _ _) ?_
  exact ga_vret hE dX9_init_14 (Nat.le_of_ble_eq_true rfl) (Nat.le_of_ble_eq_true rfl) (⟨rfl, rfl⟩)
set_option maxHeartbeats 4000000 in
set_option maxRecDepth 100000 in
theorem m_X9_init_12 (l : Launch) (D : ga_G) (h : ga_H) (b : Nat) (v0 v1 : Value) (y sh : Int) (hb : h b = some (oE 12 [v0, v1]))  : ga_M l D yX9_init (ws_ yX9_init cX9_init 3 none) (gR 1) [.ref b, .int (iI y), .int (iI sh)] h (pV (fun h1 => h1 = ga_u h b (oE 12 [.int (iI y), .int (iI sh)]))) pX0 0 0 := by
  refine ga_met (own := RX9) 0 (by decide) rfl (Nat.le_of_ble_eq_true rfl) (L0 := [some (.ref b), some (.int (iI y)), some (.int (iI sh))]) rfl (fun X _ _ hE => ?_)
  refine ga_aload_n (pc := 0) dX9_init_0 rfl ?_
  refine ga_objInit (pc := 1) q730 (Nat.le_of_ble_eq_true rfl) (Nat.le_of_ble_eq_true rfl) dX9_init_1 ?_
  refine ga_aload_n (pc := 4) dX9_init_4 rfl ?_
  refine ga_iload_n (pc := 5) dX9_init_5 rfl ?_
  refine ga_putF (pc := 6) (C := RX12) (T := TX12) (N := 2) in_X12 tyX12_ok nmX12 rfl hb 0 (by decide) q731 rfl rfl hE.2.2.2.1 rfl rfl rfl (by show 0 < 2; decide) rfl dX9_init_6 ?_
  refine ga_aload_n (pc := 9) dX9_init_9 rfl ?_
  refine ga_iload_n (pc := 10) dX9_init_10 rfl ?_
  refine ga_putF (pc := 11) (C := RX12) (T := TX12) (N := 2) in_X12 tyX12_ok nmX12 rfl (ga_us _ _ _) 1 (by decide) q732 rfl rfl hE.2.2.2.1 rfl rfl rfl (by show 1 < 2; decide) rfl dX9_init_11 ?_
  refine ga_heq (pc := 14) (ga_uu _ _ _ _) ?_
  exact ga_vret hE dX9_init_14 (Nat.le_of_ble_eq_true rfl) (Nat.le_of_ble_eq_true rfl) (⟨rfl, rfl⟩)
set_option maxHeartbeats 4000000 in
set_option maxRecDepth 100000 in
theorem m_X9_init_13 (l : Launch) (D : ga_G) (h : ga_H) (b : Nat) (v0 v1 : Value) (y sh : Int) (hb : h b = some (oE 13 [v0, v1]))  : ga_M l D yX9_init (ws_ yX9_init cX9_init 3 none) (gR 1) [.ref b, .int (iI y), .int (iI sh)] h (pV (fun h1 => h1 = ga_u h b (oE 13 [.int (iI y), .int (iI sh)]))) pX0 0 0 := by
  refine ga_met (own := RX9) 0 (by decide) rfl (Nat.le_of_ble_eq_true rfl) (L0 := [some (.ref b), some (.int (iI y)), some (.int (iI sh))]) rfl (fun X _ _ hE => ?_)
  refine ga_aload_n (pc := 0) dX9_init_0 rfl ?_
  refine ga_objInit (pc := 1) q730 (Nat.le_of_ble_eq_true rfl) (Nat.le_of_ble_eq_true rfl) dX9_init_1 ?_
  refine ga_aload_n (pc := 4) dX9_init_4 rfl ?_
  refine ga_iload_n (pc := 5) dX9_init_5 rfl ?_
  refine ga_putF (pc := 6) (C := RX13) (T := TX13) (N := 2) in_X13 tyX13_ok nmX13 rfl hb 0 (by decide) q731 rfl rfl hE.2.2.2.1 rfl rfl rfl (by show 0 < 2; decide) rfl dX9_init_6 ?_
  refine ga_aload_n (pc := 9) dX9_init_9 rfl ?_
  refine ga_iload_n (pc := 10) dX9_init_10 rfl ?_
  refine ga_putF (pc := 11) (C := RX13) (T := TX13) (N := 2) in_X13 tyX13_ok nmX13 rfl (ga_us _ _ _) 1 (by decide) q732 rfl rfl hE.2.2.2.1 rfl rfl rfl (by show 1 < 2; decide) rfl dX9_init_11 ?_
  refine ga_heq (pc := 14) (ga_uu _ _ _ _) ?_
  exact ga_vret hE dX9_init_14 (Nat.le_of_ble_eq_true rfl) (Nat.le_of_ble_eq_true rfl) (⟨rfl, rfl⟩)
set_option maxHeartbeats 4000000 in
set_option maxRecDepth 100000 in
theorem m_X9_init_14 (l : Launch) (D : ga_G) (h : ga_H) (b : Nat) (v0 v1 : Value) (y sh : Int) (hb : h b = some (oE 14 [v0, v1]))  : ga_M l D yX9_init (ws_ yX9_init cX9_init 3 none) (gR 1) [.ref b, .int (iI y), .int (iI sh)] h (pV (fun h1 => h1 = ga_u h b (oE 14 [.int (iI y), .int (iI sh)]))) pX0 0 0 := by
  refine ga_met (own := RX9) 0 (by decide) rfl (Nat.le_of_ble_eq_true rfl) (L0 := [some (.ref b), some (.int (iI y)), some (.int (iI sh))]) rfl (fun X _ _ hE => ?_)
  refine ga_aload_n (pc := 0) dX9_init_0 rfl ?_
  refine ga_objInit (pc := 1) q730 (Nat.le_of_ble_eq_true rfl) (Nat.le_of_ble_eq_true rfl) dX9_init_1 ?_
  refine ga_aload_n (pc := 4) dX9_init_4 rfl ?_
  refine ga_iload_n (pc := 5) dX9_init_5 rfl ?_
  refine ga_putF (pc := 6) (C := RX14) (T := TX14) (N := 2) in_X14 tyX14_ok nmX14 rfl hb 0 (by decide) q731 rfl rfl hE.2.2.2.1 rfl rfl rfl (by show 0 < 2; decide) rfl dX9_init_6 ?_
  refine ga_aload_n (pc := 9) dX9_init_9 rfl ?_
  refine ga_iload_n (pc := 10) dX9_init_10 rfl ?_
  refine ga_putF (pc := 11) (C := RX14) (T := TX14) (N := 2) in_X14 tyX14_ok nmX14 rfl (ga_us _ _ _) 1 (by decide) q732 rfl rfl hE.2.2.2.1 rfl rfl rfl (by show 1 < 2; decide) rfl dX9_init_11 ?_
  refine ga_heq (pc := 14) (ga_uu _ _ _ _) ?_
  exact ga_vret hE dX9_init_14 (Nat.le_of_ble_eq_true rfl) (Nat.le_of_ble_eq_true rfl) (⟨rfl, rfl⟩)
set_option maxHeartbeats 4000000 in
set_option maxRecDepth 100000 in
theorem m_X9_init_15 (l : Launch) (D : ga_G) (h : ga_H) (b : Nat) (v0 v1 : Value) (y sh : Int) (hb : h b = some (oE 15 [v0, v1]))  : ga_M l D yX9_init (ws_ yX9_init cX9_init 3 none) (gR 1) [.ref b, .int (iI y), .int (iI sh)] h (pV (fun h1 => h1 = ga_u h b (oE 15 [.int (iI y), .int (iI sh)]))) pX0 0 0 := by
  refine ga_met (own := RX9) 0 (by decide) rfl (Nat.le_of_ble_eq_true rfl) (L0 := [some (.ref b), some (.int (iI y)), some (.int (iI sh))]) rfl (fun X _ _ hE => ?_)
  refine ga_aload_n (pc := 0) dX9_init_0 rfl ?_
  refine ga_objInit (pc := 1) q730 (Nat.le_of_ble_eq_true rfl) (Nat.le_of_ble_eq_true rfl) dX9_init_1 ?_
  refine ga_aload_n (pc := 4) dX9_init_4 rfl ?_
  refine ga_iload_n (pc := 5) dX9_init_5 rfl ?_
  refine ga_putF (pc := 6) (C := RX15) (T := TX15) (N := 2) in_X15 tyX15_ok nmX15 rfl hb 0 (by decide) q731 rfl rfl hE.2.2.2.1 rfl rfl rfl (by show 0 < 2; decide) rfl dX9_init_6 ?_
  refine ga_aload_n (pc := 9) dX9_init_9 rfl ?_
  refine ga_iload_n (pc := 10) dX9_init_10 rfl ?_
  refine ga_putF (pc := 11) (C := RX15) (T := TX15) (N := 2) in_X15 tyX15_ok nmX15 rfl (ga_us _ _ _) 1 (by decide) q732 rfl rfl hE.2.2.2.1 rfl rfl rfl (by show 1 < 2; decide) rfl dX9_init_11 ?_
  refine ga_heq (pc := 14) (ga_uu _ _ _ _) ?_
  exact ga_vret hE dX9_init_14 (Nat.le_of_ble_eq_true rfl) (Nat.le_of_ble_eq_true rfl) (⟨rfl, rfl⟩)
set_option maxHeartbeats 4000000 in
set_option maxRecDepth 100000 in
theorem m_X9_init_16 (l : Launch) (D : ga_G) (h : ga_H) (b : Nat) (v0 v1 v2 : Value) (y sh : Int) (hb : h b = some (oE 16 [v0, v1, v2]))  : ga_M l D yX9_init (ws_ yX9_init cX9_init 3 none) (gR 1) [.ref b, .int (iI y), .int (iI sh)] h (pV (fun h1 => h1 = ga_u h b (oE 16 [.int (iI y), .int (iI sh), v2]))) pX0 0 0 := by
  refine ga_met (own := RX9) 0 (by decide) rfl (Nat.le_of_ble_eq_true rfl) (L0 := [some (.ref b), some (.int (iI y)), some (.int (iI sh))]) rfl (fun X _ _ hE => ?_)
  refine ga_aload_n (pc := 0) dX9_init_0 rfl ?_
  refine ga_objInit (pc := 1) q730 (Nat.le_of_ble_eq_true rfl) (Nat.le_of_ble_eq_true rfl) dX9_init_1 ?_
  refine ga_aload_n (pc := 4) dX9_init_4 rfl ?_
  refine ga_iload_n (pc := 5) dX9_init_5 rfl ?_
  refine ga_putF (pc := 6) (C := RX16) (T := TX16) (N := 3) in_X16 tyX16_ok nmX16 rfl hb 0 (by decide) q731 rfl rfl hE.2.2.2.1 rfl rfl rfl (by show 0 < 3; decide) rfl dX9_init_6 ?_
  refine ga_aload_n (pc := 9) dX9_init_9 rfl ?_
  refine ga_iload_n (pc := 10) dX9_init_10 rfl ?_
  refine ga_putF (pc := 11) (C := RX16) (T := TX16) (N := 3) in_X16 tyX16_ok nmX16 rfl (ga_us _ _ _) 1 (by decide) q732 rfl rfl hE.2.2.2.1 rfl rfl rfl (by show 1 < 3; decide) rfl dX9_init_11 ?_
  refine ga_heq (pc := 14) (ga_uu _ _ _ _) ?_
  exact ga_vret hE dX9_init_14 (Nat.le_of_ble_eq_true rfl) (Nat.le_of_ble_eq_true rfl) (⟨rfl, rfl⟩)
set_option maxHeartbeats 4000000 in
set_option maxRecDepth 100000 in
theorem m_X9_init_17 (l : Launch) (D : ga_G) (h : ga_H) (b : Nat) (v0 v1 v2 v3 : Value) (y sh : Int) (hb : h b = some (oE 17 [v0, v1, v2, v3]))  : ga_M l D yX9_init (ws_ yX9_init cX9_init 3 none) (gR 1) [.ref b, .int (iI y), .int (iI sh)] h (pV (fun h1 => h1 = ga_u h b (oE 17 [.int (iI y), .int (iI sh), v2, v3]))) pX0 0 0 := by
  refine ga_met (own := RX9) 0 (by decide) rfl (Nat.le_of_ble_eq_true rfl) (L0 := [some (.ref b), some (.int (iI y)), some (.int (iI sh))]) rfl (fun X _ _ hE => ?_)
  refine ga_aload_n (pc := 0) dX9_init_0 rfl ?_
  refine ga_objInit (pc := 1) q730 (Nat.le_of_ble_eq_true rfl) (Nat.le_of_ble_eq_true rfl) dX9_init_1 ?_
  refine ga_aload_n (pc := 4) dX9_init_4 rfl ?_
  refine ga_iload_n (pc := 5) dX9_init_5 rfl ?_
  refine ga_putF (pc := 6) (C := RX17) (T := TX17) (N := 4) in_X17 tyX17_ok nmX17 rfl hb 0 (by decide) q731 rfl rfl hE.2.2.2.1 rfl rfl rfl (by show 0 < 4; decide) rfl dX9_init_6 ?_
  refine ga_aload_n (pc := 9) dX9_init_9 rfl ?_
  refine ga_iload_n (pc := 10) dX9_init_10 rfl ?_
  refine ga_putF (pc := 11) (C := RX17) (T := TX17) (N := 4) in_X17 tyX17_ok nmX17 rfl (ga_us _ _ _) 1 (by decide) q732 rfl rfl hE.2.2.2.1 rfl rfl rfl (by show 1 < 4; decide) rfl dX9_init_11 ?_
  refine ga_heq (pc := 14) (ga_uu _ _ _ _) ?_
  exact ga_vret hE dX9_init_14 (Nat.le_of_ble_eq_true rfl) (Nat.le_of_ble_eq_true rfl) (⟨rfl, rfl⟩)
set_option maxHeartbeats 4000000 in
set_option maxRecDepth 100000 in
theorem m_X10_init_10 (l : Launch) (D : ga_G) (h : ga_H) (b : Nat) (v0 v1 : Value) (y sh : Int) (hb : h b = some (oE 10 [v0, v1]))  : ga_M l D yX10_init (ws_ yX10_init cX10_init 3 none) (gR 2) [.ref b, .int (iI y), .int (iI sh)] h (pV (fun h1 => h1 = ga_u h b (oE 10 [.int (iI y), .int (iI sh)]))) pX0 0 0 := by
  refine ga_met (own := RX10) 0 (by decide) rfl (Nat.le_of_ble_eq_true rfl) (L0 := [some (.ref b), some (.int (iI y)), some (.int (iI sh))]) rfl (fun X _ _ hE => ?_)
  refine ga_aload_n (pc := 0) dX10_init_0 rfl ?_
  refine ga_iload_n (pc := 1) dX10_init_1 rfl ?_
  refine ga_iload_n (pc := 2) dX10_init_2 rfl ?_
  refine ga_goV (pc := 3) (ga_runI (mc := 0) (ms := 0) (m_X9_init_10 _ _ _ b v0 v1 y sh hb ) (lw_meth q729) q121 q727 q728 rfl (show ga_nn' yX9_init 2 from (by unfold ga_nn'; decide +kernel)) ⟨rfl, rfl⟩ ⟨by show 1 + 1 ≤ _; exact Nat.le_of_ble_eq_true rfl, by show 8 + (3 + 11) + 64 * 1 ≤ _; exact Nat.le_of_ble_eq_true rfl⟩ ⟨Nat.le_of_ble_eq_true rfl, Nat.le_of_ble_eq_true rfl⟩ (Nat.le_of_ble_eq_true rfl) dX10_init_3 rfl) (fun h1 hp => ?_)
  subst hp
  exact ga_vret hE dX10_init_6 (Nat.le_of_ble_eq_true rfl) (Nat.le_of_ble_eq_true rfl) (⟨rfl, rfl⟩)
set_option maxHeartbeats 4000000 in
set_option maxRecDepth 100000 in
theorem m_X11_init_11 (l : Launch) (D : ga_G) (h : ga_H) (b : Nat) (v0 v1 : Value) (y sh : Int) (hb : h b = some (oE 11 [v0, v1]))  : ga_M l D yX11_init (ws_ yX11_init cX11_init 3 none) (gR 2) [.ref b, .int (iI y), .int (iI sh)] h (pV (fun h1 => h1 = ga_u h b (oE 11 [.int (iI y), .int (iI sh)]))) pX0 0 0 := by
  refine ga_met (own := RX11) 0 (by decide) rfl (Nat.le_of_ble_eq_true rfl) (L0 := [some (.ref b), some (.int (iI y)), some (.int (iI sh))]) rfl (fun X _ _ hE => ?_)
  refine ga_aload_n (pc := 0) dX11_init_0 rfl ?_
  refine ga_iload_n (pc := 1) dX11_init_1 rfl ?_
  refine ga_iload_n (pc := 2) dX11_init_2 rfl ?_
  refine ga_goV (pc := 3) (ga_runI (mc := 0) (ms := 0) (m_X9_init_11 _ _ _ b v0 v1 y sh hb ) (lw_meth q729) q121 q743 q728 rfl (show ga_nn' yX9_init 2 from (by unfold ga_nn'; decide +kernel)) ⟨rfl, rfl⟩ ⟨by show 1 + 1 ≤ _; exact Nat.le_of_ble_eq_true rfl, by show 8 + (3 + 11) + 64 * 1 ≤ _; exact Nat.le_of_ble_eq_true rfl⟩ ⟨Nat.le_of_ble_eq_true rfl, Nat.le_of_ble_eq_true rfl⟩ (Nat.le_of_ble_eq_true rfl) dX11_init_3 rfl) (fun h1 hp => ?_)
  subst hp
  exact ga_vret hE dX11_init_6 (Nat.le_of_ble_eq_true rfl) (Nat.le_of_ble_eq_true rfl) (⟨rfl, rfl⟩)
set_option maxHeartbeats 4000000 in
set_option maxRecDepth 100000 in
theorem m_X11_init_13 (l : Launch) (D : ga_G) (h : ga_H) (b : Nat) (v0 v1 : Value) (y sh : Int) (hb : h b = some (oE 13 [v0, v1]))  : ga_M l D yX11_init (ws_ yX11_init cX11_init 3 none) (gR 2) [.ref b, .int (iI y), .int (iI sh)] h (pV (fun h1 => h1 = ga_u h b (oE 13 [.int (iI y), .int (iI sh)]))) pX0 0 0 := by
  refine ga_met (own := RX11) 0 (by decide) rfl (Nat.le_of_ble_eq_true rfl) (L0 := [some (.ref b), some (.int (iI y)), some (.int (iI sh))]) rfl (fun X _ _ hE => ?_)
  refine ga_aload_n (pc := 0) dX11_init_0 rfl ?_
  refine ga_iload_n (pc := 1) dX11_init_1 rfl ?_
  refine ga_iload_n (pc := 2) dX11_init_2 rfl ?_
  refine ga_goV (pc := 3) (ga_runI (mc := 0) (ms := 0) (m_X9_init_13 _ _ _ b v0 v1 y sh hb ) (lw_meth q729) q121 q743 q728 rfl (show ga_nn' yX9_init 2 from (by unfold ga_nn'; decide +kernel)) ⟨rfl, rfl⟩ ⟨by show 1 + 1 ≤ _; exact Nat.le_of_ble_eq_true rfl, by show 8 + (3 + 11) + 64 * 1 ≤ _; exact Nat.le_of_ble_eq_true rfl⟩ ⟨Nat.le_of_ble_eq_true rfl, Nat.le_of_ble_eq_true rfl⟩ (Nat.le_of_ble_eq_true rfl) dX11_init_3 rfl) (fun h1 hp => ?_)
  subst hp
  exact ga_vret hE dX11_init_6 (Nat.le_of_ble_eq_true rfl) (Nat.le_of_ble_eq_true rfl) (⟨rfl, rfl⟩)
set_option maxHeartbeats 4000000 in
set_option maxRecDepth 100000 in
theorem m_X12_init_12 (l : Launch) (D : ga_G) (h : ga_H) (b : Nat) (v0 v1 : Value) (y sh : Int) (hb : h b = some (oE 12 [v0, v1]))  : ga_M l D yX12_init (ws_ yX12_init cX12_init 3 none) (gR 2) [.ref b, .int (iI y), .int (iI sh)] h (pV (fun h1 => h1 = ga_u h b (oE 12 [.int (iI y), .int (iI sh)]))) pX0 0 0 := by
  refine ga_met (own := RX12) 0 (by decide) rfl (Nat.le_of_ble_eq_true rfl) (L0 := [some (.ref b), some (.int (iI y)), some (.int (iI sh))]) rfl (fun X _ _ hE => ?_)
  refine ga_aload_n (pc := 0) dX12_init_0 rfl ?_
  refine ga_iload_n (pc := 1) dX12_init_1 rfl ?_
  refine ga_iload_n (pc := 2) dX12_init_2 rfl ?_
  refine ga_goV (pc := 3) (ga_runI (mc := 0) (ms := 0) (m_X9_init_12 _ _ _ b v0 v1 y sh hb ) (lw_meth q729) q121 q752 q728 rfl (show ga_nn' yX9_init 2 from (by unfold ga_nn'; decide +kernel)) ⟨rfl, rfl⟩ ⟨by show 1 + 1 ≤ _; exact Nat.le_of_ble_eq_true rfl, by show 8 + (3 + 11) + 64 * 1 ≤ _; exact Nat.le_of_ble_eq_true rfl⟩ ⟨Nat.le_of_ble_eq_true rfl, Nat.le_of_ble_eq_true rfl⟩ (Nat.le_of_ble_eq_true rfl) dX12_init_3 rfl) (fun h1 hp => ?_)
  subst hp
  exact ga_vret hE dX12_init_6 (Nat.le_of_ble_eq_true rfl) (Nat.le_of_ble_eq_true rfl) (⟨rfl, rfl⟩)
set_option maxHeartbeats 4000000 in
set_option maxRecDepth 100000 in
theorem m_X12_init_14 (l : Launch) (D : ga_G) (h : ga_H) (b : Nat) (v0 v1 : Value) (y sh : Int) (hb : h b = some (oE 14 [v0, v1]))  : ga_M l D yX12_init (ws_ yX12_init cX12_init 3 none) (gR 2) [.ref b, .int (iI y), .int (iI sh)] h (pV (fun h1 => h1 = ga_u h b (oE 14 [.int (iI y), .int (iI sh)]))) pX0 0 0 := by
  refine ga_met (own := RX12) 0 (by decide) rfl (Nat.le_of_ble_eq_true rfl) (L0 := [some (.ref b), some (.int (iI y)), some (.int (iI sh))]) rfl (fun X _ _ hE => ?_)
  refine ga_aload_n (pc := 0) dX12_init_0 rfl ?_
  refine ga_iload_n (pc := 1) dX12_init_1 rfl ?_
  refine ga_iload_n (pc := 2) dX12_init_2 rfl ?_
  refine ga_goV (pc := 3) (ga_runI (mc := 0) (ms := 0) (m_X9_init_14 _ _ _ b v0 v1 y sh hb ) (lw_meth q729) q121 q752 q728 rfl (show ga_nn' yX9_init 2 from (by unfold ga_nn'; decide +kernel)) ⟨rfl, rfl⟩ ⟨by show 1 + 1 ≤ _; exact Nat.le_of_ble_eq_true rfl, by show 8 + (3 + 11) + 64 * 1 ≤ _; exact Nat.le_of_ble_eq_true rfl⟩ ⟨Nat.le_of_ble_eq_true rfl, Nat.le_of_ble_eq_true rfl⟩ (Nat.le_of_ble_eq_true rfl) dX12_init_3 rfl) (fun h1 hp => ?_)
  subst hp
  exact ga_vret hE dX12_init_6 (Nat.le_of_ble_eq_true rfl) (Nat.le_of_ble_eq_true rfl) (⟨rfl, rfl⟩)
set_option maxHeartbeats 4000000 in
set_option maxRecDepth 100000 in
theorem m_X12_init_15 (l : Launch) (D : ga_G) (h : ga_H) (b : Nat) (v0 v1 : Value) (y sh : Int) (hb : h b = some (oE 15 [v0, v1]))  : ga_M l D yX12_init (ws_ yX12_init cX12_init 3 none) (gR 2) [.ref b, .int (iI y), .int (iI sh)] h (pV (fun h1 => h1 = ga_u h b (oE 15 [.int (iI y), .int (iI sh)]))) pX0 0 0 := by
  refine ga_met (own := RX12) 0 (by decide) rfl (Nat.le_of_ble_eq_true rfl) (L0 := [some (.ref b), some (.int (iI y)), some (.int (iI sh))]) rfl (fun X _ _ hE => ?_)
  refine ga_aload_n (pc := 0) dX12_init_0 rfl ?_
  refine ga_iload_n (pc := 1) dX12_init_1 rfl ?_
  refine ga_iload_n (pc := 2) dX12_init_2 rfl ?_
  refine ga_goV (pc := 3) (ga_runI (mc := 0) (ms := 0) (m_X9_init_15 _ _ _ b v0 v1 y sh hb ) (lw_meth q729) q121 q752 q728 rfl (show ga_nn' yX9_init 2 from (by unfold ga_nn'; decide +kernel)) ⟨rfl, rfl⟩ ⟨by show 1 + 1 ≤ _; exact Nat.le_of_ble_eq_true rfl, by show 8 + (3 + 11) + 64 * 1 ≤ _; exact Nat.le_of_ble_eq_true rfl⟩ ⟨Nat.le_of_ble_eq_true rfl, Nat.le_of_ble_eq_true rfl⟩ (Nat.le_of_ble_eq_true rfl) dX12_init_3 rfl) (fun h1 hp => ?_)
  subst hp
  exact ga_vret hE dX12_init_6 (Nat.le_of_ble_eq_true rfl) (Nat.le_of_ble_eq_true rfl) (⟨rfl, rfl⟩)
set_option maxHeartbeats 4000000 in
set_option maxRecDepth 100000 in
theorem m_X13_init_13 (l : Launch) (D : ga_G) (h : ga_H) (b : Nat) (v0 v1 : Value) (y sh : Int) (hb : h b = some (oE 13 [v0, v1]))  : ga_M l D yX13_init (ws_ yX13_init cX13_init 3 none) (gR 3) [.ref b, .int (iI y), .int (iI sh)] h (pV (fun h1 => h1 = ga_u h b (oE 13 [.int (iI y), .int (iI sh)]))) pX0 0 0 := by
  refine ga_met (own := RX13) 0 (by decide) rfl (Nat.le_of_ble_eq_true rfl) (L0 := [some (.ref b), some (.int (iI y)), some (.int (iI sh))]) rfl (fun X _ _ hE => ?_)
  refine ga_aload_n (pc := 0) dX13_init_0 rfl ?_
  refine ga_iload_n (pc := 1) dX13_init_1 rfl ?_
  refine ga_iload_n (pc := 2) dX13_init_2 rfl ?_
  refine ga_goV (pc := 3) (ga_runI (mc := 0) (ms := 0) (m_X11_init_13 _ _ _ b v0 v1 y sh hb ) (lw_meth q742) q123 q761 q741 rfl (show ga_nn' yX11_init 2 from (by unfold ga_nn'; decide +kernel)) ⟨rfl, rfl⟩ ⟨by show 2 + 1 ≤ _; exact Nat.le_of_ble_eq_true rfl, by show 8 + (3 + 11) + 64 * 2 ≤ _; exact Nat.le_of_ble_eq_true rfl⟩ ⟨Nat.le_of_ble_eq_true rfl, Nat.le_of_ble_eq_true rfl⟩ (Nat.le_of_ble_eq_true rfl) dX13_init_3 rfl) (fun h1 hp => ?_)
  subst hp
  exact ga_vret hE dX13_init_6 (Nat.le_of_ble_eq_true rfl) (Nat.le_of_ble_eq_true rfl) (⟨rfl, rfl⟩)
set_option maxHeartbeats 4000000 in
set_option maxRecDepth 100000 in
theorem m_X14_init_14 (l : Launch) (D : ga_G) (h : ga_H) (b : Nat) (v0 v1 : Value) (y sh : Int) (hb : h b = some (oE 14 [v0, v1]))  : ga_M l D yX14_init (ws_ yX14_init cX14_init 3 none) (gR 3) [.ref b, .int (iI y), .int (iI sh)] h (pV (fun h1 => h1 = ga_u h b (oE 14 [.int (iI y), .int (iI sh)]))) pX0 0 0 := by
  refine ga_met (own := RX14) 0 (by decide) rfl (Nat.le_of_ble_eq_true rfl) (L0 := [some (.ref b), some (.int (iI y)), some (.int (iI sh))]) rfl (fun X _ _ hE => ?_)
  refine ga_aload_n (pc := 0) dX14_init_0 rfl ?_
  refine ga_iload_n (pc := 1) dX14_init_1 rfl ?_
  refine ga_iload_n (pc := 2) dX14_init_2 rfl ?_
  refine ga_goV (pc := 3) (ga_runI (mc := 0) (ms := 0) (m_X12_init_14 _ _ _ b v0 v1 y sh hb ) (lw_meth q751) q124 q770 q750 rfl (show ga_nn' yX12_init 2 from (by unfold ga_nn'; decide +kernel)) ⟨rfl, rfl⟩ ⟨by show 2 + 1 ≤ _; exact Nat.le_of_ble_eq_true rfl, by show 8 + (3 + 11) + 64 * 2 ≤ _; exact Nat.le_of_ble_eq_true rfl⟩ ⟨Nat.le_of_ble_eq_true rfl, Nat.le_of_ble_eq_true rfl⟩ (Nat.le_of_ble_eq_true rfl) dX14_init_3 rfl) (fun h1 hp => ?_)
  subst hp
  exact ga_vret hE dX14_init_6 (Nat.le_of_ble_eq_true rfl) (Nat.le_of_ble_eq_true rfl) (⟨rfl, rfl⟩)
set_option maxHeartbeats 4000000 in
set_option maxRecDepth 100000 in
theorem m_X14_init_15 (l : Launch) (D : ga_G) (h : ga_H) (b : Nat) (v0 v1 : Value) (y sh : Int) (hb : h b = some (oE 15 [v0, v1]))  : ga_M l D yX14_init (ws_ yX14_init cX14_init 3 none) (gR 3) [.ref b, .int (iI y), .int (iI sh)] h (pV (fun h1 => h1 = ga_u h b (oE 15 [.int (iI y), .int (iI sh)]))) pX0 0 0 := by
  refine ga_met (own := RX14) 0 (by decide) rfl (Nat.le_of_ble_eq_true rfl) (L0 := [some (.ref b), some (.int (iI y)), some (.int (iI sh))]) rfl (fun X _ _ hE => ?_)
  refine ga_aload_n (pc := 0) dX14_init_0 rfl ?_
  refine ga_iload_n (pc := 1) dX14_init_1 rfl ?_
  refine ga_iload_n (pc := 2) dX14_init_2 rfl ?_
  refine ga_goV (pc := 3) (ga_runI (mc := 0) (ms := 0) (m_X12_init_15 _ _ _ b v0 v1 y sh hb ) (lw_meth q751) q124 q770 q750 rfl (show ga_nn' yX12_init 2 from (by unfold ga_nn'; decide +kernel)) ⟨rfl, rfl⟩ ⟨by show 2 + 1 ≤ _; exact Nat.le_of_ble_eq_true rfl, by show 8 + (3 + 11) + 64 * 2 ≤ _; exact Nat.le_of_ble_eq_true rfl⟩ ⟨Nat.le_of_ble_eq_true rfl, Nat.le_of_ble_eq_true rfl⟩ (Nat.le_of_ble_eq_true rfl) dX14_init_3 rfl) (fun h1 hp => ?_)
  subst hp
  exact ga_vret hE dX14_init_6 (Nat.le_of_ble_eq_true rfl) (Nat.le_of_ble_eq_true rfl) (⟨rfl, rfl⟩)
set_option maxHeartbeats 4000000 in
set_option maxRecDepth 100000 in
theorem m_X15_init_15 (l : Launch) (D : ga_G) (h : ga_H) (b : Nat) (v0 v1 : Value) (y sh : Int) (hb : h b = some (oE 15 [v0, v1]))  : ga_M l D yX15_init (ws_ yX15_init cX15_init 3 none) (gR 4) [.ref b, .int (iI y), .int (iI sh)] h (pV (fun h1 => h1 = ga_u h b (oE 15 [.int (iI y), .int (iI sh)]))) pX0 0 0 := by
  refine ga_met (own := RX15) 0 (by decide) rfl (Nat.le_of_ble_eq_true rfl) (L0 := [some (.ref b), some (.int (iI y)), some (.int (iI sh))]) rfl (fun X _ _ hE => ?_)
  refine ga_aload_n (pc := 0) dX15_init_0 rfl ?_
  refine ga_iload_n (pc := 1) dX15_init_1 rfl ?_
  refine ga_iload_n (pc := 2) dX15_init_2 rfl ?_
  refine ga_goV (pc := 3) (ga_runI (mc := 0) (ms := 0) (m_X14_init_15 _ _ _ b v0 v1 y sh hb ) (lw_meth q769) q126 q779 q768 rfl (show ga_nn' yX14_init 2 from (by unfold ga_nn'; decide +kernel)) ⟨rfl, rfl⟩ ⟨by show 3 + 1 ≤ _; exact Nat.le_of_ble_eq_true rfl, by show 8 + (3 + 11) + 64 * 3 ≤ _; exact Nat.le_of_ble_eq_true rfl⟩ ⟨Nat.le_of_ble_eq_true rfl, Nat.le_of_ble_eq_true rfl⟩ (Nat.le_of_ble_eq_true rfl) dX15_init_3 rfl) (fun h1 hp => ?_)
  subst hp
  exact ga_vret hE dX15_init_6 (Nat.le_of_ble_eq_true rfl) (Nat.le_of_ble_eq_true rfl) (⟨rfl, rfl⟩)
set_option maxHeartbeats 4000000 in
set_option maxRecDepth 100000 in
theorem m_X18_init_18 (l : Launch) (D : ga_G) (h : ga_H) (b : Nat) (v0 : Value) (y : Int) (hb : h b = some (oE 18 [v0]))  : ga_M l D yX18_init (ws_ yX18_init cX18_init 2 none) (gR 1) [.ref b, .int (iI y)] h (pV (fun h1 => h1 = ga_u h b (oE 18 [.int (iI y)]))) pX0 0 0 := by
  refine ga_met (own := RX18) 0 (by decide) rfl (Nat.le_of_ble_eq_true rfl) (L0 := [some (.ref b), some (.int (iI y))]) rfl (fun X _ _ hE => ?_)
  refine ga_aload_n (pc := 0) dX18_init_0 rfl ?_
  refine ga_objInit (pc := 1) q1317 (Nat.le_of_ble_eq_true rfl) (Nat.le_of_ble_eq_true rfl) dX18_init_1 ?_
  refine ga_aload_n (pc := 4) dX18_init_4 rfl ?_
  refine ga_iload_n (pc := 5) dX18_init_5 rfl ?_
  refine ga_putF (pc := 6) (C := RX18) (T := TX18) (N := 1) in_X18 tyX18_ok nmX18 rfl hb 0 (by decide) q1318 rfl rfl hE.2.2.2.1 rfl rfl rfl (by show 0 < 1; decide) rfl dX18_init_6 ?_
  exact ga_vret hE dX18_init_9 (Nat.le_of_ble_eq_true rfl) (Nat.le_of_ble_eq_true rfl) (⟨rfl, rfl⟩)
