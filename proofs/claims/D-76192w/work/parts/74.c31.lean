/-! THE CLASS: sets, size, keep, again -/
theorem zcp_in {f g : Int → Int} {k : Int} (h : 0 ≤ k ∧ k < 9) : zcp f g 0 0 9 k = f k := by
  unfold zcp
  rw [if_pos (by omega), show (0 : Int) + (k - 0) = k by omega]
theorem zcp_r {f g : Int → Int} {b : Int} (hf : ∀ k : Int, -b ≤ f k ∧ f k ≤ b) (hg : ∀ k : Int, -b ≤ g k ∧ g k ≤ b) (k : Int) : -b ≤ zcp f g 0 0 9 k ∧ zcp f g 0 0 9 k ≤ b := by
  unfold zcp
  split
  · exact hf _
  · exact hg _
theorem uN_r {B : Nat → Int → Int} {r0 : Nat} (hB : ∀ (r : Nat) (k : Int), r < 9 → -50 ≤ B r k ∧ B r k ≤ 50) : ∀ (r : Nat) (k : Int), r < 9 → -50 ≤ uN B r0 (fun _ => 0) r k ∧ uN B r0 (fun _ => 0) r k ≤ 50 := by
  intro r k hr
  by_cases h : r = r0
  · rw [h, uN_s]; exact ⟨by decide, by decide⟩
  · rw [uN_n B _ h]; exact hB r k hr
theorem cBk_t {B : Nat → Int → Int} {a b t : Nat} (ht : t < 3) : cBk B a b 3 (3 * a + t) = zcp (B (3 * b + t)) (B (3 * a + t)) 0 0 9 := by
  unfold cBk
  rw [if_pos (by omega), show 3 * a + t - 3 * a = t by omega]
theorem cBk_o {B : Nat → Int → Int} {a b r : Nat} (hr : r < 3 * a ∨ 3 * a + 3 ≤ r) : cBk B a b 3 r = B r := by
  unfold cBk
  rw [if_neg (by omega)]
set_option maxHeartbeats 4000000 in
set_option maxRecDepth 100000 in
theorem m_X0_sets (l : Launch) (D : ga_G) (ad : Nat → Nat) (J : Nat → Int) (B : Nat → Int → Int) (Q : Nat → Int → Option Nat) (Z : ga_H)  (hm : (1 ≤ J 30 ∧ J 30 ≤ 3) ∧ 1 ≤ J 31 ∧ J 31 ≤ 3) (heA : ∀ (r : Nat) (k : Int), r < 9 → -50 ≤ B r k ∧ B r k ≤ 50) (ht9 : (1 ≤ J 34 ∧ J 34 ≤ 3) ∧ 1 ≤ J 35 ∧ J 35 ≤ 3) : kM l D yX0_sets (ws_ yX0_sets cX0_sets 1 none) (gK 4 7 44) [.ref (ad 0)] ad J B Q Z (kV (fun ad1 J1 B1 Q1 Z1 => ad1 0 = ad 0 ∧ Q1 = Q ∧ Z1 = Z ∧ (∀ k : Nat, k ∉ [34, 35] → J1 k = J k) ∧ J1 34 = J 30 ∧ J1 35 = J 31 ∧ (∀ r : Nat, r ∉ [6, 7, 8] → B1 r = B r) ∧ (∀ (t : Nat) (k : Int), t < 3 → 0 ≤ k → k < 9 → B1 (6 + t) k = B (0 + t) k) ∧ (∀ (r9 : Nat) (k : Int), r9 < 9 → -50 ≤ B1 r9 k ∧ B1 r9 k ≤ 50))) kX0 7 44 := by
  refine kc_met (own := RX0) 0 (by decide) rfl (Nat.le_of_ble_eq_true rfl) (L0 := [some (.ref (ad 0))]) rfl (fun X h hc hE => ?_)
  obtain ⟨adO, eadO⟩ : ∃ x, x = ad := ⟨_, rfl⟩
  have h0 : ad 0 = adO 0 := by rw [eadO]
  refine ga_aload_n (pc := 0) dX0_sets_0 rfl ?_
  refine cc_g_tried (pc := 1) hc dX0_sets_1 ?_
  refine ga_getN (pc := 4) (C := RX4) (T := TX4) (N := 5) (v := .int (iI (J 34))) in_X4 rfl (hc.1 6 (by decide)) 0 (by decide) (ga_nt q307 rfl) rfl rfl dX0_sets_4 ?_
  refine ga_aload_n (pc := 7) dX0_sets_7 rfl ?_
  refine cc_g_now (pc := 8) hc dX0_sets_8 ?_
  refine ga_getN (pc := 11) (C := RX4) (T := TX4) (N := 5) (v := .int (iI (J 30))) in_X4 rfl (hc.1 4 (by decide)) 0 (by decide) (ga_nt q307 rfl) rfl rfl dX0_sets_11 ?_
  refine ga_icmp_ne (pc := 14) (tgt := 34) dX0_sets_14 rfl (by omega) (by omega) (fun c14 => ?_) (fun c14 => ?_)
  · skip
    refine ga_aload_n (pc := 34) dX0_sets_34 rfl ?_
    refine ga_new (pc := 35) (ci := 4) (fs := [.int (iI 0), .int (iI 0), .null, .null, .null]) in_X4 tyX4_ok rfl q270 q271 q109 (fun j hj => by rcases j with _ | _ | _ | _ | _ | j <;> first | rfl | omega) (by decide) (by decide) dX0_sets_35 (fun q haq => ?_)
    have hcO := hc
    replace hc := hc.none (e := (oE 4 [.int (iI 0), .int (iI 0), .null, .null, .null])) haq
    obtain ⟨hN, ehN⟩ : ∃ x, x = ga_u h q (oE 4 [.int (iI 0), .int (iI 0), .null, .null, .null]) := ⟨_, rfl⟩
    rw [← ehN] at hc ⊢
    refine ga_dup (pc := 38) dX0_sets_38 rfl ?_
    refine ga_aload_n (pc := 39) dX0_sets_39 rfl ?_
    refine cc_g_now (pc := 40) hc dX0_sets_40 ?_
    refine ga_getN (pc := 43) (C := RX4) (T := TX4) (N := 5) (v := .int (iI (J 30))) in_X4 rfl (hc.1 4 (by decide)) 0 (by decide) (ga_nt q307 rfl) rfl rfl dX0_sets_43 ?_
    refine ga_aload_n (pc := 46) dX0_sets_46 rfl ?_
    refine cc_g_now (pc := 47) hc dX0_sets_47 ?_
    refine ga_getN (pc := 50) (C := RX4) (T := TX4) (N := 5) (v := .int (iI (J 31))) in_X4 rfl (hc.1 4 (by decide)) 1 (by decide) (ga_nt q309 rfl) rfl rfl dX0_sets_50 ?_
    refine ga_goV (pc := 53) (ga_runI (mc := 6) (ms := 39) (m_X4_init_2 _ _ _ q _ _ _ _ _ (J 30) (J 31) (by rw [ehN]; exact ga_us _ _ _)) (lw_meth q277) q109 q460 q276 rfl (show ga_nn' yX4_init_2 2 from (by unfold ga_nn'; decide +kernel)) ⟨rfl, rfl⟩ ⟨by show 3 + 1 ≤ _; exact Nat.le_of_ble_eq_true rfl, by show 8 + (3 + 11) + 64 * 3 ≤ _; exact Nat.le_of_ble_eq_true rfl⟩ ⟨Nat.le_of_ble_eq_true rfl, Nat.le_of_ble_eq_true rfl⟩ (Nat.le_of_ble_eq_true rfl) dX0_sets_53 rfl) (fun h1 hp1 => ?_)
    obtain ⟨t0, t1, t2, c0, c1, c2, hp1⟩ := hp1
    rw [ehN] at hp1
    replace hp1 := fOn.f haq hp1
    replace hc := hcO.fr (fun a e z => hp1.1 _ _ z (fun y => y))
    refine ga_put (pc := 56) (C := RX0) (T := TX0) (N := 29) in_X0 tyX0_ok nmX0 rfl (hc.1 0 (by decide)) 5 (by decide) q370 rfl rfl rfl rfl (by show 5 < 29; decide) rfl dX0_sets_56 ?_
    refine ga_heq (pc := 59) (h1 := ga_u h1 (ad 0) (cE (adT ad 2 q t0 t1 t2 c0 c1 c2) (uN (uN J 34 (J 30)) 35 (J 31)) (uN (uN (uN B 6 (fun _ => 0)) 7 (fun _ => 0)) 8 (fun _ => 0)) Q 0)) rfl ?_
    replace hc : cOn (ga_u h1 (ad 0) (cE (adT ad 2 q t0 t1 t2 c0 c1 c2) (uN (uN J 34 (J 30)) 35 (J 31)) (uN (uN (uN B 6 (fun _ => 0)) 7 (fun _ => 0)) 8 (fun _ => 0)) Q 0)) (adT ad 2 q t0 t1 t2 c0 c1 c2) (uN (uN J 34 (J 30)) 35 (J 31)) (uN (uN (uN B 6 (fun _ => 0)) 7 (fun _ => 0)) 8 (fun _ => 0)) Q Z := cOn_newT2 hcO hp1
    generalize ga_u h1 (ad 0) (cE (adT ad 2 q t0 t1 t2 c0 c1 c2) (uN (uN J 34 (J 30)) 35 (J 31)) (uN (uN (uN B 6 (fun _ => 0)) 7 (fun _ => 0)) 8 (fun _ => 0)) Q 0) = h at hc ⊢
    refine ga_eq (pc := 59) (L1 := [some (.ref ((adT ad 2 q t0 t1 t2 c0 c1 c2) 0))]) (st1 := []) rfl rfl rfl ?_
    have h0N : (adT ad 2 q t0 t1 t2 c0 c1 c2) 0 = adO 0 := h0
    clear h0
    generalize (adT ad 2 q t0 t1 t2 c0 c1 c2) = ad at hc h0N ⊢
    have h0 := h0N
    refine ga_aload_n (pc := 59) dX0_sets_59 rfl ?_
    refine cc_g_tried (pc := 60) hc dX0_sets_60 ?_
    refine ga_aload_n (pc := 63) dX0_sets_63 rfl ?_
    refine cc_g_now (pc := 64) hc dX0_sets_64 ?_
    refine k_X4_become_20 (pc := 67) hc ⟨Nat.le_of_ble_eq_true rfl, Nat.le_of_ble_eq_true rfl⟩ ⟨Nat.le_of_ble_eq_true rfl, Nat.le_of_ble_eq_true rfl⟩ (Nat.le_of_ble_eq_true rfl) dX0_sets_67 (fun Jb Bb hb h hc => ?_)
    obtain ⟨eJb, eBb⟩ := hb
    rw [eJb] at hc
    clear eJb
    exact kc_vret hc hE dX0_sets_70 (by omega) (by omega) (⟨rfl, by (try dsimp only); obtain ⟨B0, eB0⟩ : ∃ x, x = (uN (uN (uN B 6 (fun _ => 0)) 7 (fun _ => 0)) 8 (fun _ => 0)) := ⟨_, rfl⟩; rw [← eB0] at eBb; have hB0 : (∀ r : Nat, r ∉ [6, 7, 8] → B0 r = B r) ∧ ∀ (r : Nat) (k : Int), r < 9 → -50 ≤ B0 r k ∧ B0 r k ≤ 50 := (by rw [eB0]; exact ⟨fun r hr => by simp only [List.mem_cons, List.not_mem_nil, or_false, not_or] at hr; rw [uN_n _ _ hr.2.2, uN_n _ _ hr.2.1, uN_n _ _ hr.1], uN_r (uN_r (uN_r heA))⟩); exact ⟨by rw [h0, eadO], rfl, rfl, fun k hk => by simp only [List.mem_cons, List.not_mem_nil, or_false, not_or] at hk; rw [uN_n _ _ hk.2, uN_n _ _ hk.1], by rw [uN_n _ _ (by decide), uN_s], by rw [uN_s], fun r hr => (congrFun eBb r).trans ((cBk_o (a := 2) (b := 0) (by simp only [List.mem_cons, List.not_mem_nil, or_false, not_or] at hr; omega)).trans (hB0.1 r hr)), fun t k ht k0 k1 => (congrFun (congrFun eBb (6 + t)) k).trans ((congrFun (cBk_t (a := 2) (b := 0) ht) k).trans ((zcp_in ⟨k0, k1⟩).trans (congrFun (hB0.1 (0 + t) (by simp only [List.mem_cons, List.not_mem_nil, or_false, not_or]; omega)) k))), fun r k hr => by rw [eBb]; unfold cBk; split; exact zcp_r (fun k => hB0.2 _ k (by omega)) (fun k => hB0.2 _ k (by omega)) k; exact hB0.2 r k hr⟩⟩)
  · skip
    refine ga_aload_n (pc := 17) dX0_sets_17 rfl ?_
    refine cc_g_tried (pc := 18) hc dX0_sets_18 ?_
    refine ga_getN (pc := 21) (C := RX4) (T := TX4) (N := 5) (v := .int (iI (J 35))) in_X4 rfl (hc.1 6 (by decide)) 1 (by decide) (ga_nt q309 rfl) rfl rfl dX0_sets_21 ?_
    refine ga_aload_n (pc := 24) dX0_sets_24 rfl ?_
    refine cc_g_now (pc := 25) hc dX0_sets_25 ?_
    refine ga_getN (pc := 28) (C := RX4) (T := TX4) (N := 5) (v := .int (iI (J 31))) in_X4 rfl (hc.1 4 (by decide)) 1 (by decide) (ga_nt q309 rfl) rfl rfl dX0_sets_28 ?_
    refine ga_icmp_eq (pc := 31) (tgt := 59) dX0_sets_31 rfl (by omega) (by omega) (fun c31 => ?_) (fun c31 => ?_)
    · skip
      refine ga_aload_n (pc := 59) dX0_sets_59 rfl ?_
      refine cc_g_tried (pc := 60) hc dX0_sets_60 ?_
      refine ga_aload_n (pc := 63) dX0_sets_63 rfl ?_
      refine cc_g_now (pc := 64) hc dX0_sets_64 ?_
      refine k_X4_become_20 (pc := 67) hc ⟨Nat.le_of_ble_eq_true rfl, Nat.le_of_ble_eq_true rfl⟩ ⟨Nat.le_of_ble_eq_true rfl, Nat.le_of_ble_eq_true rfl⟩ (Nat.le_of_ble_eq_true rfl) dX0_sets_67 (fun Jb Bb hb h hc => ?_)
      obtain ⟨eJb, eBb⟩ := hb
      rw [eJb] at hc
      clear eJb
      exact kc_vret hc hE dX0_sets_70 (by omega) (by omega) (⟨rfl, by (try dsimp only); obtain ⟨B0, eB0⟩ : ∃ x, x = B := ⟨_, rfl⟩; rw [← eB0] at eBb; have hB0 : (∀ r : Nat, r ∉ [6, 7, 8] → B0 r = B r) ∧ ∀ (r : Nat) (k : Int), r < 9 → -50 ≤ B0 r k ∧ B0 r k ≤ 50 := (by rw [eB0]; exact ⟨fun _ _ => rfl, heA⟩); exact ⟨by rw [h0, eadO], rfl, rfl, fun _ _ => rfl, by omega, by omega, fun r hr => (congrFun eBb r).trans ((cBk_o (a := 2) (b := 0) (by simp only [List.mem_cons, List.not_mem_nil, or_false, not_or] at hr; omega)).trans (hB0.1 r hr)), fun t k ht k0 k1 => (congrFun (congrFun eBb (6 + t)) k).trans ((congrFun (cBk_t (a := 2) (b := 0) ht) k).trans ((zcp_in ⟨k0, k1⟩).trans (congrFun (hB0.1 (0 + t) (by simp only [List.mem_cons, List.not_mem_nil, or_false, not_or]; omega)) k))), fun r k hr => by rw [eBb]; unfold cBk; split; exact zcp_r (fun k => hB0.2 _ k (by omega)) (fun k => hB0.2 _ k (by omega)) k; exact hB0.2 r k hr⟩⟩)
    · skip
      refine ga_aload_n (pc := 34) dX0_sets_34 rfl ?_
      refine ga_new (pc := 35) (ci := 4) (fs := [.int (iI 0), .int (iI 0), .null, .null, .null]) in_X4 tyX4_ok rfl q270 q271 q109 (fun j hj => by rcases j with _ | _ | _ | _ | _ | j <;> first | rfl | omega) (by decide) (by decide) dX0_sets_35 (fun q haq => ?_)
      have hcO := hc
      replace hc := hc.none (e := (oE 4 [.int (iI 0), .int (iI 0), .null, .null, .null])) haq
      obtain ⟨hN, ehN⟩ : ∃ x, x = ga_u h q (oE 4 [.int (iI 0), .int (iI 0), .null, .null, .null]) := ⟨_, rfl⟩
      rw [← ehN] at hc ⊢
      refine ga_dup (pc := 38) dX0_sets_38 rfl ?_
      refine ga_aload_n (pc := 39) dX0_sets_39 rfl ?_
      refine cc_g_now (pc := 40) hc dX0_sets_40 ?_
      refine ga_getN (pc := 43) (C := RX4) (T := TX4) (N := 5) (v := .int (iI (J 30))) in_X4 rfl (hc.1 4 (by decide)) 0 (by decide) (ga_nt q307 rfl) rfl rfl dX0_sets_43 ?_
      refine ga_aload_n (pc := 46) dX0_sets_46 rfl ?_
      refine cc_g_now (pc := 47) hc dX0_sets_47 ?_
      refine ga_getN (pc := 50) (C := RX4) (T := TX4) (N := 5) (v := .int (iI (J 31))) in_X4 rfl (hc.1 4 (by decide)) 1 (by decide) (ga_nt q309 rfl) rfl rfl dX0_sets_50 ?_
      refine ga_goV (pc := 53) (ga_runI (mc := 6) (ms := 39) (m_X4_init_2 _ _ _ q _ _ _ _ _ (J 30) (J 31) (by rw [ehN]; exact ga_us _ _ _)) (lw_meth q277) q109 q460 q276 rfl (show ga_nn' yX4_init_2 2 from (by unfold ga_nn'; decide +kernel)) ⟨rfl, rfl⟩ ⟨by show 3 + 1 ≤ _; exact Nat.le_of_ble_eq_true rfl, by show 8 + (3 + 11) + 64 * 3 ≤ _; exact Nat.le_of_ble_eq_true rfl⟩ ⟨Nat.le_of_ble_eq_true rfl, Nat.le_of_ble_eq_true rfl⟩ (Nat.le_of_ble_eq_true rfl) dX0_sets_53 rfl) (fun h1 hp1 => ?_)
      obtain ⟨t0, t1, t2, c0, c1, c2, hp1⟩ := hp1
      rw [ehN] at hp1
      replace hp1 := fOn.f haq hp1
      replace hc := hcO.fr (fun a e z => hp1.1 _ _ z (fun y => y))
      refine ga_put (pc := 56) (C := RX0) (T := TX0) (N := 29) in_X0 tyX0_ok nmX0 rfl (hc.1 0 (by decide)) 5 (by decide) q370 rfl rfl rfl rfl (by show 5 < 29; decide) rfl dX0_sets_56 ?_
      refine ga_heq (pc := 59) (h1 := ga_u h1 (ad 0) (cE (adT ad 2 q t0 t1 t2 c0 c1 c2) (uN (uN J 34 (J 30)) 35 (J 31)) (uN (uN (uN B 6 (fun _ => 0)) 7 (fun _ => 0)) 8 (fun _ => 0)) Q 0)) rfl ?_
      replace hc : cOn (ga_u h1 (ad 0) (cE (adT ad 2 q t0 t1 t2 c0 c1 c2) (uN (uN J 34 (J 30)) 35 (J 31)) (uN (uN (uN B 6 (fun _ => 0)) 7 (fun _ => 0)) 8 (fun _ => 0)) Q 0)) (adT ad 2 q t0 t1 t2 c0 c1 c2) (uN (uN J 34 (J 30)) 35 (J 31)) (uN (uN (uN B 6 (fun _ => 0)) 7 (fun _ => 0)) 8 (fun _ => 0)) Q Z := cOn_newT2 hcO hp1
      generalize ga_u h1 (ad 0) (cE (adT ad 2 q t0 t1 t2 c0 c1 c2) (uN (uN J 34 (J 30)) 35 (J 31)) (uN (uN (uN B 6 (fun _ => 0)) 7 (fun _ => 0)) 8 (fun _ => 0)) Q 0) = h at hc ⊢
      refine ga_eq (pc := 59) (L1 := [some (.ref ((adT ad 2 q t0 t1 t2 c0 c1 c2) 0))]) (st1 := []) rfl rfl rfl ?_
      have h0N : (adT ad 2 q t0 t1 t2 c0 c1 c2) 0 = adO 0 := h0
      clear h0
      generalize (adT ad 2 q t0 t1 t2 c0 c1 c2) = ad at hc h0N ⊢
      have h0 := h0N
      refine ga_aload_n (pc := 59) dX0_sets_59 rfl ?_
      refine cc_g_tried (pc := 60) hc dX0_sets_60 ?_
      refine ga_aload_n (pc := 63) dX0_sets_63 rfl ?_
      refine cc_g_now (pc := 64) hc dX0_sets_64 ?_
      refine k_X4_become_20 (pc := 67) hc ⟨Nat.le_of_ble_eq_true rfl, Nat.le_of_ble_eq_true rfl⟩ ⟨Nat.le_of_ble_eq_true rfl, Nat.le_of_ble_eq_true rfl⟩ (Nat.le_of_ble_eq_true rfl) dX0_sets_67 (fun Jb Bb hb h hc => ?_)
      obtain ⟨eJb, eBb⟩ := hb
      rw [eJb] at hc
      clear eJb
      exact kc_vret hc hE dX0_sets_70 (by omega) (by omega) (⟨rfl, by (try dsimp only); obtain ⟨B0, eB0⟩ : ∃ x, x = (uN (uN (uN B 6 (fun _ => 0)) 7 (fun _ => 0)) 8 (fun _ => 0)) := ⟨_, rfl⟩; rw [← eB0] at eBb; have hB0 : (∀ r : Nat, r ∉ [6, 7, 8] → B0 r = B r) ∧ ∀ (r : Nat) (k : Int), r < 9 → -50 ≤ B0 r k ∧ B0 r k ≤ 50 := (by rw [eB0]; exact ⟨fun r hr => by simp only [List.mem_cons, List.not_mem_nil, or_false, not_or] at hr; rw [uN_n _ _ hr.2.2, uN_n _ _ hr.2.1, uN_n _ _ hr.1], uN_r (uN_r (uN_r heA))⟩); exact ⟨by rw [h0, eadO], rfl, rfl, fun k hk => by simp only [List.mem_cons, List.not_mem_nil, or_false, not_or] at hk; rw [uN_n _ _ hk.2, uN_n _ _ hk.1], by rw [uN_n _ _ (by decide), uN_s], by rw [uN_s], fun r hr => (congrFun eBb r).trans ((cBk_o (a := 2) (b := 0) (by simp only [List.mem_cons, List.not_mem_nil, or_false, not_or] at hr; omega)).trans (hB0.1 r hr)), fun t k ht k0 k1 => (congrFun (congrFun eBb (6 + t)) k).trans ((congrFun (cBk_t (a := 2) (b := 0) ht) k).trans ((zcp_in ⟨k0, k1⟩).trans (congrFun (hB0.1 (0 + t) (by simp only [List.mem_cons, List.not_mem_nil, or_false, not_or]; omega)) k))), fun r k hr => by rw [eBb]; unfold cBk; split; exact zcp_r (fun k => hB0.2 _ k (by omega)) (fun k => hB0.2 _ k (by omega)) k; exact hB0.2 r k hr⟩⟩)
theorem k_X0_sets {X : ga_X} {R : Room} {nL : Nat} {cc : ByteArray} {h : ga_H} {ad : Nat → Nat} {J : Nat → Int} {B : Nat → Int → Int} {Q : Nat → Int → Option Nat} {Z : ga_H} {k n pc : Nat} {L : List (Option Value)} {st : List Value}  (hc : cOn h ad J B Q Z) (hm : (1 ≤ J 30 ∧ J 30 ≤ 3) ∧ 1 ≤ J 31 ∧ J 31 ≤ 3) (heA : ∀ (r : Nat) (k : Int), r < 9 → -50 ≤ B r k ∧ B r k ≤ 50) (ht9 : (1 ≤ J 34 ∧ J 34 ≤ 3) ∧ 1 ≤ J 35 ∧ J 35 ≤ 3) (hR : 4 + 1 ≤ R.frames ∧ 19 + 1 + 64 * 4 ≤ R.locals) (hk : k + 7 ≤ R.cells ∧ n + 44 ≤ R.slots) (hs : (st.map fun v => v.category).sum ≤ 8) (dd : decode cc pc = .ok (.invokevirtual 280, 3)) (kk : ∀ (ad1 : Nat → Nat) (J1 : Nat → Int) (B1 : Nat → Int → Int) (Q1 : Nat → Int → Option Nat) (Z1 : ga_H), (ad1 0 = ad 0 ∧ Q1 = Q ∧ Z1 = Z ∧ (∀ k : Nat, k ∉ [34, 35] → J1 k = J k) ∧ J1 34 = J 30 ∧ J1 35 = J 31 ∧ (∀ r : Nat, r ∉ [6, 7, 8] → B1 r = B r) ∧ (∀ (t : Nat) (k : Int), t < 3 → 0 ≤ k → k < 9 → B1 (6 + t) k = B (0 + t) k) ∧ (∀ (r9 : Nat) (k : Int), r9 < 9 → -50 ≤ B1 r9 k ∧ B1 r9 k ≤ 50)) → ∀ h : ga_H, cOn h ad1 J1 B1 Q1 Z1 → G X R RX0 nL cc h (k + 7) (n + 44) (pc + 3) L st) : G X R RX0 nL cc h k n pc L (.ref (ad 0) :: st) := by
  refine kc_run hc (m_X0_sets _ _ ad J B Q Z  hm heA ht9) (lw_V q567 q569 qs3 q102 q570) rfl (show ga_nn' yX0_sets 0 from (by unfold ga_nn'; decide +kernel)) hR hk hs dd rfl (fun EX qX hX adX JX BX QX ZX hcX hpX => hpX.elim) (fun vX hX adX JX BX QX ZX hcX hpX => ?_)
  obtain ⟨rfl, hpX⟩ := hpX
  exact kk adX JX BX QX ZX hpX hX hcX
