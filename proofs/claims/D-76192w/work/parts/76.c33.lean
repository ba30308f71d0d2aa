/-! THE CLASS: keep, again -/
set_option maxHeartbeats 4000000 in
set_option maxRecDepth 100000 in
theorem m_X0_keep (l : Launch) (D : ga_G) (ad : Nat → Nat) (J : Nat → Int) (B : Nat → Int → Int) (Q : Nat → Int → Option Nat) (Z : ga_H)  (hm : (1 ≤ J 30 ∧ J 30 ≤ 3) ∧ 1 ≤ J 31 ∧ J 31 ≤ 3) (heA : ∀ (r : Nat) (k : Int), r < 9 → -50 ≤ B r k ∧ B r k ≤ 50) (ht9 : (1 ≤ J 32 ∧ J 32 ≤ 3) ∧ 1 ≤ J 33 ∧ J 33 ≤ 3) (hqe : qOk (Q 0) Z) : kM l D yX0_keep (ws_ yX0_keep cX0_keep 1 (some .int)) (gK 4 7 44) [.ref (ad 0)] ad J B Q Z (kI (fun r ad1 J1 B1 Q1 Z1 => ad1 0 = ad 0 ∧ Q1 = uN Q 1 (zcq (Q 0) (Q 1) 0 0 6) ∧ Z1 = Z ∧ (∀ k : Nat, k ∉ [32, 33, 9, 11, 12] → J1 k = J k) ∧ J1 32 = J 30 ∧ J1 33 = J 31 ∧ (∀ r : Nat, r ∉ [3, 4, 5] → B1 r = B r) ∧ (∀ (t : Nat) (k : Int), t < 3 → 0 ≤ k → k < 9 → B1 (3 + t) k = B (0 + t) k) ∧ (∀ (r9 : Nat) (k : Int), r9 < 9 → -50 ≤ B1 r9 k ∧ B1 r9 k ≤ 50) ∧ J1 9 = J 8 ∧ J1 11 = J 10 ∧ J1 12 = 1 ∧ r = 1)) kX0 7 44 := by
  refine kc_met (own := RX0) 0 (by decide) rfl (Nat.le_of_ble_eq_true rfl) (L0 := [some (.ref (ad 0))]) rfl (fun X h hc hE => ?_)
  obtain ⟨adO, eadO⟩ : ∃ x, x = ad := ⟨_, rfl⟩
  have h0 : ad 0 = adO 0 := by rw [eadO]
  refine ga_aload_n (pc := 0) dX0_keep_0 rfl ?_
  refine cc_g_kept (pc := 1) hc dX0_keep_1 ?_
  refine ga_getN (pc := 4) (C := RX4) (T := TX4) (N := 5) (v := .int (iI (J 32))) in_X4 rfl (hc.1 5 (by decide)) 0 (by decide) (ga_nt q307 rfl) rfl rfl dX0_keep_4 ?_
  refine ga_aload_n (pc := 7) dX0_keep_7 rfl ?_
  refine cc_g_now (pc := 8) hc dX0_keep_8 ?_
  refine ga_getN (pc := 11) (C := RX4) (T := TX4) (N := 5) (v := .int (iI (J 30))) in_X4 rfl (hc.1 4 (by decide)) 0 (by decide) (ga_nt q307 rfl) rfl rfl dX0_keep_11 ?_
  refine ga_icmp_ne (pc := 14) (tgt := 34) dX0_keep_14 rfl (by omega) (by omega) (fun c14 => ?_) (fun c14 => ?_)
  · skip
    refine ga_aload_n (pc := 34) dX0_keep_34 rfl ?_
    refine ga_new (pc := 35) (ci := 4) (fs := [.int (iI 0), .int (iI 0), .null, .null, .null]) in_X4 tyX4_ok rfl q270 q271 q109 (fun j hj => by rcases j with _ | _ | _ | _ | _ | j <;> first | rfl | omega) (by decide) (by decide) dX0_keep_35 (fun q haq => ?_)
    have hcO := hc
    replace hc := hc.none (e := (oE 4 [.int (iI 0), .int (iI 0), .null, .null, .null])) haq
    obtain ⟨hN, ehN⟩ : ∃ x, x = ga_u h q (oE 4 [.int (iI 0), .int (iI 0), .null, .null, .null]) := ⟨_, rfl⟩
    rw [← ehN] at hc ⊢
    refine ga_dup (pc := 38) dX0_keep_38 rfl ?_
    refine ga_aload_n (pc := 39) dX0_keep_39 rfl ?_
    refine cc_g_now (pc := 40) hc dX0_keep_40 ?_
    refine ga_getN (pc := 43) (C := RX4) (T := TX4) (N := 5) (v := .int (iI (J 30))) in_X4 rfl (hc.1 4 (by decide)) 0 (by decide) (ga_nt q307 rfl) rfl rfl dX0_keep_43 ?_
    refine ga_aload_n (pc := 46) dX0_keep_46 rfl ?_
    refine cc_g_now (pc := 47) hc dX0_keep_47 ?_
    refine ga_getN (pc := 50) (C := RX4) (T := TX4) (N := 5) (v := .int (iI (J 31))) in_X4 rfl (hc.1 4 (by decide)) 1 (by decide) (ga_nt q309 rfl) rfl rfl dX0_keep_50 ?_
    refine ga_goV (pc := 53) (ga_runI (mc := 6) (ms := 39) (m_X4_init_2 _ _ _ q _ _ _ _ _ (J 30) (J 31) (by rw [ehN]; exact ga_us _ _ _)) (lw_meth q277) q109 q460 q276 rfl (show ga_nn' yX4_init_2 2 from (by unfold ga_nn'; decide +kernel)) ⟨rfl, rfl⟩ ⟨by show 3 + 1 ≤ _; exact Nat.le_of_ble_eq_true rfl, by show 8 + (3 + 11) + 64 * 3 ≤ _; exact Nat.le_of_ble_eq_true rfl⟩ ⟨Nat.le_of_ble_eq_true rfl, Nat.le_of_ble_eq_true rfl⟩ (Nat.le_of_ble_eq_true rfl) dX0_keep_53 rfl) (fun h1 hp1 => ?_)
    obtain ⟨t0, t1, t2, c0, c1, c2, hp1⟩ := hp1
    rw [ehN] at hp1
    replace hp1 := fOn.f haq hp1
    replace hc := hcO.fr (fun a e z => hp1.1 _ _ z (fun y => y))
    refine ga_put (pc := 56) (C := RX0) (T := TX0) (N := 29) in_X0 tyX0_ok nmX0 rfl (hc.1 0 (by decide)) 4 (by decide) q369 rfl rfl rfl rfl (by show 4 < 29; decide) rfl dX0_keep_56 ?_
    refine ga_heq (pc := 59) (h1 := ga_u h1 (ad 0) (cE (adT ad 1 q t0 t1 t2 c0 c1 c2) (uN (uN J 32 (J 30)) 33 (J 31)) (uN (uN (uN B 3 (fun _ => 0)) 4 (fun _ => 0)) 5 (fun _ => 0)) Q 0)) rfl ?_
    replace hc : cOn (ga_u h1 (ad 0) (cE (adT ad 1 q t0 t1 t2 c0 c1 c2) (uN (uN J 32 (J 30)) 33 (J 31)) (uN (uN (uN B 3 (fun _ => 0)) 4 (fun _ => 0)) 5 (fun _ => 0)) Q 0)) (adT ad 1 q t0 t1 t2 c0 c1 c2) (uN (uN J 32 (J 30)) 33 (J 31)) (uN (uN (uN B 3 (fun _ => 0)) 4 (fun _ => 0)) 5 (fun _ => 0)) Q Z := cOn_newT1 hcO hp1
    generalize ga_u h1 (ad 0) (cE (adT ad 1 q t0 t1 t2 c0 c1 c2) (uN (uN J 32 (J 30)) 33 (J 31)) (uN (uN (uN B 3 (fun _ => 0)) 4 (fun _ => 0)) 5 (fun _ => 0)) Q 0) = h at hc ⊢
    refine ga_eq (pc := 59) (L1 := [some (.ref ((adT ad 1 q t0 t1 t2 c0 c1 c2) 0))]) (st1 := []) rfl rfl rfl ?_
    have h0N : (adT ad 1 q t0 t1 t2 c0 c1 c2) 0 = adO 0 := h0
    clear h0
    generalize (adT ad 1 q t0 t1 t2 c0 c1 c2) = ad at hc h0N ⊢
    have h0 := h0N
    refine ga_aload_n (pc := 59) dX0_keep_59 rfl ?_
    refine cc_g_kept (pc := 60) hc dX0_keep_60 ?_
    refine ga_aload_n (pc := 63) dX0_keep_63 rfl ?_
    refine cc_g_now (pc := 64) hc dX0_keep_64 ?_
    refine k_X4_become_10 (pc := 67) hc ⟨Nat.le_of_ble_eq_true rfl, Nat.le_of_ble_eq_true rfl⟩ ⟨Nat.le_of_ble_eq_true rfl, Nat.le_of_ble_eq_true rfl⟩ (Nat.le_of_ble_eq_true rfl) dX0_keep_67 (fun Jb Bb hb h hc => ?_)
    obtain ⟨eJb, eBb⟩ := hb
    rw [eJb] at hc
    clear eJb
    refine ga_aload_n (pc := 70) dX0_keep_70 rfl ?_
    refine cc_g_equations (pc := 71) hc dX0_keep_71 ?_
    refine ga_iconst (pc := 74) dX0_keep_74 ?_
    refine ga_aload_n (pc := 75) dX0_keep_75 rfl ?_
    refine cc_g_keptEquations (pc := 76) hc dX0_keep_76 ?_
    refine ga_iconst (pc := 79) dX0_keep_79 ?_
    refine ga_bipush (pc := 80) dX0_keep_80 rfl ?_
    refine ga_copyR (pc := 82) (a0 := ad 25) (a := ad 26) (n0 := 6) (n1 := 6) (C := "TwoSidedTables$Plain") (f := Q 0) (g := Q 1) (zs := 0) (zd := 0) (zn := 6) (hc.1 25 (by decide)) (hc.1 26 (by decide)) (by omega) (by decide) (fun i i0 i1 y hy => by obtain ⟨kd, n, s, hk, hz⟩ := hqe i y i0 (by omega) hy; obtain ⟨q, q1, q2⟩ := plC hk; exact ⟨_, _, q, (hc.2.2 y _ hz).1, q1, q2⟩) q1307 q582 q581 q116 (Nat.le_of_ble_eq_true rfl) (Nat.le_of_ble_eq_true rfl) dX0_keep_82 ?_
    replace hc := hc.u (Q1 := uN Q 1 (zcq (Q 0) (Q 1) 0 0 6)) 26 (by decide) (fun r hr hn => cE_q (by decide) r hr hn) (e := aR "TwoSidedTables$Plain" 6 (zcq (Q 0) (Q 1) 0 0 6)) rfl
    generalize ga_u h (ad 26) (aR "TwoSidedTables$Plain" 6 (zcq (Q 0) (Q 1) 0 0 6)) = h at hc ⊢
    refine ga_aload_n (pc := 85) dX0_keep_85 rfl ?_
    refine ga_aload_n (pc := 86) dX0_keep_86 rfl ?_
    refine cc_g_many (pc := 87) (z := J 8) hc rfl dX0_keep_87 ?_
    refine cc_p_keptMany (pc := 90) (J1 := (uN (uN (uN J 32 (J 30)) 33 (J 31)) 9 (J 8))) hc (rfl) dX0_keep_90 (fun h hc => ?_)
    refine ga_aload_n (pc := 93) dX0_keep_93 rfl ?_
    refine ga_aload_n (pc := 94) dX0_keep_94 rfl ?_
    refine cc_g_z (pc := 95) (z := J 10) hc rfl dX0_keep_95 ?_
    refine cc_p_keptZ (pc := 98) (J1 := (uN (uN (uN (uN J 32 (J 30)) 33 (J 31)) 9 (J 8)) 11 (J 10))) hc (rfl) dX0_keep_98 (fun h hc => ?_)
    refine ga_aload_n (pc := 101) dX0_keep_101 rfl ?_
    refine ga_iconst (pc := 102) dX0_keep_102 ?_
    refine cc_p_isKept (pc := 103) (J1 := (uN (uN (uN (uN (uN J 32 (J 30)) 33 (J 31)) 9 (J 8)) 11 (J 10)) 12 1)) hc (by first | exact Or.inl rfl | exact Or.inr rfl) (rfl) dX0_keep_103 (fun h hc => ?_)
    refine ga_iconst (pc := 106) dX0_keep_106 ?_
    exact kc_iret hc hE dX0_keep_107 (by omega) (by omega) (⟨_, rfl, by (try dsimp only); obtain ⟨B0, eB0⟩ : ∃ x, x = (uN (uN (uN B 3 (fun _ => 0)) 4 (fun _ => 0)) 5 (fun _ => 0)) := ⟨_, rfl⟩; rw [← eB0] at eBb; have hB0 : (∀ r : Nat, r ∉ [3, 4, 5] → B0 r = B r) ∧ ∀ (r : Nat) (k : Int), r < 9 → -50 ≤ B0 r k ∧ B0 r k ≤ 50 := (by rw [eB0]; exact ⟨fun r hr => by simp only [List.mem_cons, List.not_mem_nil, or_false, not_or] at hr; rw [uN_n _ _ hr.2.2, uN_n _ _ hr.2.1, uN_n _ _ hr.1], uN_r (uN_r (uN_r heA))⟩); exact ⟨by rw [h0, eadO], rfl, rfl, fun k hk => by simp only [List.mem_cons, List.not_mem_nil, or_false, not_or] at hk; simp [uN, hk], rfl, rfl, fun r hr => (congrFun eBb r).trans ((cBk_o (a := 1) (b := 0) (by simp only [List.mem_cons, List.not_mem_nil, or_false, not_or] at hr; omega)).trans (hB0.1 r hr)), fun t k ht k0 k1 => (congrFun (congrFun eBb (3 + t)) k).trans ((congrFun (cBk_t (a := 1) (b := 0) ht) k).trans ((zcp_in ⟨k0, k1⟩).trans (congrFun (hB0.1 (0 + t) (by simp only [List.mem_cons, List.not_mem_nil, or_false, not_or]; omega)) k))), (fun r k hr => by rw [eBb]; unfold cBk; split; exact zcp_r (fun k => hB0.2 _ k (by omega)) (fun k => hB0.2 _ k (by omega)) k; exact hB0.2 r k hr), rfl, rfl, rfl, rfl⟩⟩)
  · skip
    refine ga_aload_n (pc := 17) dX0_keep_17 rfl ?_
    refine cc_g_kept (pc := 18) hc dX0_keep_18 ?_
    refine ga_getN (pc := 21) (C := RX4) (T := TX4) (N := 5) (v := .int (iI (J 33))) in_X4 rfl (hc.1 5 (by decide)) 1 (by decide) (ga_nt q309 rfl) rfl rfl dX0_keep_21 ?_
    refine ga_aload_n (pc := 24) dX0_keep_24 rfl ?_
    refine cc_g_now (pc := 25) hc dX0_keep_25 ?_
    refine ga_getN (pc := 28) (C := RX4) (T := TX4) (N := 5) (v := .int (iI (J 31))) in_X4 rfl (hc.1 4 (by decide)) 1 (by decide) (ga_nt q309 rfl) rfl rfl dX0_keep_28 ?_
    refine ga_icmp_eq (pc := 31) (tgt := 59) dX0_keep_31 rfl (by omega) (by omega) (fun c31 => ?_) (fun c31 => ?_)
    · skip
      refine ga_aload_n (pc := 59) dX0_keep_59 rfl ?_
      refine cc_g_kept (pc := 60) hc dX0_keep_60 ?_
      refine ga_aload_n (pc := 63) dX0_keep_63 rfl ?_
      refine cc_g_now (pc := 64) hc dX0_keep_64 ?_
      refine k_X4_become_10 (pc := 67) hc ⟨Nat.le_of_ble_eq_true rfl, Nat.le_of_ble_eq_true rfl⟩ ⟨Nat.le_of_ble_eq_true rfl, Nat.le_of_ble_eq_true rfl⟩ (Nat.le_of_ble_eq_true rfl) dX0_keep_67 (fun Jb Bb hb h hc => ?_)
      obtain ⟨eJb, eBb⟩ := hb
      rw [eJb] at hc
      clear eJb
      refine ga_aload_n (pc := 70) dX0_keep_70 rfl ?_
      refine cc_g_equations (pc := 71) hc dX0_keep_71 ?_
      refine ga_iconst (pc := 74) dX0_keep_74 ?_
      refine ga_aload_n (pc := 75) dX0_keep_75 rfl ?_
      refine cc_g_keptEquations (pc := 76) hc dX0_keep_76 ?_
      refine ga_iconst (pc := 79) dX0_keep_79 ?_
      refine ga_bipush (pc := 80) dX0_keep_80 rfl ?_
      refine ga_copyR (pc := 82) (a0 := ad 25) (a := ad 26) (n0 := 6) (n1 := 6) (C := "TwoSidedTables$Plain") (f := Q 0) (g := Q 1) (zs := 0) (zd := 0) (zn := 6) (hc.1 25 (by decide)) (hc.1 26 (by decide)) (by omega) (by decide) (fun i i0 i1 y hy => by obtain ⟨kd, n, s, hk, hz⟩ := hqe i y i0 (by omega) hy; obtain ⟨q, q1, q2⟩ := plC hk; exact ⟨_, _, q, (hc.2.2 y _ hz).1, q1, q2⟩) q1307 q582 q581 q116 (Nat.le_of_ble_eq_true rfl) (Nat.le_of_ble_eq_true rfl) dX0_keep_82 ?_
      replace hc := hc.u (Q1 := uN Q 1 (zcq (Q 0) (Q 1) 0 0 6)) 26 (by decide) (fun r hr hn => cE_q (by decide) r hr hn) (e := aR "TwoSidedTables$Plain" 6 (zcq (Q 0) (Q 1) 0 0 6)) rfl
      generalize ga_u h (ad 26) (aR "TwoSidedTables$Plain" 6 (zcq (Q 0) (Q 1) 0 0 6)) = h at hc ⊢
      refine ga_aload_n (pc := 85) dX0_keep_85 rfl ?_
      refine ga_aload_n (pc := 86) dX0_keep_86 rfl ?_
      refine cc_g_many (pc := 87) (z := J 8) hc rfl dX0_keep_87 ?_
      refine cc_p_keptMany (pc := 90) (J1 := (uN J 9 (J 8))) hc (rfl) dX0_keep_90 (fun h hc => ?_)
      refine ga_aload_n (pc := 93) dX0_keep_93 rfl ?_
      refine ga_aload_n (pc := 94) dX0_keep_94 rfl ?_
      refine cc_g_z (pc := 95) (z := J 10) hc rfl dX0_keep_95 ?_
      refine cc_p_keptZ (pc := 98) (J1 := (uN (uN J 9 (J 8)) 11 (J 10))) hc (rfl) dX0_keep_98 (fun h hc => ?_)
      refine ga_aload_n (pc := 101) dX0_keep_101 rfl ?_
      refine ga_iconst (pc := 102) dX0_keep_102 ?_
      refine cc_p_isKept (pc := 103) (J1 := (uN (uN (uN J 9 (J 8)) 11 (J 10)) 12 1)) hc (by first | exact Or.inl rfl | exact Or.inr rfl) (rfl) dX0_keep_103 (fun h hc => ?_)
      refine ga_iconst (pc := 106) dX0_keep_106 ?_
      exact kc_iret hc hE dX0_keep_107 (by omega) (by omega) (⟨_, rfl, by (try dsimp only); obtain ⟨B0, eB0⟩ : ∃ x, x = B := ⟨_, rfl⟩; rw [← eB0] at eBb; have hB0 : (∀ r : Nat, r ∉ [3, 4, 5] → B0 r = B r) ∧ ∀ (r : Nat) (k : Int), r < 9 → -50 ≤ B0 r k ∧ B0 r k ≤ 50 := (by rw [eB0]; exact ⟨fun _ _ => rfl, heA⟩); exact ⟨by rw [h0, eadO], rfl, rfl, fun k hk => by simp only [List.mem_cons, List.not_mem_nil, or_false, not_or] at hk; simp [uN, hk], by show J 32 = J 30; omega, by show J 33 = J 31; omega, fun r hr => (congrFun eBb r).trans ((cBk_o (a := 1) (b := 0) (by simp only [List.mem_cons, List.not_mem_nil, or_false, not_or] at hr; omega)).trans (hB0.1 r hr)), fun t k ht k0 k1 => (congrFun (congrFun eBb (3 + t)) k).trans ((congrFun (cBk_t (a := 1) (b := 0) ht) k).trans ((zcp_in ⟨k0, k1⟩).trans (congrFun (hB0.1 (0 + t) (by simp only [List.mem_cons, List.not_mem_nil, or_false, not_or]; omega)) k))), (fun r k hr => by rw [eBb]; unfold cBk; split; exact zcp_r (fun k => hB0.2 _ k (by omega)) (fun k => hB0.2 _ k (by omega)) k; exact hB0.2 r k hr), rfl, rfl, rfl, rfl⟩⟩)
    · skip
      refine ga_aload_n (pc := 34) dX0_keep_34 rfl ?_
      refine ga_new (pc := 35) (ci := 4) (fs := [.int (iI 0), .int (iI 0), .null, .null, .null]) in_X4 tyX4_ok rfl q270 q271 q109 (fun j hj => by rcases j with _ | _ | _ | _ | _ | j <;> first | rfl | omega) (by decide) (by decide) dX0_keep_35 (fun q haq => ?_)
      have hcO := hc
      replace hc := hc.none (e := (oE 4 [.int (iI 0), .int (iI 0), .null, .null, .null])) haq
      obtain ⟨hN, ehN⟩ : ∃ x, x = ga_u h q (oE 4 [.int (iI 0), .int (iI 0), .null, .null, .null]) := ⟨_, rfl⟩
      rw [← ehN] at hc ⊢
      refine ga_dup (pc := 38) dX0_keep_38 rfl ?_
      refine ga_aload_n (pc := 39) dX0_keep_39 rfl ?_
      refine cc_g_now (pc := 40) hc dX0_keep_40 ?_
      refine ga_getN (pc := 43) (C := RX4) (T := TX4) (N := 5) (v := .int (iI (J 30))) in_X4 rfl (hc.1 4 (by decide)) 0 (by decide) (ga_nt q307 rfl) rfl rfl dX0_keep_43 ?_
      refine ga_aload_n (pc := 46) dX0_keep_46 rfl ?_
      refine cc_g_now (pc := 47) hc dX0_keep_47 ?_
      refine ga_getN (pc := 50) (C := RX4) (T := TX4) (N := 5) (v := .int (iI (J 31))) in_X4 rfl (hc.1 4 (by decide)) 1 (by decide) (ga_nt q309 rfl) rfl rfl dX0_keep_50 ?_
      refine ga_goV (pc := 53) (ga_runI (mc := 6) (ms := 39) (m_X4_init_2 _ _ _ q _ _ _ _ _ (J 30) (J 31) (by rw [ehN]; exact ga_us _ _ _)) (lw_meth q277) q109 q460 q276 rfl (show ga_nn' yX4_init_2 2 from (by unfold ga_nn'; decide +kernel)) ⟨rfl, rfl⟩ ⟨by show 3 + 1 ≤ _; exact Nat.le_of_ble_eq_true rfl, by show 8 + (3 + 11) + 64 * 3 ≤ _; exact Nat.le_of_ble_eq_true rfl⟩ ⟨Nat.le_of_ble_eq_true rfl, Nat.le_of_ble_eq_true rfl⟩ (Nat.le_of_ble_eq_true rfl) dX0_keep_53 rfl) (fun h1 hp1 => ?_)
      obtain ⟨t0, t1, t2, c0, c1, c2, hp1⟩ := hp1
      rw [ehN] at hp1
      replace hp1 := fOn.f haq hp1
      replace hc := hcO.fr (fun a e z => hp1.1 _ _ z (fun y => y))
      refine ga_put (pc := 56) (C := RX0) (T := TX0) (N := 29) in_X0 tyX0_ok nmX0 rfl (hc.1 0 (by decide)) 4 (by decide) q369 rfl rfl rfl rfl (by show 4 < 29; decide) rfl dX0_keep_56 ?_
      refine ga_heq (pc := 59) (h1 := ga_u h1 (ad 0) (cE (adT ad 1 q t0 t1 t2 c0 c1 c2) (uN (uN J 32 (J 30)) 33 (J 31)) (uN (uN (uN B 3 (fun _ => 0)) 4 (fun _ => 0)) 5 (fun _ => 0)) Q 0)) rfl ?_
      replace hc : cOn (ga_u h1 (ad 0) (cE (adT ad 1 q t0 t1 t2 c0 c1 c2) (uN (uN J 32 (J 30)) 33 (J 31)) (uN (uN (uN B 3 (fun _ => 0)) 4 (fun _ => 0)) 5 (fun _ => 0)) Q 0)) (adT ad 1 q t0 t1 t2 c0 c1 c2) (uN (uN J 32 (J 30)) 33 (J 31)) (uN (uN (uN B 3 (fun _ => 0)) 4 (fun _ => 0)) 5 (fun _ => 0)) Q Z := cOn_newT1 hcO hp1
      generalize ga_u h1 (ad 0) (cE (adT ad 1 q t0 t1 t2 c0 c1 c2) (uN (uN J 32 (J 30)) 33 (J 31)) (uN (uN (uN B 3 (fun _ => 0)) 4 (fun _ => 0)) 5 (fun _ => 0)) Q 0) = h at hc ⊢
      refine ga_eq (pc := 59) (L1 := [some (.ref ((adT ad 1 q t0 t1 t2 c0 c1 c2) 0))]) (st1 := []) rfl rfl rfl ?_
      have h0N : (adT ad 1 q t0 t1 t2 c0 c1 c2) 0 = adO 0 := h0
      clear h0
      generalize (adT ad 1 q t0 t1 t2 c0 c1 c2) = ad at hc h0N ⊢
      have h0 := h0N
      refine ga_aload_n (pc := 59) dX0_keep_59 rfl ?_
      refine cc_g_kept (pc := 60) hc dX0_keep_60 ?_
      refine ga_aload_n (pc := 63) dX0_keep_63 rfl ?_
      refine cc_g_now (pc := 64) hc dX0_keep_64 ?_
      refine k_X4_become_10 (pc := 67) hc ⟨Nat.le_of_ble_eq_true rfl, Nat.le_of_ble_eq_true rfl⟩ ⟨Nat.le_of_ble_eq_true rfl, Nat.le_of_ble_eq_true rfl⟩ (Nat.le_of_ble_eq_true rfl) dX0_keep_67 (fun Jb Bb hb h hc => ?_)
      obtain ⟨eJb, eBb⟩ := hb
      rw [eJb] at hc
      clear eJb
      refine ga_aload_n (pc := 70) dX0_keep_70 rfl ?_
      refine cc_g_equations (pc := 71) hc dX0_keep_71 ?_
      refine ga_iconst (pc := 74) dX0_keep_74 ?_
      refine ga_aload_n (pc := 75) dX0_keep_75 rfl ?_
      refine cc_g_keptEquations (pc := 76) hc dX0_keep_76 ?_
      refine ga_iconst (pc := 79) dX0_keep_79 ?_
      refine ga_bipush (pc := 80) dX0_keep_80 rfl ?_
      refine ga_copyR (pc := 82) (a0 := ad 25) (a := ad 26) (n0 := 6) (n1 := 6) (C := "TwoSidedTables$Plain") (f := Q 0) (g := Q 1) (zs := 0) (zd := 0) (zn := 6) (hc.1 25 (by decide)) (hc.1 26 (by decide)) (by omega) (by decide) (fun i i0 i1 y hy => by obtain ⟨kd, n, s, hk, hz⟩ := hqe i y i0 (by omega) hy; obtain ⟨q, q1, q2⟩ := plC hk; exact ⟨_, _, q, (hc.2.2 y _ hz).1, q1, q2⟩) q1307 q582 q581 q116 (Nat.le_of_ble_eq_true rfl) (Nat.le_of_ble_eq_true rfl) dX0_keep_82 ?_
      replace hc := hc.u (Q1 := uN Q 1 (zcq (Q 0) (Q 1) 0 0 6)) 26 (by decide) (fun r hr hn => cE_q (by decide) r hr hn) (e := aR "TwoSidedTables$Plain" 6 (zcq (Q 0) (Q 1) 0 0 6)) rfl
      generalize ga_u h (ad 26) (aR "TwoSidedTables$Plain" 6 (zcq (Q 0) (Q 1) 0 0 6)) = h at hc ⊢
      refine ga_aload_n (pc := 85) dX0_keep_85 rfl ?_
      refine ga_aload_n (pc := 86) dX0_keep_86 rfl ?_
      refine cc_g_many (pc := 87) (z := J 8) hc rfl dX0_keep_87 ?_
      refine cc_p_keptMany (pc := 90) (J1 := (uN (uN (uN J 32 (J 30)) 33 (J 31)) 9 (J 8))) hc (rfl) dX0_keep_90 (fun h hc => ?_)
      refine ga_aload_n (pc := 93) dX0_keep_93 rfl ?_
      refine ga_aload_n (pc := 94) dX0_keep_94 rfl ?_
      refine cc_g_z (pc := 95) (z := J 10) hc rfl dX0_keep_95 ?_
      refine cc_p_keptZ (pc := 98) (J1 := (uN (uN (uN (uN J 32 (J 30)) 33 (J 31)) 9 (J 8)) 11 (J 10))) hc (rfl) dX0_keep_98 (fun h hc => ?_)
      refine ga_aload_n (pc := 101) dX0_keep_101 rfl ?_
      refine ga_iconst (pc := 102) dX0_keep_102 ?_
      refine cc_p_isKept (pc := 103) (J1 := (uN (uN (uN (uN (uN J 32 (J 30)) 33 (J 31)) 9 (J 8)) 11 (J 10)) 12 1)) hc (by first | exact Or.inl rfl | exact Or.inr rfl) (rfl) dX0_keep_103 (fun h hc => ?_)
      refine ga_iconst (pc := 106) dX0_keep_106 ?_
      exact kc_iret hc hE dX0_keep_107 (by omega) (by omega) (⟨_, rfl, by (try dsimp only); obtain ⟨B0, eB0⟩ : ∃ x, x = (uN (uN (uN B 3 (fun _ => 0)) 4 (fun _ => 0)) 5 (fun _ => 0)) := ⟨_, rfl⟩; rw [← eB0] at eBb; have hB0 : (∀ r : Nat, r ∉ [3, 4, 5] → B0 r = B r) ∧ ∀ (r : Nat) (k : Int), r < 9 → -50 ≤ B0 r k ∧ B0 r k ≤ 50 := (by rw [eB0]; exact ⟨fun r hr => by simp only [List.mem_cons, List.not_mem_nil, or_false, not_or] at hr; rw [uN_n _ _ hr.2.2, uN_n _ _ hr.2.1, uN_n _ _ hr.1], uN_r (uN_r (uN_r heA))⟩); exact ⟨by rw [h0, eadO], rfl, rfl, fun k hk => by simp only [List.mem_cons, List.not_mem_nil, or_false, not_or] at hk; simp [uN, hk], rfl, rfl, fun r hr => (congrFun eBb r).trans ((cBk_o (a := 1) (b := 0) (by simp only [List.mem_cons, List.not_mem_nil, or_false, not_or] at hr; omega)).trans (hB0.1 r hr)), fun t k ht k0 k1 => (congrFun (congrFun eBb (3 + t)) k).trans ((congrFun (cBk_t (a := 1) (b := 0) ht) k).trans ((zcp_in ⟨k0, k1⟩).trans (congrFun (hB0.1 (0 + t) (by simp only [List.mem_cons, List.not_mem_nil, or_false, not_or]; omega)) k))), (fun r k hr => by rw [eBb]; unfold cBk; split; exact zcp_r (fun k => hB0.2 _ k (by omega)) (fun k => hB0.2 _ k (by omega)) k; exact hB0.2 r k hr), rfl, rfl, rfl, rfl⟩⟩)
set_option maxHeartbeats 4000000 in
set_option maxRecDepth 100000 in
theorem m_X0_again (l : Launch) (D : ga_G) (ad : Nat → Nat) (J : Nat → Int) (B : Nat → Int → Int) (Q : Nat → Int → Option Nat) (Z : ga_H)  (hm : (1 ≤ J 30 ∧ J 30 ≤ 3) ∧ 1 ≤ J 31 ∧ J 31 ≤ 3) (heA : ∀ (r : Nat) (k : Int), r < 9 → -50 ≤ B r k ∧ B r k ≤ 50) (ht9 : (1 ≤ J 32 ∧ J 32 ≤ 3) ∧ 1 ≤ J 33 ∧ J 33 ≤ 3) (hqe : qOk (Q 1) Z) (h12 : J 12 = 0 ∨ J 12 = 1) : kM l D yX0_again (ws_ yX0_again cX0_again 1 (some .int)) (gK 4 7 44) [.ref (ad 0)] ad J B Q Z (kI (fun r ad1 J1 B1 Q1 Z1 => (J 12 = 0 ∧ r = -3 ∧ ad1 = ad ∧ J1 = J ∧ B1 = B ∧ Q1 = Q ∧ Z1 = Z) ∨ (J 12 = 1 ∧ ad1 0 = ad 0 ∧ Q1 = uN Q 0 (zcq (Q 1) (Q 0) 0 0 6) ∧ Z1 = Z ∧ (∀ k : Nat, k ∉ [30, 31, 8, 10] → J1 k = J k) ∧ J1 30 = J 32 ∧ J1 31 = J 33 ∧ (∀ r : Nat, r ∉ [0, 1, 2] → B1 r = B r) ∧ (∀ (t : Nat) (k : Int), t < 3 → 0 ≤ k → k < 9 → B1 (0 + t) k = B (3 + t) k) ∧ (∀ (r9 : Nat) (k : Int), r9 < 9 → -50 ≤ B1 r9 k ∧ B1 r9 k ≤ 50) ∧ J1 8 = J 9 ∧ J1 10 = J 11 ∧ r = J 9))) kX0 7 44 := by
  refine kc_met (own := RX0) 0 (by decide) rfl (Nat.le_of_ble_eq_true rfl) (L0 := [some (.ref (ad 0))]) rfl (fun X h hc hE => ?_)
  obtain ⟨adO, eadO⟩ : ∃ x, x = ad := ⟨_, rfl⟩
  have h0 : ad 0 = adO 0 := by rw [eadO]
  refine ga_aload_n (pc := 0) dX0_again_0 rfl ?_
  refine cc_g_isKept (pc := 1) (z := J 12) hc rfl dX0_again_1 ?_
  refine ga_if_ne (pc := 4) (tgt := 10) dX0_again_4 rfl (by omega) (fun c4 => ?_) (fun c4 => ?_)
  · skip
    refine ga_aload_n (pc := 10) dX0_again_10 rfl ?_
    refine cc_g_kept (pc := 11) hc dX0_again_11 ?_
    refine ga_getN (pc := 14) (C := RX4) (T := TX4) (N := 5) (v := .int (iI (J 32))) in_X4 rfl (hc.1 5 (by decide)) 0 (by decide) (ga_nt q307 rfl) rfl rfl dX0_again_14 ?_
    refine ga_aload_n (pc := 17) dX0_again_17 rfl ?_
    refine cc_g_now (pc := 18) hc dX0_again_18 ?_
    refine ga_getN (pc := 21) (C := RX4) (T := TX4) (N := 5) (v := .int (iI (J 30))) in_X4 rfl (hc.1 4 (by decide)) 0 (by decide) (ga_nt q307 rfl) rfl rfl dX0_again_21 ?_
    refine ga_icmp_ne (pc := 24) (tgt := 44) dX0_again_24 rfl (by omega) (by omega) (fun c24 => ?_) (fun c24 => ?_)
    · skip
      refine ga_aload_n (pc := 44) dX0_again_44 rfl ?_
      refine ga_new (pc := 45) (ci := 4) (fs := [.int (iI 0), .int (iI 0), .null, .null, .null]) in_X4 tyX4_ok rfl q270 q271 q109 (fun j hj => by rcases j with _ | _ | _ | _ | _ | j <;> first | rfl | omega) (by decide) (by decide) dX0_again_45 (fun q haq => ?_)
      have hcO := hc
      replace hc := hc.none (e := (oE 4 [.int (iI 0), .int (iI 0), .null, .null, .null])) haq
      obtain ⟨hN, ehN⟩ : ∃ x, x = ga_u h q (oE 4 [.int (iI 0), .int (iI 0), .null, .null, .null]) := ⟨_, rfl⟩
      rw [← ehN] at hc ⊢
      refine ga_dup (pc := 48) dX0_again_48 rfl ?_
      refine ga_aload_n (pc := 49) dX0_again_49 rfl ?_
      refine cc_g_kept (pc := 50) hc dX0_again_50 ?_
      refine ga_getN (pc := 53) (C := RX4) (T := TX4) (N := 5) (v := .int (iI (J 32))) in_X4 rfl (hc.1 5 (by decide)) 0 (by decide) (ga_nt q307 rfl) rfl rfl dX0_again_53 ?_
      refine ga_aload_n (pc := 56) dX0_again_56 rfl ?_
      refine cc_g_kept (pc := 57) hc dX0_again_57 ?_
      refine ga_getN (pc := 60) (C := RX4) (T := TX4) (N := 5) (v := .int (iI (J 33))) in_X4 rfl (hc.1 5 (by decide)) 1 (by decide) (ga_nt q309 rfl) rfl rfl dX0_again_60 ?_
      refine ga_goV (pc := 63) (ga_runI (mc := 6) (ms := 39) (m_X4_init_2 _ _ _ q _ _ _ _ _ (J 32) (J 33) (by rw [ehN]; exact ga_us _ _ _)) (lw_meth q277) q109 q460 q276 rfl (show ga_nn' yX4_init_2 2 from (by unfold ga_nn'; decide +kernel)) ⟨rfl, rfl⟩ ⟨by show 3 + 1 ≤ _; exact Nat.le_of_ble_eq_true rfl, by show 8 + (3 + 11) + 64 * 3 ≤ _; exact Nat.le_of_ble_eq_true rfl⟩ ⟨Nat.le_of_ble_eq_true rfl, Nat.le_of_ble_eq_true rfl⟩ (Nat.le_of_ble_eq_true rfl) dX0_again_63 rfl) (fun h1 hp1 => ?_)
      obtain ⟨t0, t1, t2, c0, c1, c2, hp1⟩ := hp1
      rw [ehN] at hp1
      replace hp1 := fOn.f haq hp1
      replace hc := hcO.fr (fun a e z => hp1.1 _ _ z (fun y => y))
      refine ga_put (pc := 66) (C := RX0) (T := TX0) (N := 29) in_X0 tyX0_ok nmX0 rfl (hc.1 0 (by decide)) 3 (by decide) q368 rfl rfl rfl rfl (by show 3 < 29; decide) rfl dX0_again_66 ?_
      refine ga_heq (pc := 69) (h1 := ga_u h1 (ad 0) (cE (adT ad 0 q t0 t1 t2 c0 c1 c2) (uN (uN J 30 (J 32)) 31 (J 33)) (uN (uN (uN B 0 (fun _ => 0)) 1 (fun _ => 0)) 2 (fun _ => 0)) Q 0)) rfl ?_
      replace hc : cOn (ga_u h1 (ad 0) (cE (adT ad 0 q t0 t1 t2 c0 c1 c2) (uN (uN J 30 (J 32)) 31 (J 33)) (uN (uN (uN B 0 (fun _ => 0)) 1 (fun _ => 0)) 2 (fun _ => 0)) Q 0)) (adT ad 0 q t0 t1 t2 c0 c1 c2) (uN (uN J 30 (J 32)) 31 (J 33)) (uN (uN (uN B 0 (fun _ => 0)) 1 (fun _ => 0)) 2 (fun _ => 0)) Q Z := cOn_newT0 hcO hp1
      generalize ga_u h1 (ad 0) (cE (adT ad 0 q t0 t1 t2 c0 c1 c2) (uN (uN J 30 (J 32)) 31 (J 33)) (uN (uN (uN B 0 (fun _ => 0)) 1 (fun _ => 0)) 2 (fun _ => 0)) Q 0) = h at hc ⊢
      refine ga_eq (pc := 69) (L1 := [some (.ref ((adT ad 0 q t0 t1 t2 c0 c1 c2) 0))]) (st1 := []) rfl rfl rfl ?_
      have h0N : (adT ad 0 q t0 t1 t2 c0 c1 c2) 0 = adO 0 := h0
      clear h0
      generalize (adT ad 0 q t0 t1 t2 c0 c1 c2) = ad at hc h0N ⊢
      have h0 := h0N
      refine ga_aload_n (pc := 69) dX0_again_69 rfl ?_
      refine cc_g_now (pc := 70) hc dX0_again_70 ?_
      refine ga_aload_n (pc := 73) dX0_again_73 rfl ?_
      refine cc_g_kept (pc := 74) hc dX0_again_74 ?_
      refine k_X4_become_01 (pc := 77) hc ⟨Nat.le_of_ble_eq_true rfl, Nat.le_of_ble_eq_true rfl⟩ ⟨Nat.le_of_ble_eq_true rfl, Nat.le_of_ble_eq_true rfl⟩ (Nat.le_of_ble_eq_true rfl) dX0_again_77 (fun Jb Bb hb h hc => ?_)
      obtain ⟨eJb, eBb⟩ := hb
      rw [eJb] at hc
      clear eJb
      refine ga_aload_n (pc := 80) dX0_again_80 rfl ?_
      refine cc_g_keptEquations (pc := 81) hc dX0_again_81 ?_
      refine ga_iconst (pc := 84) dX0_again_84 ?_
      refine ga_aload_n (pc := 85) dX0_again_85 rfl ?_
      refine cc_g_equations (pc := 86) hc dX0_again_86 ?_
      refine ga_iconst (pc := 89) dX0_again_89 ?_
      refine ga_bipush (pc := 90) dX0_again_90 rfl ?_
      refine ga_copyR (pc := 92) (a0 := ad 26) (a := ad 25) (n0 := 6) (n1 := 6) (C := "TwoSidedTables$Plain") (f := Q 1) (g := Q 0) (zs := 0) (zd := 0) (zn := 6) (hc.1 26 (by decide)) (hc.1 25 (by decide)) (by omega) (by decide) (fun i i0 i1 y hy => by obtain ⟨kd, n, s, hk, hz⟩ := hqe i y i0 (by omega) hy; obtain ⟨q, q1, q2⟩ := plC hk; exact ⟨_, _, q, (hc.2.2 y _ hz).1, q1, q2⟩) q1307 q582 q581 q116 (Nat.le_of_ble_eq_true rfl) (Nat.le_of_ble_eq_true rfl) dX0_again_92 ?_
      replace hc := hc.u (Q1 := uN Q 0 (zcq (Q 1) (Q 0) 0 0 6)) 25 (by decide) (fun r hr hn => cE_q (by decide) r hr hn) (e := aR "TwoSidedTables$Plain" 6 (zcq (Q 1) (Q 0) 0 0 6)) rfl
      generalize ga_u h (ad 25) (aR "TwoSidedTables$Plain" 6 (zcq (Q 1) (Q 0) 0 0 6)) = h at hc ⊢
      refine ga_aload_n (pc := 95) dX0_again_95 rfl ?_
      refine ga_aload_n (pc := 96) dX0_again_96 rfl ?_
      refine cc_g_keptMany (pc := 97) (z := J 9) hc rfl dX0_again_97 ?_
      refine cc_p_many (pc := 100) (J1 := (uN (uN (uN J 30 (J 32)) 31 (J 33)) 8 (J 9))) hc (rfl) dX0_again_100 (fun h hc => ?_)
      refine ga_aload_n (pc := 103) dX0_again_103 rfl ?_
      refine ga_aload_n (pc := 104) dX0_again_104 rfl ?_
      refine cc_g_keptZ (pc := 105) (z := J 11) hc rfl dX0_again_105 ?_
      refine cc_p_z (pc := 108) (J1 := (uN (uN (uN (uN J 30 (J 32)) 31 (J 33)) 8 (J 9)) 10 (J 11))) hc (rfl) dX0_again_108 (fun h hc => ?_)
      refine ga_aload_n (pc := 111) dX0_again_111 rfl ?_
      refine cc_g_many (pc := 112) (z := J 9) hc rfl dX0_again_112 ?_
      exact kc_iret hc hE dX0_again_115 (by omega) (by omega) (⟨_, rfl, by (try dsimp only); refine Or.inr ⟨by omega, ?_⟩; obtain ⟨B0, eB0⟩ : ∃ x, x = (uN (uN (uN B 0 (fun _ => 0)) 1 (fun _ => 0)) 2 (fun _ => 0)) := ⟨_, rfl⟩; rw [← eB0] at eBb; have hB0 : (∀ r : Nat, r ∉ [0, 1, 2] → B0 r = B r) ∧ ∀ (r : Nat) (k : Int), r < 9 → -50 ≤ B0 r k ∧ B0 r k ≤ 50 := (by rw [eB0]; exact ⟨fun r hr => by simp only [List.mem_cons, List.not_mem_nil, or_false, not_or] at hr; rw [uN_n _ _ hr.2.2, uN_n _ _ hr.2.1, uN_n _ _ hr.1], uN_r (uN_r (uN_r heA))⟩); exact ⟨by rw [h0, eadO], rfl, rfl, fun k hk => by simp only [List.mem_cons, List.not_mem_nil, or_false, not_or] at hk; simp [uN, hk], rfl, rfl, fun r hr => (congrFun eBb r).trans ((cBk_o (a := 0) (b := 1) (by simp only [List.mem_cons, List.not_mem_nil, or_false, not_or] at hr; omega)).trans (hB0.1 r hr)), fun t k ht k0 k1 => (congrFun (congrFun eBb (0 + t)) k).trans ((congrFun (cBk_t (a := 0) (b := 1) ht) k).trans ((zcp_in ⟨k0, k1⟩).trans (congrFun (hB0.1 (3 + t) (by simp only [List.mem_cons, List.not_mem_nil, or_false, not_or]; omega)) k))), (fun r k hr => by rw [eBb]; unfold cBk; split; exact zcp_r (fun k => hB0.2 _ k (by omega)) (fun k => hB0.2 _ k (by omega)) k; exact hB0.2 r k hr), rfl, rfl, rfl⟩⟩)
    · skip
      refine ga_aload_n (pc := 27) dX0_again_27 rfl ?_
      refine cc_g_kept (pc := 28) hc dX0_again_28 ?_
      refine ga_getN (pc := 31) (C := RX4) (T := TX4) (N := 5) (v := .int (iI (J 33))) in_X4 rfl (hc.1 5 (by decide)) 1 (by decide) (ga_nt q309 rfl) rfl rfl dX0_again_31 ?_
      refine ga_aload_n (pc := 34) dX0_again_34 rfl ?_
      refine cc_g_now (pc := 35) hc dX0_again_35 ?_
      refine ga_getN (pc := 38) (C := RX4) (T := TX4) (N := 5) (v := .int (iI (J 31))) in_X4 rfl (hc.1 4 (by decide)) 1 (by decide) (ga_nt q309 rfl) rfl rfl dX0_again_38 ?_
      refine ga_icmp_eq (pc := 41) (tgt := 69) dX0_again_41 rfl (by omega) (by omega) (fun c41 => ?_) (fun c41 => ?_)
      · skip
        refine ga_aload_n (pc := 69) dX0_again_69 rfl ?_
        refine cc_g_now (pc := 70) hc dX0_again_70 ?_
        refine ga_aload_n (pc := 73) dX0_again_73 rfl ?_
        refine cc_g_kept (pc := 74) hc dX0_again_74 ?_
        refine k_X4_become_01 (pc := 77) hc ⟨Nat.le_of_ble_eq_true rfl, Nat.le_of_ble_eq_true rfl⟩ ⟨Nat.le_of_ble_eq_true rfl, Nat.le_of_ble_eq_true rfl⟩ (Nat.le_of_ble_eq_true rfl) dX0_again_77 (fun Jb Bb hb h hc => ?_)
        obtain ⟨eJb, eBb⟩ := hb
        rw [eJb] at hc
        clear eJb
        refine ga_aload_n (pc := 80) dX0_again_80 rfl ?_
        refine cc_g_keptEquations (pc := 81) hc dX0_again_81 ?_
        refine ga_iconst (pc := 84) dX0_again_84 ?_
        refine ga_aload_n (pc := 85) dX0_again_85 rfl ?_
        refine cc_g_equations (pc := 86) hc dX0_again_86 ?_
        refine ga_iconst (pc := 89) dX0_again_89 ?_
        refine ga_bipush (pc := 90) dX0_again_90 rfl ?_
        refine ga_copyR (pc := 92) (a0 := ad 26) (a := ad 25) (n0 := 6) (n1 := 6) (C := "TwoSidedTables$Plain") (f := Q 1) (g := Q 0) (zs := 0) (zd := 0) (zn := 6) (hc.1 26 (by decide)) (hc.1 25 (by decide)) (by omega) (by decide) (fun i i0 i1 y hy => by obtain ⟨kd, n, s, hk, hz⟩ := hqe i y i0 (by omega) hy; obtain ⟨q, q1, q2⟩ := plC hk; exact ⟨_, _, q, (hc.2.2 y _ hz).1, q1, q2⟩) q1307 q582 q581 q116 (Nat.le_of_ble_eq_true rfl) (Nat.le_of_ble_eq_true rfl) dX0_again_92 ?_
        replace hc := hc.u (Q1 := uN Q 0 (zcq (Q 1) (Q 0) 0 0 6)) 25 (by decide) (fun r hr hn => cE_q (by decide) r hr hn) (e := aR "TwoSidedTables$Plain" 6 (zcq (Q 1) (Q 0) 0 0 6)) rfl
        generalize ga_u h (ad 25) (aR "TwoSidedTables$Plain" 6 (zcq (Q 1) (Q 0) 0 0 6)) = h at hc ⊢
        refine ga_aload_n (pc := 95) dX0_again_95 rfl ?_
        refine ga_aload_n (pc := 96) dX0_again_96 rfl ?_
        refine cc_g_keptMany (pc := 97) (z := J 9) hc rfl dX0_again_97 ?_
        refine cc_p_many (pc := 100) (J1 := (uN J 8 (J 9))) hc (rfl) dX0_again_100 (fun h hc => ?_)
        refine ga_aload_n (pc := 103) dX0_again_103 rfl ?_
        refine ga_aload_n (pc := 104) dX0_again_104 rfl ?_
        refine cc_g_keptZ (pc := 105) (z := J 11) hc rfl dX0_again_105 ?_
        refine cc_p_z (pc := 108) (J1 := (uN (uN J 8 (J 9)) 10 (J 11))) hc (rfl) dX0_again_108 (fun h hc => ?_)
        refine ga_aload_n (pc := 111) dX0_again_111 rfl ?_
        refine cc_g_many (pc := 112) (z := J 9) hc rfl dX0_again_112 ?_
        exact kc_iret hc hE dX0_again_115 (by omega) (by omega) (⟨_, rfl, by (try dsimp only); refine Or.inr ⟨by omega, ?_⟩; obtain ⟨B0, eB0⟩ : ∃ x, x = B := ⟨_, rfl⟩; rw [← eB0] at eBb; have hB0 : (∀ r : Nat, r ∉ [0, 1, 2] → B0 r = B r) ∧ ∀ (r : Nat) (k : Int), r < 9 → -50 ≤ B0 r k ∧ B0 r k ≤ 50 := (by rw [eB0]; exact ⟨fun _ _ => rfl, heA⟩); exact ⟨by rw [h0, eadO], rfl, rfl, fun k hk => by simp only [List.mem_cons, List.not_mem_nil, or_false, not_or] at hk; simp [uN, hk], by show J 30 = J 32; omega, by show J 31 = J 33; omega, fun r hr => (congrFun eBb r).trans ((cBk_o (a := 0) (b := 1) (by simp only [List.mem_cons, List.not_mem_nil, or_false, not_or] at hr; omega)).trans (hB0.1 r hr)), fun t k ht k0 k1 => (congrFun (congrFun eBb (0 + t)) k).trans ((congrFun (cBk_t (a := 0) (b := 1) ht) k).trans ((zcp_in ⟨k0, k1⟩).trans (congrFun (hB0.1 (3 + t) (by simp only [List.mem_cons, List.not_mem_nil, or_false, not_or]; omega)) k))), (fun r k hr => by rw [eBb]; unfold cBk; split; exact zcp_r (fun k => hB0.2 _ k (by omega)) (fun k => hB0.2 _ k (by omega)) k; exact hB0.2 r k hr), rfl, rfl, rfl⟩⟩)
      · skip
        refine ga_aload_n (pc := 44) dX0_again_44 rfl ?_
        refine ga_new (pc := 45) (ci := 4) (fs := [.int (iI 0), .int (iI 0), .null, .null, .null]) in_X4 tyX4_ok rfl q270 q271 q109 (fun j hj => by rcases j with _ | _ | _ | _ | _ | j <;> first | rfl | omega) (by decide) (by decide) dX0_again_45 (fun q haq => ?_)
        have hcO := hc
        replace hc := hc.none (e := (oE 4 [.int (iI 0), .int (iI 0), .null, .null, .null])) haq
        obtain ⟨hN, ehN⟩ : ∃ x, x = ga_u h q (oE 4 [.int (iI 0), .int (iI 0), .null, .null, .null]) := ⟨_, rfl⟩
        rw [← ehN] at hc ⊢
        refine ga_dup (pc := 48) dX0_again_48 rfl ?_
        refine ga_aload_n (pc := 49) dX0_again_49 rfl ?_
        refine cc_g_kept (pc := 50) hc dX0_again_50 ?_
        refine ga_getN (pc := 53) (C := RX4) (T := TX4) (N := 5) (v := .int (iI (J 32))) in_X4 rfl (hc.1 5 (by decide)) 0 (by decide) (ga_nt q307 rfl) rfl rfl dX0_again_53 ?_
        refine ga_aload_n (pc := 56) dX0_again_56 rfl ?_
        refine cc_g_kept (pc := 57) hc dX0_again_57 ?_
        refine ga_getN (pc := 60) (C := RX4) (T := TX4) (N := 5) (v := .int (iI (J 33))) in_X4 rfl (hc.1 5 (by decide)) 1 (by decide) (ga_nt q309 rfl) rfl rfl dX0_again_60 ?_
        refine ga_goV (pc := 63) (ga_runI (mc := 6) (ms := 39) (m_X4_init_2 _ _ _ q _ _ _ _ _ (J 32) (J 33) (by rw [ehN]; exact ga_us _ _ _)) (lw_meth q277) q109 q460 q276 rfl (show ga_nn' yX4_init_2 2 from (by unfold ga_nn'; decide +kernel)) ⟨rfl, rfl⟩ ⟨by show 3 + 1 ≤ _; exact Nat.le_of_ble_eq_true rfl, by show 8 + (3 + 11) + 64 * 3 ≤ _; exact Nat.le_of_ble_eq_true rfl⟩ ⟨Nat.le_of_ble_eq_true rfl, Nat.le_of_ble_eq_true rfl⟩ (Nat.le_of_ble_eq_true rfl) dX0_again_63 rfl) (fun h1 hp1 => ?_)
        obtain ⟨t0, t1, t2, c0, c1, c2, hp1⟩ := hp1
        rw [ehN] at hp1
        replace hp1 := fOn.f haq hp1
        replace hc := hcO.fr (fun a e z => hp1.1 _ _ z (fun y => y))
        refine ga_put (pc := 66) (C := RX0) (T := TX0) (N := 29) in_X0 tyX0_ok nmX0 rfl (hc.1 0 (by decide)) 3 (by decide) q368 rfl rfl rfl rfl (by show 3 < 29; decide) rfl dX0_again_66 ?_
        refine ga_heq (pc := 69) (h1 := ga_u h1 (ad 0) (cE (adT ad 0 q t0 t1 t2 c0 c1 c2) (uN (uN J 30 (J 32)) 31 (J 33)) (uN (uN (uN B 0 (fun _ => 0)) 1 (fun _ => 0)) 2 (fun _ => 0)) Q 0)) rfl ?_
        replace hc : cOn (ga_u h1 (ad 0) (cE (adT ad 0 q t0 t1 t2 c0 c1 c2) (uN (uN J 30 (J 32)) 31 (J 33)) (uN (uN (uN B 0 (fun _ => 0)) 1 (fun _ => 0)) 2 (fun _ => 0)) Q 0)) (adT ad 0 q t0 t1 t2 c0 c1 c2) (uN (uN J 30 (J 32)) 31 (J 33)) (uN (uN (uN B 0 (fun _ => 0)) 1 (fun _ => 0)) 2 (fun _ => 0)) Q Z := cOn_newT0 hcO hp1
        generalize ga_u h1 (ad 0) (cE (adT ad 0 q t0 t1 t2 c0 c1 c2) (uN (uN J 30 (J 32)) 31 (J 33)) (uN (uN (uN B 0 (fun _ => 0)) 1 (fun _ => 0)) 2 (fun _ => 0)) Q 0) = h at hc ⊢
        refine ga_eq (pc := 69) (L1 := [some (.ref ((adT ad 0 q t0 t1 t2 c0 c1 c2) 0))]) (st1 := []) rfl rfl rfl ?_
        have h0N : (adT ad 0 q t0 t1 t2 c0 c1 c2) 0 = adO 0 := h0
        clear h0
        generalize (adT ad 0 q t0 t1 t2 c0 c1 c2) = ad at hc h0N ⊢
        have h0 := h0N
        refine ga_aload_n (pc := 69) dX0_again_69 rfl ?_
        refine cc_g_now (pc := 70) hc dX0_again_70 ?_
        refine ga_aload_n (pc := 73) dX0_again_73 rfl ?_
        refine cc_g_kept (pc := 74) hc dX0_again_74 ?_
        refine k_X4_become_01 (pc := 77) hc ⟨Nat.le_of_ble_eq_true rfl, Nat.le_of_ble_eq_true rfl⟩ ⟨Nat.le_of_ble_eq_true rfl, Nat.le_of_ble_eq_true rfl⟩ (Nat.le_of_ble_eq_true rfl) dX0_again_77 (fun Jb Bb hb h hc => ?_)
        obtain ⟨eJb, eBb⟩ := hb
        rw [eJb] at hc
        clear eJb
        refine ga_aload_n (pc := 80) dX0_again_80 rfl ?_
        refine cc_g_keptEquations (pc := 81) hc dX0_again_81 ?_
        refine ga_iconst (pc := 84) dX0_again_84 ?_
        refine ga_aload_n (pc := 85) dX0_again_85 rfl ?_
        refine cc_g_equations (pc := 86) hc dX0_again_86 ?_
        refine ga_iconst (pc := 89) dX0_again_89 ?_
        refine ga_bipush (pc := 90) dX0_again_90 rfl ?_
        refine ga_copyR (pc := 92) (a0 := ad 26) (a := ad 25) (n0 := 6) (n1 := 6) (C := "TwoSidedTables$Plain") (f := Q 1) (g := Q 0) (zs := 0) (zd := 0) (zn := 6) (hc.1 26 (by decide)) (hc.1 25 (by decide)) (by omega) (by decide) (fun i i0 i1 y hy => by obtain ⟨kd, n, s, hk, hz⟩ := hqe i y i0 (by omega) hy; obtain ⟨q, q1, q2⟩ := plC hk; exact ⟨_, _, q, (hc.2.2 y _ hz).1, q1, q2⟩) q1307 q582 q581 q116 (Nat.le_of_ble_eq_true rfl) (Nat.le_of_ble_eq_true rfl) dX0_again_92 ?_
        replace hc := hc.u (Q1 := uN Q 0 (zcq (Q 1) (Q 0) 0 0 6)) 25 (by decide) (fun r hr hn => cE_q (by decide) r hr hn) (e := aR "TwoSidedTables$Plain" 6 (zcq (Q 1) (Q 0) 0 0 6)) rfl
        generalize ga_u h (ad 25) (aR "TwoSidedTables$Plain" 6 (zcq (Q 1) (Q 0) 0 0 6)) = h at hc ⊢
        refine ga_aload_n (pc := 95) dX0_again_95 rfl ?_
        refine ga_aload_n (pc := 96) dX0_again_96 rfl ?_
        refine cc_g_keptMany (pc := 97) (z := J 9) hc rfl dX0_again_97 ?_
        refine cc_p_many (pc := 100) (J1 := (uN (uN (uN J 30 (J 32)) 31 (J 33)) 8 (J 9))) hc (rfl) dX0_again_100 (fun h hc => ?_)
        refine ga_aload_n (pc := 103) dX0_again_103 rfl ?_
        refine ga_aload_n (pc := 104) dX0_again_104 rfl ?_
        refine cc_g_keptZ (pc := 105) (z := J 11) hc rfl dX0_again_105 ?_
        refine cc_p_z (pc := 108) (J1 := (uN (uN (uN (uN J 30 (J 32)) 31 (J 33)) 8 (J 9)) 10 (J 11))) hc (rfl) dX0_again_108 (fun h hc => ?_)
        refine ga_aload_n (pc := 111) dX0_again_111 rfl ?_
        refine cc_g_many (pc := 112) (z := J 9) hc rfl dX0_again_112 ?_
        exact kc_iret hc hE dX0_again_115 (by omega) (by omega) (⟨_, rfl, by (try dsimp only); refine Or.inr ⟨by omega, ?_⟩; obtain ⟨B0, eB0⟩ : ∃ x, x = (uN (uN (uN B 0 (fun _ => 0)) 1 (fun _ => 0)) 2 (fun _ => 0)) := ⟨_, rfl⟩; rw [← eB0] at eBb; have hB0 : (∀ r : Nat, r ∉ [0, 1, 2] → B0 r = B r) ∧ ∀ (r : Nat) (k : Int), r < 9 → -50 ≤ B0 r k ∧ B0 r k ≤ 50 := (by rw [eB0]; exact ⟨fun r hr => by simp only [List.mem_cons, List.not_mem_nil, or_false, not_or] at hr; rw [uN_n _ _ hr.2.2, uN_n _ _ hr.2.1, uN_n _ _ hr.1], uN_r (uN_r (uN_r heA))⟩); exact ⟨by rw [h0, eadO], rfl, rfl, fun k hk => by simp only [List.mem_cons, List.not_mem_nil, or_false, not_or] at hk; simp [uN, hk], rfl, rfl, fun r hr => (congrFun eBb r).trans ((cBk_o (a := 0) (b := 1) (by simp only [List.mem_cons, List.not_mem_nil, or_false, not_or] at hr; omega)).trans (hB0.1 r hr)), fun t k ht k0 k1 => (congrFun (congrFun eBb (0 + t)) k).trans ((congrFun (cBk_t (a := 0) (b := 1) ht) k).trans ((zcp_in ⟨k0, k1⟩).trans (congrFun (hB0.1 (3 + t) (by simp only [List.mem_cons, List.not_mem_nil, or_false, not_or]; omega)) k))), (fun r k hr => by rw [eBb]; unfold cBk; split; exact zcp_r (fun k => hB0.2 _ k (by omega)) (fun k => hB0.2 _ k (by omega)) k; exact hB0.2 r k hr), rfl, rfl, rfl⟩⟩)
  · skip
    refine ga_bipush (pc := 7) dX0_again_7 rfl ?_
    exact kc_iret hc hE dX0_again_9 (by omega) (by omega) (⟨_, rfl, by (try dsimp only); exact Or.inl ⟨by omega, rfl, rfl, rfl, rfl, rfl, rfl⟩⟩)
