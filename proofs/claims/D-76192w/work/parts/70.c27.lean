/-! THE CLASS: lots -/
def cFl (t : Int) (s : zLs) : Nat → zLs
  | 0 => s
  | k + 1 => (zLc (cFl t s k).1, uZ (cFl t s k).2 k (zLv t (zLc (cFl t s k).1)))
theorem cFl_s {t k : Int} {s : zLs} (h : 0 ≤ k) : cFl t s (k + 1).toNat = (zLc (cFl t s k.toNat).1, uZ (cFl t s k.toNat).2 k (zLv t (zLc (cFl t s k.toNat).1))) := by
  rw [show (k + 1).toNat = k.toNat + 1 by omega]
  show (zLc (cFl t s k.toNat).1, uZ (cFl t s k.toNat).2 (k.toNat : Nat) (zLv t (zLc (cFl t s k.toNat).1))) = _
  rw [show ((k.toNat : Nat) : Int) = k by omega]
set_option maxHeartbeats 4000000 in
set_option maxRecDepth 100000 in
theorem m_X0_fill_0 (l : Launch) (D : ga_G) (ad : Nat → Nat) (J : Nat → Int) (B : Nat → Int → Int) (Q : Nat → Int → Option Nat) (Z : ga_H)  (hm : (1 ≤ J 30 ∧ J 30 ≤ 3) ∧ 1 ≤ J 31 ∧ J 31 ≤ 3) : cM l D yX0_fill (ws_ yX0_fill cX0_fill 5 none) (gR 0) [.ref (ad 0), .ref (ad 7), .int (iI 11), .int (iI 5)] ad J B Q Z (mV (fun J1 B1 => J1 = (uN J 10 ((cFl 0 (J 10, B 0) (J 30 * J 30).toNat).1)) ∧ B1 = (uN B 0 ((cFl 0 (J 10, B 0) (J 30 * J 30).toNat).2)))) := by
  refine cc_met (own := RX0) 1 (by decide) rfl (Nat.le_of_ble_eq_true rfl) (L0 := [some (.ref (ad 0)), some (.ref (ad 7)), some (.int (iI 11)), some (.int (iI 5)), none]) rfl (fun X h hc hE => ?_)
  obtain ⟨mm, hmm⟩ : ∃ x, x = (J 30 * J 30) := ⟨_, rfl⟩
  have hmr := mn_r (m := J 30) (n := J 30) ⟨hm.1, hm.1⟩
  rw [← hmm] at hmr
  refine ga_iconst (pc := 0) dX0_fill_0 ?_
  refine ga_istore (pc := 1) (L1 := [some (.ref (ad 0)), some (.ref (ad 7)), some (.int (iI 11)), some (.int (iI 5)), some (.int (iI 0))]) dX0_fill_1 rfl (by decide) rfl ?_
  replace hc : cOn h ad (uN J 10 (J 10)) (uN B 0 (B 0)) Q Z := hc.eq (by funext j; by_cases e0 : j = 10; (subst e0; exact (show (J 10) = (J 10) from rfl)); simp only [uN, if_neg e0]) (by funext j; by_cases e0 : j = 0; (subst e0; exact (show (B 0) = (B 0) from rfl)); simp only [uN, if_neg e0]) rfl
  have lp3 : ∀ (N3 : Nat) (k z : Int) (f : Int → Int), ∀ h : ga_H, cOn h ad (uN J 10 z) (uN B 0 f) Q Z → (0 ≤ k ∧ k ≤ mm) → (z = (cFl 0 (J 10, B 0) (Int.toNat k)).1 ∧ f = (cFl 0 (J 10, B 0) (Int.toNat k)).2) → (mm - k).toNat < N3 → G X (gR 0) RX0 5 cX0_fill h 0 0 3 [some (.ref (ad 0)), some (.ref (ad 7)), some (.int (iI 11)), some (.int (iI 5)), some (.int (iI k))] [] := by
    intro N3
    induction N3 with
    | zero => intro k z f h hc hk hs hN3; exact absurd hN3 (Nat.not_lt_zero _)
    | succ N3 ih3 =>
      intro k z f h hc hk hs hN3
      refine ga_iload (pc := 3) dX0_fill_3 rfl ?_
      refine ga_aload_n (pc := 5) dX0_fill_5 rfl ?_
      refine ga_getN (pc := 6) (C := RX5) (T := TX5) (N := 4) (v := .int (iI (J 30))) in_X5 rfl (hc.1 7 (by decide)) 0 (by decide) (ga_nt q289 rfl) rfl rfl dX0_fill_6 ?_
      refine ga_aload_n (pc := 9) dX0_fill_9 rfl ?_
      refine ga_getN (pc := 10) (C := RX5) (T := TX5) (N := 4) (v := .int (iI (J 30))) in_X5 rfl (hc.1 7 (by decide)) 1 (by decide) (ga_nt q291 rfl) rfl rfl dX0_fill_10 ?_
      refine ga_imul (pc := 13) dX0_fill_13 ?_
      refine ga_topi (pc := 14) (b := mm) (hmm.symm) ?_
      refine ga_icmp_ge (pc := 14) (tgt := 58) dX0_fill_14 rfl (by omega) (by omega) (fun c14 => ?_) (fun c14 => ?_)
      · skip
        exact cc_vret hc hE dX0_fill_58 (⟨rfl, by funext j; by_cases e0 : j = 10; (subst e0; exact (show z = ((cFl 0 (J 10, B 0) (J 30 * J 30).toNat).1) from by rw [← hmm, show mm = k by omega]; exact hs.1)); simp only [uN, if_neg e0], by funext j; by_cases e0 : j = 0; (subst e0; exact (show f = ((cFl 0 (J 10, B 0) (J 30 * J 30).toNat).2) from by rw [← hmm, show mm = k by omega]; exact hs.2)); simp only [uN, if_neg e0]⟩)
      · skip
        refine ga_aload_n (pc := 17) dX0_fill_17 rfl ?_
        refine ga_aload_n (pc := 18) dX0_fill_18 rfl ?_
        refine cc_g_z (pc := 19) (z := z) hc rfl dX0_fill_19 ?_
        refine ga_ldcw (pc := 22) (1103515245) dX0_fill_22 q1194 rfl ?_
        refine ga_imul (pc := 25) dX0_fill_25 ?_
        refine ga_sipush (pc := 26) dX0_fill_26 rfl ?_
        refine ga_iadd (pc := 29) dX0_fill_29 ?_
        refine ga_wi (pc := 30) (b := zLc z) (iI_m _) ?_
        refine cc_p_z (pc := 30) (J1 := (uN J 10 (zLc z))) hc (by funext j; by_cases e0 : j = 10; (subst e0; rfl); simp only [uN, if_neg e0]) dX0_fill_30 (fun h hc => ?_)
        refine ga_aload_n (pc := 33) dX0_fill_33 rfl ?_
        refine ga_getN (pc := 34) (C := RX5) (T := TX5) (N := 4) (v := .ref (ad 16)) in_X5 rfl (hc.1 7 (by decide)) 3 (by decide) (ga_nt q294 rfl) rfl rfl dX0_fill_34 ?_
        refine ga_iload (pc := 37) dX0_fill_37 rfl ?_
        refine ga_aload_n (pc := 39) dX0_fill_39 rfl ?_
        refine cc_g_z (pc := 40) (z := zLc z) hc rfl dX0_fill_40 ?_
        refine ga_bipush (pc := 43) dX0_fill_43 rfl ?_
        refine ga_iushr (pc := 45) dX0_fill_45 ?_
        have hus := zushr_16 (zLc z)
        refine ga_iload_n (pc := 46) dX0_fill_46 rfl ?_
        refine ga_irem (pc := 47) dX0_fill_47 (by omega) (by omega) (by omega) ?_
        refine ga_iload_n (pc := 48) dX0_fill_48 rfl ?_
        refine ga_isub (pc := 49) dX0_fill_49 ?_
        have htm : 0 ≤ (zushr (zLc z) 16).tmod 11 ∧ (zushr (zLc z) 16).tmod 11 < 11 := by rw [Int.tmod_eq_emod_of_nonneg hus.1]; omega
        refine ga_i2l (pc := 50) dX0_fill_50 (by omega) ?_
        refine cc_ast0 (pc := 51) (B1 := (uN B 0 (uZ f k (((zushr (zLc z) 16).tmod 11) - 5)))) hc (by omega) (by funext j; by_cases e0 : j = 0; (subst e0; rfl); simp only [uN, if_neg e0]) dX0_fill_51 (fun h hc => ?_)
        refine ga_iinc (pc := 52) (L1 := [some (.ref (ad 0)), some (.ref (ad 7)), some (.int (iI 11)), some (.int (iI 5)), some (.int (iI (k + 1)))]) dX0_fill_52 rfl rfl (by decide) rfl ?_
        refine ga_goto (pc := 55) (tgt := 3) dX0_fill_55 rfl ?_
        exact ih3 (k + 1) (zLc z) (uZ f k (((zushr (zLc z) 16).tmod 11) - 5)) h hc (by omega) (by rw [cFl_s hk.1, ← hs.1, ← hs.2]; exact ⟨rfl, by unfold zLv; rw [if_neg (by decide)]⟩) (by omega)
  exact lp3 _ 0 (J 10) (B 0) h hc (by omega) (⟨rfl, rfl⟩) (Nat.lt_succ_self _)
theorem k_X0_fill_0 {X : ga_X} {R : Room} {nL : Nat} {cc : ByteArray} {h : ga_H} {ad : Nat → Nat} {J : Nat → Int} {B : Nat → Int → Int} {Q : Nat → Int → Option Nat} {Z : ga_H} {k n pc : Nat} {L : List (Option Value)} {st : List Value}   {J2 : Nat → Int} {B2 : Nat → Int → Int} (hc : cOn h ad J B Q Z) (hm : (1 ≤ J 30 ∧ J 30 ≤ 3) ∧ 1 ≤ J 31 ∧ J 31 ≤ 3)  (hJ2 : (uN J 10 ((cFl 0 (J 10, B 0) (J 30 * J 30).toNat).1)) = J2) (hB2 : (uN B 0 ((cFl 0 (J 10, B 0) (J 30 * J 30).toNat).2)) = B2) (hR : 0 + 1 ≤ R.frames ∧ 19 + 5 + 64 * 0 ≤ R.locals) (hk : k ≤ R.cells ∧ n ≤ R.slots) (hs : (st.map fun v => v.category).sum ≤ 8) (dd : decode cc pc = .ok (.invokevirtual 506, 3)) (kk : ∀ h : ga_H, cOn h ad J2 B2 Q Z → G X R RX0 nL cc h k n (pc + 3) L st) : G X R RX0 nL cc h k n pc L (.int (iI 5) :: .int (iI 11) :: .ref (ad 7) :: .ref (ad 0) :: st) :=
  cc_run hc (m_X0_fill_0 _ _ ad J B Q Z  hm) (lw_V q1190 q1192 qs42 q102 q1193) rfl (show ga_nn' yX0_fill 3 from (by unfold ga_nn'; decide +kernel)) hR hk hs dd rfl (fun v hX J1 B1 hcX hp => by
    obtain ⟨rfl, hp⟩ := hp
    obtain ⟨rfl, rfl⟩ := hp
    subst hJ2
    subst hB2
    exact kk hX hcX)
set_option maxHeartbeats 4000000 in
set_option maxRecDepth 100000 in
theorem m_X0_fill_1 (l : Launch) (D : ga_G) (ad : Nat → Nat) (J : Nat → Int) (B : Nat → Int → Int) (Q : Nat → Int → Option Nat) (Z : ga_H)  (hm : (1 ≤ J 30 ∧ J 30 ≤ 3) ∧ 1 ≤ J 31 ∧ J 31 ≤ 3) : cM l D yX0_fill (ws_ yX0_fill cX0_fill 5 none) (gR 0) [.ref (ad 0), .ref (ad 8), .int (iI 11), .int (iI 5)] ad J B Q Z (mV (fun J1 B1 => J1 = (uN J 10 ((cFl 1 (J 10, B 1) (J 31 * J 31).toNat).1)) ∧ B1 = (uN B 1 ((cFl 1 (J 10, B 1) (J 31 * J 31).toNat).2)))) := by
  refine cc_met (own := RX0) 1 (by decide) rfl (Nat.le_of_ble_eq_true rfl) (L0 := [some (.ref (ad 0)), some (.ref (ad 8)), some (.int (iI 11)), some (.int (iI 5)), none]) rfl (fun X h hc hE => ?_)
  obtain ⟨mm, hmm⟩ : ∃ x, x = (J 31 * J 31) := ⟨_, rfl⟩
  have hmr := mn_r (m := J 31) (n := J 31) ⟨hm.2, hm.2⟩
  rw [← hmm] at hmr
  refine ga_iconst (pc := 0) dX0_fill_0 ?_
  refine ga_istore (pc := 1) (L1 := [some (.ref (ad 0)), some (.ref (ad 8)), some (.int (iI 11)), some (.int (iI 5)), some (.int (iI 0))]) dX0_fill_1 rfl (by decide) rfl ?_
  replace hc : cOn h ad (uN J 10 (J 10)) (uN B 1 (B 1)) Q Z := hc.eq (by funext j; by_cases e0 : j = 10; (subst e0; exact (show (J 10) = (J 10) from rfl)); simp only [uN, if_neg e0]) (by funext j; by_cases e0 : j = 1; (subst e0; exact (show (B 1) = (B 1) from rfl)); simp only [uN, if_neg e0]) rfl
  have lp3 : ∀ (N3 : Nat) (k z : Int) (f : Int → Int), ∀ h : ga_H, cOn h ad (uN J 10 z) (uN B 1 f) Q Z → (0 ≤ k ∧ k ≤ mm) → (z = (cFl 1 (J 10, B 1) (Int.toNat k)).1 ∧ f = (cFl 1 (J 10, B 1) (Int.toNat k)).2) → (mm - k).toNat < N3 → G X (gR 0) RX0 5 cX0_fill h 0 0 3 [some (.ref (ad 0)), some (.ref (ad 8)), some (.int (iI 11)), some (.int (iI 5)), some (.int (iI k))] [] := by
    intro N3
    induction N3 with
    | zero => intro k z f h hc hk hs hN3; exact absurd hN3 (Nat.not_lt_zero _)
    | succ N3 ih3 =>
      intro k z f h hc hk hs hN3
      refine ga_iload (pc := 3) dX0_fill_3 rfl ?_
      refine ga_aload_n (pc := 5) dX0_fill_5 rfl ?_
      refine ga_getN (pc := 6) (C := RX5) (T := TX5) (N := 4) (v := .int (iI (J 31))) in_X5 rfl (hc.1 8 (by decide)) 0 (by decide) (ga_nt q289 rfl) rfl rfl dX0_fill_6 ?_
      refine ga_aload_n (pc := 9) dX0_fill_9 rfl ?_
      refine ga_getN (pc := 10) (C := RX5) (T := TX5) (N := 4) (v := .int (iI (J 31))) in_X5 rfl (hc.1 8 (by decide)) 1 (by decide) (ga_nt q291 rfl) rfl rfl dX0_fill_10 ?_
      refine ga_imul (pc := 13) dX0_fill_13 ?_
      refine ga_topi (pc := 14) (b := mm) (hmm.symm) ?_
      refine ga_icmp_ge (pc := 14) (tgt := 58) dX0_fill_14 rfl (by omega) (by omega) (fun c14 => ?_) (fun c14 => ?_)
      · skip
        exact cc_vret hc hE dX0_fill_58 (⟨rfl, by funext j; by_cases e0 : j = 10; (subst e0; exact (show z = ((cFl 1 (J 10, B 1) (J 31 * J 31).toNat).1) from by rw [← hmm, show mm = k by omega]; exact hs.1)); simp only [uN, if_neg e0], by funext j; by_cases e0 : j = 1; (subst e0; exact (show f = ((cFl 1 (J 10, B 1) (J 31 * J 31).toNat).2) from by rw [← hmm, show mm = k by omega]; exact hs.2)); simp only [uN, if_neg e0]⟩)
      · skip
        refine ga_aload_n (pc := 17) dX0_fill_17 rfl ?_
        refine ga_aload_n (pc := 18) dX0_fill_18 rfl ?_
        refine cc_g_z (pc := 19) (z := z) hc rfl dX0_fill_19 ?_
        refine ga_ldcw (pc := 22) (1103515245) dX0_fill_22 q1194 rfl ?_
        refine ga_imul (pc := 25) dX0_fill_25 ?_
        refine ga_sipush (pc := 26) dX0_fill_26 rfl ?_
        refine ga_iadd (pc := 29) dX0_fill_29 ?_
        refine ga_wi (pc := 30) (b := zLc z) (iI_m _) ?_
        refine cc_p_z (pc := 30) (J1 := (uN J 10 (zLc z))) hc (by funext j; by_cases e0 : j = 10; (subst e0; rfl); simp only [uN, if_neg e0]) dX0_fill_30 (fun h hc => ?_)
        refine ga_aload_n (pc := 33) dX0_fill_33 rfl ?_
        refine ga_getN (pc := 34) (C := RX5) (T := TX5) (N := 4) (v := .ref (ad 17)) in_X5 rfl (hc.1 8 (by decide)) 3 (by decide) (ga_nt q294 rfl) rfl rfl dX0_fill_34 ?_
        refine ga_iload (pc := 37) dX0_fill_37 rfl ?_
        refine ga_aload_n (pc := 39) dX0_fill_39 rfl ?_
        refine cc_g_z (pc := 40) (z := zLc z) hc rfl dX0_fill_40 ?_
        refine ga_bipush (pc := 43) dX0_fill_43 rfl ?_
        refine ga_iushr (pc := 45) dX0_fill_45 ?_
        have hus := zushr_16 (zLc z)
        refine ga_iload_n (pc := 46) dX0_fill_46 rfl ?_
        refine ga_irem (pc := 47) dX0_fill_47 (by omega) (by omega) (by omega) ?_
        refine ga_iload_n (pc := 48) dX0_fill_48 rfl ?_
        refine ga_isub (pc := 49) dX0_fill_49 ?_
        have htm : 0 ≤ (zushr (zLc z) 16).tmod 11 ∧ (zushr (zLc z) 16).tmod 11 < 11 := by rw [Int.tmod_eq_emod_of_nonneg hus.1]; omega
        refine ga_i2l (pc := 50) dX0_fill_50 (by omega) ?_
        refine cc_ast1 (pc := 51) (B1 := (uN B 1 (uZ f k (((zushr (zLc z) 16).tmod 11) - 5)))) hc (by omega) (by funext j; by_cases e0 : j = 1; (subst e0; rfl); simp only [uN, if_neg e0]) dX0_fill_51 (fun h hc => ?_)
        refine ga_iinc (pc := 52) (L1 := [some (.ref (ad 0)), some (.ref (ad 8)), some (.int (iI 11)), some (.int (iI 5)), some (.int (iI (k + 1)))]) dX0_fill_52 rfl rfl (by decide) rfl ?_
        refine ga_goto (pc := 55) (tgt := 3) dX0_fill_55 rfl ?_
        exact ih3 (k + 1) (zLc z) (uZ f k (((zushr (zLc z) 16).tmod 11) - 5)) h hc (by omega) (by rw [cFl_s hk.1, ← hs.1, ← hs.2]; exact ⟨rfl, by unfold zLv; rw [if_neg (by decide)]⟩) (by omega)
  exact lp3 _ 0 (J 10) (B 1) h hc (by omega) (⟨rfl, rfl⟩) (Nat.lt_succ_self _)
theorem k_X0_fill_1 {X : ga_X} {R : Room} {nL : Nat} {cc : ByteArray} {h : ga_H} {ad : Nat → Nat} {J : Nat → Int} {B : Nat → Int → Int} {Q : Nat → Int → Option Nat} {Z : ga_H} {k n pc : Nat} {L : List (Option Value)} {st : List Value}   {J2 : Nat → Int} {B2 : Nat → Int → Int} (hc : cOn h ad J B Q Z) (hm : (1 ≤ J 30 ∧ J 30 ≤ 3) ∧ 1 ≤ J 31 ∧ J 31 ≤ 3)  (hJ2 : (uN J 10 ((cFl 1 (J 10, B 1) (J 31 * J 31).toNat).1)) = J2) (hB2 : (uN B 1 ((cFl 1 (J 10, B 1) (J 31 * J 31).toNat).2)) = B2) (hR : 0 + 1 ≤ R.frames ∧ 19 + 5 + 64 * 0 ≤ R.locals) (hk : k ≤ R.cells ∧ n ≤ R.slots) (hs : (st.map fun v => v.category).sum ≤ 8) (dd : decode cc pc = .ok (.invokevirtual 506, 3)) (kk : ∀ h : ga_H, cOn h ad J2 B2 Q Z → G X R RX0 nL cc h k n (pc + 3) L st) : G X R RX0 nL cc h k n pc L (.int (iI 5) :: .int (iI 11) :: .ref (ad 8) :: .ref (ad 0) :: st) :=
  cc_run hc (m_X0_fill_1 _ _ ad J B Q Z  hm) (lw_V q1190 q1192 qs42 q102 q1193) rfl (show ga_nn' yX0_fill 3 from (by unfold ga_nn'; decide +kernel)) hR hk hs dd rfl (fun v hX J1 B1 hcX hp => by
    obtain ⟨rfl, hp⟩ := hp
    obtain ⟨rfl, rfl⟩ := hp
    subst hJ2
    subst hB2
    exact kk hX hcX)
set_option maxHeartbeats 4000000 in
set_option maxRecDepth 100000 in
theorem m_X0_fill_2 (l : Launch) (D : ga_G) (ad : Nat → Nat) (J : Nat → Int) (B : Nat → Int → Int) (Q : Nat → Int → Option Nat) (Z : ga_H)  (hm : (1 ≤ J 30 ∧ J 30 ≤ 3) ∧ 1 ≤ J 31 ∧ J 31 ≤ 3) : cM l D yX0_fill (ws_ yX0_fill cX0_fill 5 none) (gR 0) [.ref (ad 0), .ref (ad 9), .int (iI 101), .int (iI 50)] ad J B Q Z (mV (fun J1 B1 => J1 = (uN J 10 ((cFl 2 (J 10, B 2) (J 30 * J 31).toNat).1)) ∧ B1 = (uN B 2 ((cFl 2 (J 10, B 2) (J 30 * J 31).toNat).2)))) := by
  refine cc_met (own := RX0) 1 (by decide) rfl (Nat.le_of_ble_eq_true rfl) (L0 := [some (.ref (ad 0)), some (.ref (ad 9)), some (.int (iI 101)), some (.int (iI 50)), none]) rfl (fun X h hc hE => ?_)
  obtain ⟨mm, hmm⟩ : ∃ x, x = (J 30 * J 31) := ⟨_, rfl⟩
  have hmr := mn_r hm
  rw [← hmm] at hmr
  refine ga_iconst (pc := 0) dX0_fill_0 ?_
  refine ga_istore (pc := 1) (L1 := [some (.ref (ad 0)), some (.ref (ad 9)), some (.int (iI 101)), some (.int (iI 50)), some (.int (iI 0))]) dX0_fill_1 rfl (by decide) rfl ?_
  replace hc : cOn h ad (uN J 10 (J 10)) (uN B 2 (B 2)) Q Z := hc.eq (by funext j; by_cases e0 : j = 10; (subst e0; exact (show (J 10) = (J 10) from rfl)); simp only [uN, if_neg e0]) (by funext j; by_cases e0 : j = 2; (subst e0; exact (show (B 2) = (B 2) from rfl)); simp only [uN, if_neg e0]) rfl
  have lp3 : ∀ (N3 : Nat) (k z : Int) (f : Int → Int), ∀ h : ga_H, cOn h ad (uN J 10 z) (uN B 2 f) Q Z → (0 ≤ k ∧ k ≤ mm) → (z = (cFl 2 (J 10, B 2) (Int.toNat k)).1 ∧ f = (cFl 2 (J 10, B 2) (Int.toNat k)).2) → (mm - k).toNat < N3 → G X (gR 0) RX0 5 cX0_fill h 0 0 3 [some (.ref (ad 0)), some (.ref (ad 9)), some (.int (iI 101)), some (.int (iI 50)), some (.int (iI k))] [] := by
    intro N3
    induction N3 with
    | zero => intro k z f h hc hk hs hN3; exact absurd hN3 (Nat.not_lt_zero _)
    | succ N3 ih3 =>
      intro k z f h hc hk hs hN3
      refine ga_iload (pc := 3) dX0_fill_3 rfl ?_
      refine ga_aload_n (pc := 5) dX0_fill_5 rfl ?_
      refine ga_getN (pc := 6) (C := RX5) (T := TX5) (N := 4) (v := .int (iI (J 30))) in_X5 rfl (hc.1 9 (by decide)) 0 (by decide) (ga_nt q289 rfl) rfl rfl dX0_fill_6 ?_
      refine ga_aload_n (pc := 9) dX0_fill_9 rfl ?_
      refine ga_getN (pc := 10) (C := RX5) (T := TX5) (N := 4) (v := .int (iI (J 31))) in_X5 rfl (hc.1 9 (by decide)) 1 (by decide) (ga_nt q291 rfl) rfl rfl dX0_fill_10 ?_
      refine ga_imul (pc := 13) dX0_fill_13 ?_
      refine ga_topi (pc := 14) (b := mm) (hmm.symm) ?_
      refine ga_icmp_ge (pc := 14) (tgt := 58) dX0_fill_14 rfl (by omega) (by omega) (fun c14 => ?_) (fun c14 => ?_)
      · skip
        exact cc_vret hc hE dX0_fill_58 (⟨rfl, by funext j; by_cases e0 : j = 10; (subst e0; exact (show z = ((cFl 2 (J 10, B 2) (J 30 * J 31).toNat).1) from by rw [← hmm, show mm = k by omega]; exact hs.1)); simp only [uN, if_neg e0], by funext j; by_cases e0 : j = 2; (subst e0; exact (show f = ((cFl 2 (J 10, B 2) (J 30 * J 31).toNat).2) from by rw [← hmm, show mm = k by omega]; exact hs.2)); simp only [uN, if_neg e0]⟩)
      · skip
        refine ga_aload_n (pc := 17) dX0_fill_17 rfl ?_
        refine ga_aload_n (pc := 18) dX0_fill_18 rfl ?_
        refine cc_g_z (pc := 19) (z := z) hc rfl dX0_fill_19 ?_
        refine ga_ldcw (pc := 22) (1103515245) dX0_fill_22 q1194 rfl ?_
        refine ga_imul (pc := 25) dX0_fill_25 ?_
        refine ga_sipush (pc := 26) dX0_fill_26 rfl ?_
        refine ga_iadd (pc := 29) dX0_fill_29 ?_
        refine ga_wi (pc := 30) (b := zLc z) (iI_m _) ?_
        refine cc_p_z (pc := 30) (J1 := (uN J 10 (zLc z))) hc (by funext j; by_cases e0 : j = 10; (subst e0; rfl); simp only [uN, if_neg e0]) dX0_fill_30 (fun h hc => ?_)
        refine ga_aload_n (pc := 33) dX0_fill_33 rfl ?_
        refine ga_getN (pc := 34) (C := RX5) (T := TX5) (N := 4) (v := .ref (ad 18)) in_X5 rfl (hc.1 9 (by decide)) 3 (by decide) (ga_nt q294 rfl) rfl rfl dX0_fill_34 ?_
        refine ga_iload (pc := 37) dX0_fill_37 rfl ?_
        refine ga_aload_n (pc := 39) dX0_fill_39 rfl ?_
        refine cc_g_z (pc := 40) (z := zLc z) hc rfl dX0_fill_40 ?_
        refine ga_bipush (pc := 43) dX0_fill_43 rfl ?_
        refine ga_iushr (pc := 45) dX0_fill_45 ?_
        have hus := zushr_16 (zLc z)
        refine ga_iload_n (pc := 46) dX0_fill_46 rfl ?_
        refine ga_irem (pc := 47) dX0_fill_47 (by omega) (by omega) (by omega) ?_
        refine ga_iload_n (pc := 48) dX0_fill_48 rfl ?_
        refine ga_isub (pc := 49) dX0_fill_49 ?_
        have htm : 0 ≤ (zushr (zLc z) 16).tmod 101 ∧ (zushr (zLc z) 16).tmod 101 < 101 := by rw [Int.tmod_eq_emod_of_nonneg hus.1]; omega
        refine ga_i2l (pc := 50) dX0_fill_50 (by omega) ?_
        refine cc_ast2 (pc := 51) (B1 := (uN B 2 (uZ f k (((zushr (zLc z) 16).tmod 101) - 50)))) hc (by omega) (by funext j; by_cases e0 : j = 2; (subst e0; rfl); simp only [uN, if_neg e0]) dX0_fill_51 (fun h hc => ?_)
        refine ga_iinc (pc := 52) (L1 := [some (.ref (ad 0)), some (.ref (ad 9)), some (.int (iI 101)), some (.int (iI 50)), some (.int (iI (k + 1)))]) dX0_fill_52 rfl rfl (by decide) rfl ?_
        refine ga_goto (pc := 55) (tgt := 3) dX0_fill_55 rfl ?_
        exact ih3 (k + 1) (zLc z) (uZ f k (((zushr (zLc z) 16).tmod 101) - 50)) h hc (by omega) (by rw [cFl_s hk.1, ← hs.1, ← hs.2]; exact ⟨rfl, by unfold zLv; rw [if_pos rfl]⟩) (by omega)
  exact lp3 _ 0 (J 10) (B 2) h hc (by omega) (⟨rfl, rfl⟩) (Nat.lt_succ_self _)
theorem k_X0_fill_2 {X : ga_X} {R : Room} {nL : Nat} {cc : ByteArray} {h : ga_H} {ad : Nat → Nat} {J : Nat → Int} {B : Nat → Int → Int} {Q : Nat → Int → Option Nat} {Z : ga_H} {k n pc : Nat} {L : List (Option Value)} {st : List Value}   {J2 : Nat → Int} {B2 : Nat → Int → Int} (hc : cOn h ad J B Q Z) (hm : (1 ≤ J 30 ∧ J 30 ≤ 3) ∧ 1 ≤ J 31 ∧ J 31 ≤ 3)  (hJ2 : (uN J 10 ((cFl 2 (J 10, B 2) (J 30 * J 31).toNat).1)) = J2) (hB2 : (uN B 2 ((cFl 2 (J 10, B 2) (J 30 * J 31).toNat).2)) = B2) (hR : 0 + 1 ≤ R.frames ∧ 19 + 5 + 64 * 0 ≤ R.locals) (hk : k ≤ R.cells ∧ n ≤ R.slots) (hs : (st.map fun v => v.category).sum ≤ 8) (dd : decode cc pc = .ok (.invokevirtual 506, 3)) (kk : ∀ h : ga_H, cOn h ad J2 B2 Q Z → G X R RX0 nL cc h k n (pc + 3) L st) : G X R RX0 nL cc h k n pc L (.int (iI 50) :: .int (iI 101) :: .ref (ad 9) :: .ref (ad 0) :: st) :=
  cc_run hc (m_X0_fill_2 _ _ ad J B Q Z  hm) (lw_V q1190 q1192 qs42 q102 q1193) rfl (show ga_nn' yX0_fill 3 from (by unfold ga_nn'; decide +kernel)) hR hk hs dd rfl (fun v hX J1 B1 hcX hp => by
    obtain ⟨rfl, hp⟩ := hp
    obtain ⟨rfl, rfl⟩ := hp
    subst hJ2
    subst hB2
    exact kk hX hcX)
set_option maxHeartbeats 4000000 in
set_option maxRecDepth 100000 in
theorem m_X0_byLot (l : Launch) (D : ga_G) (ad : Nat → Nat) (J : Nat → Int) (B : Nat → Int → Int) (Q : Nat → Int → Option Nat) (Z : ga_H)  (hm : (1 ≤ J 30 ∧ J 30 ≤ 3) ∧ 1 ≤ J 31 ∧ J 31 ≤ 3) : cM l D yX0_byLot (ws_ yX0_byLot cX0_byLot 1 none) (gR 1) [.ref (ad 0)] ad J B Q Z (mV (fun J1 B1 => J1 = (uN J 10 ((cFl 2 ((cFl 1 ((cFl 0 (J 10, B 0) (J 30 * J 30).toNat).1, B 1) (J 31 * J 31).toNat).1, B 2) (J 30 * J 31).toNat).1)) ∧ B1 = (uN (uN (uN B 0 ((cFl 0 (J 10, B 0) (J 30 * J 30).toNat).2)) 1 ((cFl 1 ((cFl 0 (J 10, B 0) (J 30 * J 30).toNat).1, B 1) (J 31 * J 31).toNat).2)) 2 ((cFl 2 ((cFl 1 ((cFl 0 (J 10, B 0) (J 30 * J 30).toNat).1, B 1) (J 31 * J 31).toNat).1, B 2) (J 30 * J 31).toNat).2)))) := by
  refine cc_met (own := RX0) 0 (by decide) rfl (Nat.le_of_ble_eq_true rfl) (L0 := [some (.ref (ad 0))]) rfl (fun X h hc hE => ?_)
  refine ga_aload_n (pc := 0) dX0_byLot_0 rfl ?_
  refine ga_aload_n (pc := 1) dX0_byLot_1 rfl ?_
  refine cc_g_now (pc := 2) hc dX0_byLot_2 ?_
  refine ga_getN (pc := 5) (C := RX4) (T := TX4) (N := 5) (v := .ref (ad 7)) in_X4 rfl (hc.1 4 (by decide)) 2 (by decide) (ga_nt q313 rfl) rfl rfl dX0_byLot_5 ?_
  refine ga_bipush (pc := 8) dX0_byLot_8 rfl ?_
  refine ga_iconst (pc := 10) dX0_byLot_10 ?_
  refine k_X0_fill_0 (pc := 11)  (J2 := (uN J 10 ((cFl 0 (J 10, B 0) (J 30 * J 30).toNat).1))) (B2 := (uN B 0 ((cFl 0 (J 10, B 0) (J 30 * J 30).toNat).2))) hc (by first | exact hm | omega) (rfl) (rfl) ⟨Nat.le_of_ble_eq_true rfl, Nat.le_of_ble_eq_true rfl⟩ ⟨Nat.le_of_ble_eq_true rfl, Nat.le_of_ble_eq_true rfl⟩ (Nat.le_of_ble_eq_true rfl) dX0_byLot_11 (fun h hc => ?_)
  refine ga_aload_n (pc := 14) dX0_byLot_14 rfl ?_
  refine ga_aload_n (pc := 15) dX0_byLot_15 rfl ?_
  refine cc_g_now (pc := 16) hc dX0_byLot_16 ?_
  refine ga_getN (pc := 19) (C := RX4) (T := TX4) (N := 5) (v := .ref (ad 8)) in_X4 rfl (hc.1 4 (by decide)) 3 (by decide) (ga_nt q316 rfl) rfl rfl dX0_byLot_19 ?_
  refine ga_bipush (pc := 22) dX0_byLot_22 rfl ?_
  refine ga_iconst (pc := 24) dX0_byLot_24 ?_
  refine k_X0_fill_1 (pc := 25)  (J2 := (uN J 10 ((cFl 1 (((cFl 0 (J 10, B 0) (J 30 * J 30).toNat).1), (B 1)) ((J 31) * (J 31)).toNat).1))) (B2 := (uN (uN B 0 ((cFl 0 (J 10, B 0) (J 30 * J 30).toNat).2)) 1 ((cFl 1 (((cFl 0 (J 10, B 0) (J 30 * J 30).toNat).1), (B 1)) ((J 31) * (J 31)).toNat).2))) hc (show (1 ≤ (J 30) ∧ (J 30) ≤ 3) ∧ 1 ≤ (J 31) ∧ (J 31) ≤ 3 from by first | exact hm | omega) (by funext j; by_cases e0 : j = 10; (subst e0; rfl); simp only [uN, if_neg e0]) (rfl) ⟨Nat.le_of_ble_eq_true rfl, Nat.le_of_ble_eq_true rfl⟩ ⟨Nat.le_of_ble_eq_true rfl, Nat.le_of_ble_eq_true rfl⟩ (Nat.le_of_ble_eq_true rfl) dX0_byLot_25 (fun h hc => ?_)
  refine ga_aload_n (pc := 28) dX0_byLot_28 rfl ?_
  refine ga_aload_n (pc := 29) dX0_byLot_29 rfl ?_
  refine cc_g_now (pc := 30) hc dX0_byLot_30 ?_
  refine ga_getN (pc := 33) (C := RX4) (T := TX4) (N := 5) (v := .ref (ad 9)) in_X4 rfl (hc.1 4 (by decide)) 4 (by decide) (ga_nt q318 rfl) rfl rfl dX0_byLot_33 ?_
  refine ga_bipush (pc := 36) dX0_byLot_36 rfl ?_
  refine ga_bipush (pc := 38) dX0_byLot_38 rfl ?_
  refine k_X0_fill_2 (pc := 40)  (J2 := (uN J 10 ((cFl 2 (((cFl 1 (((cFl 0 (J 10, B 0) (J 30 * J 30).toNat).1), (B 1)) ((J 31) * (J 31)).toNat).1), (B 2)) ((J 30) * (J 31)).toNat).1))) (B2 := (uN (uN (uN B 0 ((cFl 0 (J 10, B 0) (J 30 * J 30).toNat).2)) 1 ((cFl 1 (((cFl 0 (J 10, B 0) (J 30 * J 30).toNat).1), (B 1)) ((J 31) * (J 31)).toNat).2)) 2 ((cFl 2 (((cFl 1 (((cFl 0 (J 10, B 0) (J 30 * J 30).toNat).1), (B 1)) ((J 31) * (J 31)).toNat).1), (B 2)) ((J 30) * (J 31)).toNat).2))) hc (show (1 ≤ (J 30) ∧ (J 30) ≤ 3) ∧ 1 ≤ (J 31) ∧ (J 31) ≤ 3 from by first | exact hm | omega) (by funext j; by_cases e0 : j = 10; (subst e0; rfl); simp only [uN, if_neg e0]) (rfl) ⟨Nat.le_of_ble_eq_true rfl, Nat.le_of_ble_eq_true rfl⟩ ⟨Nat.le_of_ble_eq_true rfl, Nat.le_of_ble_eq_true rfl⟩ (Nat.le_of_ble_eq_true rfl) dX0_byLot_40 (fun h hc => ?_)
  exact cc_vret hc hE dX0_byLot_43 (⟨rfl, by funext j; by_cases e0 : j = 10; (subst e0; rfl); simp only [uN, if_neg e0], by funext j; by_cases e0 : j = 0; (subst e0; rfl); by_cases e1 : j = 1; (subst e1; rfl); by_cases e2 : j = 2; (subst e2; rfl); simp only [uN, if_neg e0, if_neg e1, if_neg e2]⟩)
theorem k_X0_byLot {X : ga_X} {R : Room} {nL : Nat} {cc : ByteArray} {h : ga_H} {ad : Nat → Nat} {J : Nat → Int} {B : Nat → Int → Int} {Q : Nat → Int → Option Nat} {Z : ga_H} {k n pc : Nat} {L : List (Option Value)} {st : List Value}   {J2 : Nat → Int} {B2 : Nat → Int → Int} (hc : cOn h ad J B Q Z) (hm : (1 ≤ J 30 ∧ J 30 ≤ 3) ∧ 1 ≤ J 31 ∧ J 31 ≤ 3)  (hJ2 : (uN J 10 ((cFl 2 ((cFl 1 ((cFl 0 (J 10, B 0) (J 30 * J 30).toNat).1, B 1) (J 31 * J 31).toNat).1, B 2) (J 30 * J 31).toNat).1)) = J2) (hB2 : (uN (uN (uN B 0 ((cFl 0 (J 10, B 0) (J 30 * J 30).toNat).2)) 1 ((cFl 1 ((cFl 0 (J 10, B 0) (J 30 * J 30).toNat).1, B 1) (J 31 * J 31).toNat).2)) 2 ((cFl 2 ((cFl 1 ((cFl 0 (J 10, B 0) (J 30 * J 30).toNat).1, B 1) (J 31 * J 31).toNat).1, B 2) (J 30 * J 31).toNat).2)) = B2) (hR : 1 + 1 ≤ R.frames ∧ 19 + 1 + 64 * 1 ≤ R.locals) (hk : k ≤ R.cells ∧ n ≤ R.slots) (hs : (st.map fun v => v.category).sum ≤ 8) (dd : decode cc pc = .ok (.invokevirtual 510, 3)) (kk : ∀ h : ga_H, cOn h ad J2 B2 Q Z → G X R RX0 nL cc h k n (pc + 3) L st) : G X R RX0 nL cc h k n pc L (.ref (ad 0) :: st) :=
  cc_run hc (m_X0_byLot _ _ ad J B Q Z  hm) (lw_V q1186 q1188 qs41 q102 q1189) rfl (show ga_nn' yX0_byLot 0 from (by unfold ga_nn'; decide +kernel)) hR hk hs dd rfl (fun v hX J1 B1 hcX hp => by
    obtain ⟨rfl, hp⟩ := hp
    obtain ⟨rfl, rfl⟩ := hp
    subst hJ2
    subst hB2
    exact kk hX hcX)
set_option maxHeartbeats 4000000 in
set_option maxRecDepth 100000 in
theorem m_X0_lot (l : Launch) (D : ga_G) (ad : Nat → Nat) (J : Nat → Int) (B : Nat → Int → Int) (Q : Nat → Int → Option Nat) (Z : ga_H)  (hm : (1 ≤ J 30 ∧ J 30 ≤ 3) ∧ 1 ≤ J 31 ∧ J 31 ≤ 3) : cM l D yX0_lot (ws_ yX0_lot cX0_lot 1 (some .int)) (gR 2) [.ref (ad 0)] ad J B Q Z (mI (fun r J1 B1 => r = (100 + (cFl 2 ((cFl 1 ((cFl 0 (J 10, B 0) (J 30 * J 30).toNat).1, B 1) (J 31 * J 31).toNat).1, B 2) (J 30 * J 31).toNat).2 (J 31 * 0 + 0)) ∧ J1 = (uN J 10 ((cFl 2 ((cFl 1 ((cFl 0 (J 10, B 0) (J 30 * J 30).toNat).1, B 1) (J 31 * J 31).toNat).1, B 2) (J 30 * J 31).toNat).1)) ∧ B1 = (uN (uN (uN B 0 ((cFl 0 (J 10, B 0) (J 30 * J 30).toNat).2)) 1 ((cFl 1 ((cFl 0 (J 10, B 0) (J 30 * J 30).toNat).1, B 1) (J 31 * J 31).toNat).2)) 2 ((cFl 2 ((cFl 1 ((cFl 0 (J 10, B 0) (J 30 * J 30).toNat).1, B 1) (J 31 * J 31).toNat).1, B 2) (J 30 * J 31).toNat).2)))) := by
  refine cc_met (own := RX0) 0 (by decide) rfl (Nat.le_of_ble_eq_true rfl) (L0 := [some (.ref (ad 0))]) rfl (fun X h hc hE => ?_)
  refine ga_aload_n (pc := 0) dX0_lot_0 rfl ?_
  refine k_X0_byLot (pc := 1)  (J2 := (uN J 10 ((cFl 2 ((cFl 1 ((cFl 0 (J 10, B 0) (J 30 * J 30).toNat).1, B 1) (J 31 * J 31).toNat).1, B 2) (J 30 * J 31).toNat).1))) (B2 := (uN (uN (uN B 0 ((cFl 0 (J 10, B 0) (J 30 * J 30).toNat).2)) 1 ((cFl 1 ((cFl 0 (J 10, B 0) (J 30 * J 30).toNat).1, B 1) (J 31 * J 31).toNat).2)) 2 ((cFl 2 ((cFl 1 ((cFl 0 (J 10, B 0) (J 30 * J 30).toNat).1, B 1) (J 31 * J 31).toNat).1, B 2) (J 30 * J 31).toNat).2))) hc (by first | exact hm | omega) (rfl) (rfl) ⟨Nat.le_of_ble_eq_true rfl, Nat.le_of_ble_eq_true rfl⟩ ⟨Nat.le_of_ble_eq_true rfl, Nat.le_of_ble_eq_true rfl⟩ (Nat.le_of_ble_eq_true rfl) dX0_lot_1 (fun h hc => ?_)
  refine ga_bipush (pc := 4) dX0_lot_4 rfl ?_
  refine ga_aload_n (pc := 6) dX0_lot_6 rfl ?_
  refine cc_g_now (pc := 7) hc dX0_lot_7 ?_
  refine ga_getN (pc := 10) (C := RX4) (T := TX4) (N := 5) (v := .ref (ad 9)) in_X4 rfl (hc.1 4 (by decide)) 4 (by decide) (ga_nt q318 rfl) rfl rfl dX0_lot_10 ?_
  refine ga_iconst (pc := 13) dX0_lot_13 ?_
  refine ga_iconst (pc := 14) dX0_lot_14 ?_
  refine k_X5_at_X0 (pc := 15) (b := (ad 9)) (e := (ad 18)) (ro := (J 30)) (co := (J 31)) (i := 0) (j := 0) (f := ((cFl 2 ((cFl 1 ((cFl 0 (J 10, B 0) (J 30 * J 30).toNat).1, B 1) (J 31 * J 31).toNat).1, B 2) (J 30 * J 31).toNat).2)) (hc.1 9 (by decide)) (hc.1 18 (by decide)) (by omega) (rfl) ⟨Nat.le_of_ble_eq_true rfl, Nat.le_of_ble_eq_true rfl⟩ ⟨Nat.le_of_ble_eq_true rfl, Nat.le_of_ble_eq_true rfl⟩ (Nat.le_of_ble_eq_true rfl) dX0_lot_15 ?_
  refine ga_l2i (pc := 18) dX0_lot_18 ?_
  refine ga_iadd (pc := 19) dX0_lot_19 ?_
  exact cc_iret hc hE dX0_lot_20 (⟨_, rfl, rfl, rfl, rfl⟩)
set_option maxHeartbeats 4000000 in
set_option maxRecDepth 100000 in
theorem m_X0_trace (l : Launch) (D : ga_G) (ad : Nat → Nat) (J : Nat → Int) (B : Nat → Int → Int) (Q : Nat → Int → Option Nat) (Z : ga_H) (i : Int) (hri : (-2147483648 ≤ i ∧ i < 2147483648)) (h36 : 0 ≤ J 36 ∧ J 36 ≤ 30) : cM l D yX0_trace (ws_ yX0_trace cX0_trace 2 (some .int)) (gR 1) [.ref (ad 0), .int (iI i)] ad J B Q Z (mI (fun r J1 B1 => r = (if 0 ≤ i ∧ i < J 36 then B 12 i else -3) ∧ J1 = J ∧ B1 = B)) := by
  refine cc_met (own := RX0) 0 (by decide) rfl (Nat.le_of_ble_eq_true rfl) (L0 := [some (.ref (ad 0)), some (.int (iI i))]) rfl (fun X h hc hE => ?_)
  refine ga_iload_n (pc := 0) dX0_trace_0 rfl ?_
  refine ga_iconst (pc := 1) dX0_trace_1 ?_
  refine ga_aload_n (pc := 2) dX0_trace_2 rfl ?_
  refine cc_g_trace (pc := 3) hc dX0_trace_3 ?_
  refine ga_getN (pc := 6) (C := RX6) (T := TX6) (N := 2) (v := .int (iI (J 36))) in_X6 rfl (hc.1 42 (by decide)) 1 (by decide) (ga_nt q348 rfl) rfl rfl dX0_trace_6 ?_
  refine ga_iconst (pc := 9) dX0_trace_9 ?_
  refine ga_isub (pc := 10) dX0_trace_10 ?_
  refine k_X0_isIn (pc := 11) (a := i) (b := 0) (e := ((J 36) - 1)) (by omega) (rfl) ⟨Nat.le_of_ble_eq_true rfl, Nat.le_of_ble_eq_true rfl⟩ ⟨Nat.le_of_ble_eq_true rfl, Nat.le_of_ble_eq_true rfl⟩ (Nat.le_of_ble_eq_true rfl) dX0_trace_11 ?_
  refine ga_ifb_eq (pc := 14) (tgt := 29) dX0_trace_14 rfl (fun c14 => ?_) (fun c14 => ?_)
  · skip
    refine ga_bipush (pc := 29) dX0_trace_29 rfl ?_
    exact cc_iret hc hE dX0_trace_31 (⟨_, rfl, by first | (rw [if_pos (by omega)]; done) | rw [if_neg (by omega)], rfl, rfl⟩)
  · skip
    refine ga_aload_n (pc := 17) dX0_trace_17 rfl ?_
    refine cc_g_trace (pc := 18) hc dX0_trace_18 ?_
    refine ga_getN (pc := 21) (C := RX6) (T := TX6) (N := 2) (v := .ref (ad 43)) in_X6 rfl (hc.1 42 (by decide)) 0 (by decide) (ga_nt q346 rfl) rfl rfl dX0_trace_21 ?_
    refine ga_iload_n (pc := 24) dX0_trace_24 rfl ?_
    refine cc_ald12 (pc := 25) (x := B 12 i) hc (by omega) (rfl) dX0_trace_25 ?_
    refine ga_goto (pc := 26) (tgt := 31) dX0_trace_26 rfl ?_
    exact cc_iret hc hE dX0_trace_31 (⟨_, rfl, by first | (rw [if_pos (by omega)]; done) | rw [if_neg (by omega)], rfl, rfl⟩)
