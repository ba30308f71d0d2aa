/-! THE CLASS: which rows split off -/
def cSpA (m : Int) (fa : Int → Int) (s : Int) (k : Int) : Prop := ∀ x : Int, 0 ≤ x → x < k → s ≤ x.tdiv m → x.tmod m < s → fa (m * x.tdiv m + x.tmod m) = 0
theorem cSp_e {m n s : Int} {B E : Nat → Int → Int} (hm : 1 ≤ m ∧ m ≤ 3) (hR : tRel m n B E) (hs : 1 ≤ s ∧ s < m) : cSpA m (B 0) s (m * m) ↔ zSpl E m s := by
  have hR := hR.1
  unfold cSpA zSpl
  have hx : ∀ i j : Int, 0 ≤ i → i < m → 0 ≤ j → j < m → s ≤ i → j < s → (∀ x : Int, 0 ≤ x → x < m * m → s ≤ x.tdiv m → x.tmod m < s → B 0 (m * x.tdiv m + x.tmod m) = 0) → mE E 0 i j = 0 := by
    intro i j i0 i1 j0 j1 hi hj h
    have hp := cPl (m := m) (n := m) ⟨hm, hm⟩ (a := i) (j := j) ⟨i0, i1⟩ ⟨j0, j1⟩
    have := h (m * i + j) hp.1.1 (by
      have : m * (i + 1) ≤ m * m := Int.mul_le_mul_of_nonneg_left (by omega) (by omega)
      rw [Int.mul_add] at this
      omega) (by rw [hp.2.1]; exact hi) (by rw [hp.2.2]; exact hj)
    rw [hp.2.1, hp.2.2, hR i j i0 i1 j0 j1] at this
    exact this
  constructor
  · intro h
    rcases (by omega : m = 2 ∨ m = 3) with rfl | rfl
    · obtain rfl : s = 1 := by omega
      exact Or.inl ⟨rfl, hx 1 0 (by decide) (by decide) (by decide) (by decide) (by decide) (by decide) h, Or.inl (by decide)⟩
    · rcases (by omega : s = 1 ∨ s = 2) with rfl | rfl
      · exact Or.inl ⟨rfl, hx 1 0 (by decide) (by decide) (by decide) (by decide) (by decide) (by decide) h, Or.inr (hx 2 0 (by decide) (by decide) (by decide) (by decide) (by decide) (by decide) h)⟩
      · exact Or.inr ⟨rfl, Or.inr ⟨hx 2 0 (by decide) (by decide) (by decide) (by decide) (by decide) (by decide) h, hx 2 1 (by decide) (by decide) (by decide) (by decide) (by decide) (by decide) h⟩⟩
  · intro h x x0 x1 h1 h2
    have d := dm_r (m := m) (n := m) ⟨hm, hm⟩ ⟨x0, x1⟩
    rw [hR _ _ d.1.1 d.1.2 d.2.1.1 d.2.1.2]
    generalize x.tdiv m = i at d h1 ⊢
    generalize x.tmod m = j at d h2 ⊢
    rcases h with ⟨rfl, h3, h4⟩ | ⟨rfl, h4⟩
    · obtain rfl : j = 0 := by omega
      rcases (by omega : i = 1 ∨ i = 2) with rfl | rfl
      · exact h3
      · rcases h4 with h4 | h4
        · omega
        · exact h4
    · obtain rfl : i = 2 := by omega
      rcases h4 with h4 | ⟨h4, h5⟩
      · omega
      · rcases (by omega : j = 0 ∨ j = 1) with rfl | rfl
        · exact h4
        · exact h5
theorem cSpA_s {m s k : Int} {fa : Int → Int} (hk : 0 ≤ k) (h : cSpA m fa s k) (h2 : s ≤ k.tdiv m → k.tmod m < s → fa (m * k.tdiv m + k.tmod m) = 0) : cSpA m fa s (k + 1) := fun x x0 x1 h3 h4 => by
  by_cases e : x = k
  · rw [e] at h3 h4 ⊢; exact h2 h3 h4
  · exact h x x0 (by omega) h3 h4
theorem zor_0 (A : Nat → Int → Int) (m : Int) : ∀ n : Nat, zor (zSps A m n) 0 = zSps A m n := by
  intro n
  cases n with
  | zero => show zor 0 0 = 0; decide
  | succ n =>
    show (iI (iI _ ||| iI _).toInt ||| iI 0).toInt = (iI _ ||| iI _).toInt
    rw [show ∀ x : Int32, iI x.toInt = x from fun x => Int32.ofInt_toInt x, iI_0, Int32.or_zero]
set_option maxHeartbeats 4000000 in
set_option maxRecDepth 100000 in
theorem m_X0_splitSet (l : Launch) (D : ga_G) (ad : Nat → Nat) (J : Nat → Int) (B : Nat → Int → Int) (Q : Nat → Int → Option Nat) (Z : ga_H) (E : Nat → Int → Int) (hm : (1 ≤ J 30 ∧ J 30 ≤ 3) ∧ 1 ≤ J 31 ∧ J 31 ≤ 3) (he0 : ∀ k : Int, -50 ≤ B 0 k ∧ B 0 k ≤ 50) (he1 : ∀ k : Int, -50 ≤ B 1 k ∧ B 1 k ≤ 50) (he2 : ∀ k : Int, -50 ≤ B 2 k ∧ B 2 k ≤ 50) (hRl : tRel (J 30) (J 31) B E) : cM l D yX0_splitSet (ws_ yX0_splitSet cX0_splitSet 4 (some .int)) (gR 1) [.ref (ad 0)] ad J B Q Z (mI (fun r J1 B1 => r = (zSps E (J 30) (J 30 - 1).toNat) ∧ J1 = J ∧ B1 = B)) := by
  refine cc_met (own := RX0) 3 (by decide) rfl (Nat.le_of_ble_eq_true rfl) (L0 := [some (.ref (ad 0)), none, none, none]) rfl (fun X h hc hE => ?_)
  obtain ⟨mm, hmm⟩ : ∃ x, x = J 30 * J 30 := ⟨_, rfl⟩
  have hmr := mn_r (m := J 30) (n := J 30) ⟨hm.1, hm.1⟩
  rw [← hmm] at hmr
  refine ga_iconst (pc := 0) dX0_splitSet_0 ?_
  refine ga_istore_n (pc := 1) (L1 := [some (.ref (ad 0)), some (.int (iI 0)), none, none]) dX0_splitSet_1 rfl (by decide) rfl ?_
  refine ga_iconst (pc := 2) dX0_splitSet_2 ?_
  refine ga_istore_n (pc := 3) (L1 := [some (.ref (ad 0)), some (.int (iI 0)), some (.int (iI 1)), none]) dX0_splitSet_3 rfl (by decide) rfl ?_
  have lp4 : ∀ (N4 : Nat) (set s : Int), ∀ h : ga_H, cOn h ad J B Q Z → (1 ≤ s ∧ s ≤ J 30) → (set = zSps E (J 30) (s - 1).toNat) → (J 30 - s).toNat < N4 → G X (gR 1) RX0 4 cX0_splitSet h 0 0 4 [some (.ref (ad 0)), some (.int (iI set)), some (.int (iI s)), none] [] := by
    intro N4
    induction N4 with
    | zero => intro set s h hc hs hset hN4; exact absurd hN4 (Nat.not_lt_zero _)
    | succ N4 ih4 =>
      intro set s h hc hs hset hN4
      refine ga_iload_n (pc := 4) dX0_splitSet_4 rfl ?_
      refine ga_aload_n (pc := 5) dX0_splitSet_5 rfl ?_
      refine cc_g_now (pc := 6) hc dX0_splitSet_6 ?_
      refine ga_getN (pc := 9) (C := RX4) (T := TX4) (N := 5) (v := .int (iI (J 30))) in_X4 rfl (hc.1 4 (by decide)) 0 (by decide) (ga_nt q307 rfl) rfl rfl dX0_splitSet_9 ?_
      refine ga_icmp_ge (pc := 12) (tgt := 116) dX0_splitSet_12 rfl (by omega) (by omega) (fun c12 => ?_) (fun c12 => ?_)
      · skip
        refine ga_iload_n (pc := 116) dX0_splitSet_116 rfl ?_
        exact cc_iret hc hE dX0_splitSet_117 (⟨_, rfl, by rw [hset, show s = J 30 by omega], rfl, rfl⟩)
      · skip
        refine ga_iconst (pc := 15) dX0_splitSet_15 ?_
        refine ga_istore_n (pc := 16) (L1 := [some (.ref (ad 0)), some (.int (iI set)), some (.int (iI s)), some (.int (iI 0))]) dX0_splitSet_16 rfl (by decide) rfl ?_
        have lp17 : ∀ (N17 : Nat) (k : Int), ∀ h : ga_H, cOn h ad J B Q Z → (0 ≤ k ∧ k ≤ mm) → (cSpA (J 30) (B 0) s (k)) → (mm - k).toNat < N17 → G X (gR 1) RX0 4 cX0_splitSet h 0 0 17 [some (.ref (ad 0)), some (.int (iI set)), some (.int (iI s)), some (.int (iI k))] [] := by
          intro N17
          induction N17 with
          | zero => intro k h hc hk hsp hN17; exact absurd hN17 (Nat.not_lt_zero _)
          | succ N17 ih17 =>
            intro k h hc hk hsp hN17
            refine ga_iload_n (pc := 17) dX0_splitSet_17 rfl ?_
            refine ga_aload_n (pc := 18) dX0_splitSet_18 rfl ?_
            refine cc_g_now (pc := 19) hc dX0_splitSet_19 ?_
            refine ga_getN (pc := 22) (C := RX4) (T := TX4) (N := 5) (v := .int (iI (J 30))) in_X4 rfl (hc.1 4 (by decide)) 0 (by decide) (ga_nt q307 rfl) rfl rfl dX0_splitSet_22 ?_
            refine ga_aload_n (pc := 25) dX0_splitSet_25 rfl ?_
            refine cc_g_now (pc := 26) hc dX0_splitSet_26 ?_
            refine ga_getN (pc := 29) (C := RX4) (T := TX4) (N := 5) (v := .int (iI (J 30))) in_X4 rfl (hc.1 4 (by decide)) 0 (by decide) (ga_nt q307 rfl) rfl rfl dX0_splitSet_29 ?_
            refine ga_imul (pc := 32) dX0_splitSet_32 ?_
            refine ga_topi (pc := 33) (b := mm) (hmm.symm) ?_
            refine ga_icmp_ge (pc := 33) (tgt := 104) dX0_splitSet_33 rfl (by omega) (by omega) (fun c33 => ?_) (fun c33 => ?_)
            · skip
              refine ga_iload_n (pc := 104) dX0_splitSet_104 rfl ?_
              refine ga_iconst (pc := 105) dX0_splitSet_105 ?_
              refine ga_iload_n (pc := 106) dX0_splitSet_106 rfl ?_
              refine ga_ishl (pc := 107) dX0_splitSet_107 ?_
              refine ga_ior (pc := 108) dX0_splitSet_108 ?_
              refine ga_istore_n (pc := 109) (L1 := [some (.ref (ad 0)), some (.int (iI (zor set (zshl 1 s)))), some (.int (iI s)), some (.int (iI k))]) dX0_splitSet_109 rfl (by decide) rfl ?_
              refine ga_iinc (pc := 110) (L1 := [some (.ref (ad 0)), some (.int (iI (zor set (zshl 1 s)))), some (.int (iI (s + 1))), some (.int (iI k))]) dX0_splitSet_110 rfl rfl (by decide) rfl ?_
              refine ga_goto (pc := 113) (tgt := 4) dX0_splitSet_113 rfl ?_
              refine ga_kill (pc := 4) 3 (L1 := [some (.ref (ad 0)), some (.int (iI (zor set (zshl 1 s)))), some (.int (iI (s + 1))), none]) rfl ?_
              exact ih4 (zor set (zshl 1 s)) (s + 1) h hc (by omega) (by rw [zSps_s _ _ hs.1, ← hset, if_pos ((cSp_e hm.1 hRl (by omega)).mp (by rw [← hmm]; rw [show mm = k by omega]; exact hsp))]) (by omega)
            · skip
              have hd := dm_r (m := J 30) (n := J 30) (p := k) ⟨hm.1, hm.1⟩ ⟨hk.1, by omega⟩
              refine ga_iload_n (pc := 36) dX0_splitSet_36 rfl ?_
              refine ga_aload_n (pc := 37) dX0_splitSet_37 rfl ?_
              refine cc_g_now (pc := 38) hc dX0_splitSet_38 ?_
              refine ga_getN (pc := 41) (C := RX4) (T := TX4) (N := 5) (v := .int (iI (J 30))) in_X4 rfl (hc.1 4 (by decide)) 0 (by decide) (ga_nt q307 rfl) rfl rfl dX0_splitSet_41 ?_
              refine ga_idiv (pc := 44) dX0_splitSet_44 (by omega) (by omega) (by omega) ?_
              refine ga_iload_n (pc := 45) dX0_splitSet_45 rfl ?_
              refine ga_icmp_lt (pc := 46) (tgt := 98) dX0_splitSet_46 rfl (by omega) (by omega) (fun c46 => ?_) (fun c46 => ?_)
              · skip
                refine ga_iinc (pc := 98) (L1 := [some (.ref (ad 0)), some (.int (iI set)), some (.int (iI s)), some (.int (iI (k + 1)))]) dX0_splitSet_98 rfl rfl (by decide) rfl ?_
                refine ga_goto (pc := 101) (tgt := 17) dX0_splitSet_101 rfl ?_
                exact ih17 (k + 1) h hc (by omega) (cSpA_s hk.1 hsp (fun z1 z2 => by omega)) (by omega)
              · skip
                refine ga_iload_n (pc := 49) dX0_splitSet_49 rfl ?_
                refine ga_aload_n (pc := 50) dX0_splitSet_50 rfl ?_
                refine cc_g_now (pc := 51) hc dX0_splitSet_51 ?_
                refine ga_getN (pc := 54) (C := RX4) (T := TX4) (N := 5) (v := .int (iI (J 30))) in_X4 rfl (hc.1 4 (by decide)) 0 (by decide) (ga_nt q307 rfl) rfl rfl dX0_splitSet_54 ?_
                refine ga_irem (pc := 57) dX0_splitSet_57 (by omega) (by omega) (by omega) ?_
                refine ga_iload_n (pc := 58) dX0_splitSet_58 rfl ?_
                refine ga_icmp_ge (pc := 59) (tgt := 98) dX0_splitSet_59 rfl (by omega) (by omega) (fun c59 => ?_) (fun c59 => ?_)
                · skip
                  refine ga_iinc (pc := 98) (L1 := [some (.ref (ad 0)), some (.int (iI set)), some (.int (iI s)), some (.int (iI (k + 1)))]) dX0_splitSet_98 rfl rfl (by decide) rfl ?_
                  refine ga_goto (pc := 101) (tgt := 17) dX0_splitSet_101 rfl ?_
                  exact ih17 (k + 1) h hc (by omega) (cSpA_s hk.1 hsp (fun z1 z2 => by omega)) (by omega)
                · skip
                  refine ga_aload_n (pc := 62) dX0_splitSet_62 rfl ?_
                  refine cc_g_now (pc := 63) hc dX0_splitSet_63 ?_
                  refine ga_getN (pc := 66) (C := RX4) (T := TX4) (N := 5) (v := .ref (ad 7)) in_X4 rfl (hc.1 4 (by decide)) 2 (by decide) (ga_nt q313 rfl) rfl rfl dX0_splitSet_66 ?_
                  refine ga_iload_n (pc := 69) dX0_splitSet_69 rfl ?_
                  refine ga_aload_n (pc := 70) dX0_splitSet_70 rfl ?_
                  refine cc_g_now (pc := 71) hc dX0_splitSet_71 ?_
                  refine ga_getN (pc := 74) (C := RX4) (T := TX4) (N := 5) (v := .int (iI (J 30))) in_X4 rfl (hc.1 4 (by decide)) 0 (by decide) (ga_nt q307 rfl) rfl rfl dX0_splitSet_74 ?_
                  refine ga_idiv (pc := 77) dX0_splitSet_77 (by omega) (by omega) (by omega) ?_
                  refine ga_iload_n (pc := 78) dX0_splitSet_78 rfl ?_
                  refine ga_aload_n (pc := 79) dX0_splitSet_79 rfl ?_
                  refine cc_g_now (pc := 80) hc dX0_splitSet_80 ?_
                  refine ga_getN (pc := 83) (C := RX4) (T := TX4) (N := 5) (v := .int (iI (J 30))) in_X4 rfl (hc.1 4 (by decide)) 0 (by decide) (ga_nt q307 rfl) rfl rfl dX0_splitSet_83 ?_
                  refine ga_irem (pc := 86) dX0_splitSet_86 (by omega) (by omega) (by omega) ?_
                  have hix := zIx hm.1 (i := k.tdiv (J 30)) (j := k.tmod (J 30)) (by omega) (by omega) (by omega)
                  have hav := he0 (J 30 * k.tdiv (J 30) + k.tmod (J 30))
                  refine k_X5_at_X0 (pc := 87) (b := (ad 7)) (e := (ad 16)) (ro := (J 30)) (co := (J 30)) (i := (k.tdiv (J 30))) (j := (k.tmod (J 30))) (f := (B 0)) (hc.1 7 (by decide)) (hc.1 16 (by decide)) (by first | exact hij | omega) (rfl) ⟨Nat.le_of_ble_eq_true rfl, Nat.le_of_ble_eq_true rfl⟩ ⟨Nat.le_of_ble_eq_true rfl, Nat.le_of_ble_eq_true rfl⟩ (Nat.le_of_ble_eq_true rfl) dX0_splitSet_87 ?_
                  refine ga_lconst (pc := 90) 0 dX0_splitSet_90 rfl ?_
                  refine ga_lcmp (pc := 91) dX0_splitSet_91 (by omega) (by omega) ?_
                  refine ga_ifc_eq (pc := 92) (tgt := 98) dX0_splitSet_92 rfl (fun c92 => ?_) (fun c92 => ?_)
                  · skip
                    refine ga_iinc (pc := 98) (L1 := [some (.ref (ad 0)), some (.int (iI set)), some (.int (iI s)), some (.int (iI (k + 1)))]) dX0_splitSet_98 rfl rfl (by decide) rfl ?_
                    refine ga_goto (pc := 101) (tgt := 17) dX0_splitSet_101 rfl ?_
                    exact ih17 (k + 1) h hc (by omega) (cSpA_s hk.1 hsp (fun z1 z2 => by omega)) (by omega)
                  · skip
                    refine ga_goto (pc := 95) (tgt := 110) dX0_splitSet_95 rfl ?_
                    refine ga_iinc (pc := 110) (L1 := [some (.ref (ad 0)), some (.int (iI set)), some (.int (iI (s + 1))), some (.int (iI k))]) dX0_splitSet_110 rfl rfl (by decide) rfl ?_
                    refine ga_goto (pc := 113) (tgt := 4) dX0_splitSet_113 rfl ?_
                    refine ga_kill (pc := 4) 3 (L1 := [some (.ref (ad 0)), some (.int (iI set)), some (.int (iI (s + 1))), none]) rfl ?_
                    exact ih4 set (s + 1) h hc (by omega) (by rw [zSps_s _ _ hs.1, if_neg (fun z => by have h := (cSp_e hm.1 hRl (by omega)).mpr z k hk.1 (by omega) (by omega) (by omega); omega), hset, zor_0]) (by omega)
        exact lp17 _ 0 h hc (by omega) (fun x x0 x1 => by omega) (Nat.lt_succ_self _)
  exact lp4 _ 0 1 h hc (by omega) (rfl) (Nat.lt_succ_self _)
theorem k_X0_splitSet {X : ga_X} {R : Room} {nL : Nat} {cc : ByteArray} {h : ga_H} {ad : Nat → Nat} {J : Nat → Int} {B : Nat → Int → Int} {Q : Nat → Int → Option Nat} {Z : ga_H} {k n pc : Nat} {L : List (Option Value)} {st : List Value} {E : Nat → Int → Int} {z : Int} (hc : cOn h ad J B Q Z) (hm : (1 ≤ J 30 ∧ J 30 ≤ 3) ∧ 1 ≤ J 31 ∧ J 31 ≤ 3) (he0 : ∀ k : Int, -50 ≤ B 0 k ∧ B 0 k ≤ 50) (he1 : ∀ k : Int, -50 ≤ B 1 k ∧ B 1 k ≤ 50) (he2 : ∀ k : Int, -50 ≤ B 2 k ∧ B 2 k ≤ 50) (hRl : tRel (J 30) (J 31) B E) (hz : (zSps E (J 30) (J 30 - 1).toNat) = z) (hR : 1 + 1 ≤ R.frames ∧ 19 + 4 + 64 * 1 ≤ R.locals) (hk : k ≤ R.cells ∧ n ≤ R.slots) (hs : (st.map fun v => v.category).sum ≤ 8) (dd : decode cc pc = .ok (.invokevirtual 441, 3)) (kk : ∀ h : ga_H, cOn h ad J B Q Z → G X R RX0 nL cc h k n (pc + 3) L (.int (iI z) :: st)) : G X R RX0 nL cc h k n pc L (.ref (ad 0) :: st) :=
  cc_run hc (m_X0_splitSet _ _ ad J B Q Z E hm he0 he1 he2 hRl) (lw_V q1080 q1082 qs31 q102 q1083) rfl (show ga_nn' yX0_splitSet 0 from (by unfold ga_nn'; decide +kernel)) hR hk hs dd rfl (fun v hX J1 B1 hcX hp => by
    obtain ⟨r, rfl, hp⟩ := hp
    obtain ⟨e1, rfl, rfl⟩ := hp
    subst hz
    rw [e1]
    exact kk hX hcX)
theorem zIfc (P : Prop) [Decidable P] (v : Int) : (P ∧ (if P then v else 0) = v) ∨ (¬ P ∧ (if P then v else 0) = 0) := by
  by_cases h : P
  · exact Or.inl ⟨h, if_pos h⟩
  · exact Or.inr ⟨h, if_neg h⟩
theorem zSps_b {E : Nat → Int → Int} {m s : Int} (hm : 1 ≤ m ∧ m ≤ 3) (hs : s = 1 ∨ s = 2) : zand (zshr (zSps E m (m - 1).toNat) s) 1 = if s < m ∧ zSpl E m s then 1 else 0 := by
  rcases (by omega : m = 1 ∨ m = 2 ∨ m = 3) with rfl | rfl | rfl
  · rw [if_neg (show ¬ (s < 1 ∧ zSpl E 1 s) from fun z => by have := z.1; omega)]
    rcases hs with rfl | rfl
    · show zand (zshr 0 1) 1 = 0; decide
    · show zand (zshr 0 2) 1 = 0; decide
  · have e : zSps E 2 (2 - 1 : Int).toNat = zor 0 (if zSpl E 2 1 then zshl 1 1 else 0) := rfl
    rw [e]
    rcases hs with rfl | rfl
    · rcases zIfc (zSpl E 2 1) (zshl 1 1) with ⟨h, e1⟩ | ⟨h, e1⟩
      · rw [e1, if_pos (show (1 : Int) < 2 ∧ zSpl E 2 1 from ⟨by decide, h⟩)]; decide
      · rw [e1, if_neg (show ¬ ((1 : Int) < 2 ∧ zSpl E 2 1) from fun z => h z.2)]; decide
    · rw [if_neg (show ¬ ((2 : Int) < 2 ∧ zSpl E 2 2) from fun z => absurd z.1 (by decide))]
      rcases zIfc (zSpl E 2 1) (zshl 1 1) with ⟨h, e1⟩ | ⟨h, e1⟩ <;> (rw [e1]; decide)
  · have e : zSps E 3 (3 - 1 : Int).toNat = zor (zor 0 (if zSpl E 3 1 then zshl 1 1 else 0)) (if zSpl E 3 2 then zshl 1 2 else 0) := rfl
    rw [e]
    rcases hs with rfl | rfl
    · rcases zIfc (zSpl E 3 1) (zshl 1 1) with ⟨h, e1⟩ | ⟨h, e1⟩
      · rw [if_pos (show (1 : Int) < 3 ∧ zSpl E 3 1 from ⟨by decide, h⟩)]
        rcases zIfc (zSpl E 3 2) (zshl 1 2) with ⟨_, e2⟩ | ⟨_, e2⟩ <;> (rw [e1, e2]; decide)
      · rw [if_neg (show ¬ ((1 : Int) < 3 ∧ zSpl E 3 1) from fun z => h z.2)]
        rcases zIfc (zSpl E 3 2) (zshl 1 2) with ⟨_, e2⟩ | ⟨_, e2⟩ <;> (rw [e1, e2]; decide)
    · rcases zIfc (zSpl E 3 2) (zshl 1 2) with ⟨h, e2⟩ | ⟨h, e2⟩
      · rw [if_pos (show (2 : Int) < 3 ∧ zSpl E 3 2 from ⟨by decide, h⟩)]
        rcases zIfc (zSpl E 3 1) (zshl 1 1) with ⟨_, e1⟩ | ⟨_, e1⟩ <;> (rw [e1, e2]; decide)
      · rw [if_neg (show ¬ ((2 : Int) < 3 ∧ zSpl E 3 2) from fun z => h z.2)]
        rcases zIfc (zSpl E 3 1) (zshl 1 1) with ⟨_, e1⟩ | ⟨_, e1⟩ <;> (rw [e1, e2]; decide)
set_option maxHeartbeats 4000000 in
set_option maxRecDepth 100000 in
theorem m_X0_lower (l : Launch) (D : ga_G) (ad : Nat → Nat) (J : Nat → Int) (B : Nat → Int → Int) (Q : Nat → Int → Option Nat) (Z : ga_H) (e s : Int) (p : Nat) (kd y sh : Int) (E : Nat → Int → Int) (hm : (1 ≤ J 30 ∧ J 30 ≤ 3) ∧ 1 ≤ J 31 ∧ J 31 ≤ 3) (h8 : 0 ≤ J 8 ∧ J 8 ≤ 6) (hq : 0 ≤ e → e < J 8 → Q 0 e = some p ∧ Z p = some (oE (9 + kd.toNat) [.int (iI y), .int (iI sh)]) ∧ (0 ≤ kd ∧ kd ≤ 6) ∧ -2 ≤ sh ∧ sh ≤ 2) (he0 : ∀ k : Int, -50 ≤ B 0 k ∧ B 0 k ≤ 50) (he1 : ∀ k : Int, -50 ≤ B 1 k ∧ B 1 k ≤ 50) (he2 : ∀ k : Int, -50 ≤ B 2 k ∧ B 2 k ≤ 50) (hRl : tRel (J 30) (J 31) B E) (hTE : tEn (E 0)) (hri : (-2147483648 ≤ e ∧ e < 2147483648) ∧ (-2147483648 ≤ s ∧ s < 2147483648)) : kM l D yX0_lower (ws_ yX0_lower cX0_lower 4 (some .int)) (gK 7 1 4) [.ref (ad 0), .int (iI e), .int (iI s)] ad J B Q Z (kI (fun r ad1 J1 B1 Q1 Z1 => (ad1 = ad ∧ Q1 = Q ∧ Z1 = Z) ∧ r = (if (0 ≤ e ∧ e < J 8) ∧ 1 ≤ s ∧ s ≤ 2 then (if s < J 30 ∧ zSpl E (J 30) s ∧ zLike (J 30) (J 31) kd then eSlv (zH (J 30) (J 31) s) (zW 0 (J 30) (J 31) s) (zSy (J 30) (J 31) E kd 0 sh s) else -4) else -1) ∧ cSam J B J1 B1)) kX0 1 4 := by
  refine kc_met (own := RX0) 1 (by decide) rfl (Nat.le_of_ble_eq_true rfl) (L0 := [some (.ref (ad 0)), some (.int (iI e)), some (.int (iI s)), none]) rfl (fun X h hc hE => ?_)
  refine ga_aload_n (pc := 0) dX0_lower_0 rfl ?_
  refine ga_iload_n (pc := 1) dX0_lower_1 rfl ?_
  refine k_X0_isEquation (pc := 2) (e := e) hc (by first | exact hq | omega) (by first | exact h1 | omega) (rfl) ⟨Nat.le_of_ble_eq_true rfl, Nat.le_of_ble_eq_true rfl⟩ ⟨Nat.le_of_ble_eq_true rfl, Nat.le_of_ble_eq_true rfl⟩ (Nat.le_of_ble_eq_true rfl) dX0_lower_2 (fun h hc => ?_)
  refine ga_ifb_eq (pc := 5) (tgt := 17) dX0_lower_5 rfl (fun c5 => ?_) (fun c5 => ?_)
  · skip
    refine ga_iconst (pc := 17) dX0_lower_17 ?_
    exact kc_iret hc hE dX0_lower_18 (by omega) (by omega) (⟨_, rfl, ⟨⟨rfl, rfl, rfl⟩, by (try dsimp only); exact ⟨by rw [if_neg (by omega)], cSam.refl _ _⟩⟩⟩)
  · skip
    refine ga_iload_n (pc := 8) dX0_lower_8 rfl ?_
    refine ga_iconst (pc := 9) dX0_lower_9 ?_
    refine ga_iconst (pc := 10) dX0_lower_10 ?_
    refine k_X0_isIn (pc := 11) (a := s) (b := 1) (e := 2) (by omega) (rfl) ⟨Nat.le_of_ble_eq_true rfl, Nat.le_of_ble_eq_true rfl⟩ ⟨Nat.le_of_ble_eq_true rfl, Nat.le_of_ble_eq_true rfl⟩ (Nat.le_of_ble_eq_true rfl) dX0_lower_11 ?_
    refine ga_ifb_ne (pc := 14) (tgt := 19) dX0_lower_14 rfl (fun c14 => ?_) (fun c14 => ?_)
    · skip
      obtain ⟨hqe, hp, hkd, hsh⟩ := hq (by omega) (by omega)
      have hpo := pOn.of hkd hp
      have hmn := mn_r hm
      refine ga_aload_n (pc := 19) dX0_lower_19 rfl ?_
      refine k_X0_splitSet (pc := 20) (E := E) (z := zSps E (J 30) (J 30 - 1).toNat) hc (by first | exact hm | omega) (by first | exact he0 | omega) (by first | exact he1 | omega) (by first | exact he2 | omega) (by first | exact hRl | omega) (rfl) ⟨Nat.le_of_ble_eq_true rfl, Nat.le_of_ble_eq_true rfl⟩ ⟨Nat.le_of_ble_eq_true rfl, Nat.le_of_ble_eq_true rfl⟩ (Nat.le_of_ble_eq_true rfl) dX0_lower_20 (fun h hc => ?_)
      refine ga_iload_n (pc := 23) dX0_lower_23 rfl ?_
      refine ga_ishr (pc := 24) dX0_lower_24 ?_
      refine ga_iconst (pc := 25) dX0_lower_25 ?_
      obtain ⟨bt, hbt⟩ : ∃ x, x = zand (zshr (zSps E (J 30) (J 30 - 1).toNat) s) 1 := ⟨_, rfl⟩
      have hbt2 : bt = if s < J 30 ∧ zSpl E (J 30) s then 1 else 0 := by rw [hbt]; exact zSps_b hm.1 (by omega)
      have hbt3 : 0 ≤ bt ∧ bt ≤ 1 := by rw [hbt2]; split <;> decide
      refine ga_iand (pc := 26) dX0_lower_26 ?_
      refine ga_topi (pc := 27) (b := bt) (hbt.symm) ?_
      refine ga_if_eq (pc := 27) (tgt := 47) dX0_lower_27 rfl (by omega) (fun c27 => ?_) (fun c27 => ?_)
      · skip
        refine ga_bipush (pc := 47) dX0_lower_47 rfl ?_
        exact kc_iret hc hE dX0_lower_49 (by omega) (by omega) (⟨_, rfl, ⟨⟨rfl, rfl, rfl⟩, by (try dsimp only); exact ⟨by rw [if_pos (by omega), if_neg (fun z => by (rw [if_pos ⟨z.1, z.2.1⟩] at hbt2; omega))], cSam.refl _ _⟩⟩⟩)
      · skip
        have hss : s < J 30 ∧ zSpl E (J 30) s := by by_cases z : s < J 30 ∧ zSpl E (J 30) s; exact z; (rw [if_neg z] at hbt2; omega)
        have hs1 := hss.1
        have hms := mn_r (m := J 30 - s) (n := J 31) ⟨by omega, hm.2⟩
        replace hms : 1 ≤ (J 30 - s) * J 31 ∧ (J 30 - s) * J 31 ≤ 6 := by { rcases (by omega : J 30 - s = 1 ∨ J 30 - s = 2) with z | z <;> (rw [z] at hms ⊢; omega) }
        refine ga_aload_n (pc := 30) dX0_lower_30 rfl ?_
        refine ga_iload_n (pc := 31) dX0_lower_31 rfl ?_
        refine ga_aload_n (pc := 32) dX0_lower_32 rfl ?_
        refine cc_g_now (pc := 33) hc dX0_lower_33 ?_
        refine ga_getN (pc := 36) (C := RX4) (T := TX4) (N := 5) (v := .int (iI (J 30))) in_X4 rfl (hc.1 4 (by decide)) 0 (by decide) (ga_nt q307 rfl) rfl rfl dX0_lower_36 ?_
        refine ga_iload_n (pc := 39) dX0_lower_39 rfl ?_
        refine ga_isub (pc := 40) dX0_lower_40 ?_
        refine k_X0_isLoose (pc := 41) (e := e) (ro := ((J 30) - s)) (p := p) (kd := kd) (y := y) (sh := sh) hc (by first | exact hm | omega) (by first | exact hp | omega) (by first | exact hkd | omega) (hqe) (by first | exact he6 | omega) (by first | exact hri | omega) (rfl) ⟨Nat.le_of_ble_eq_true rfl, Nat.le_of_ble_eq_true rfl⟩ ⟨Nat.le_of_ble_eq_true rfl, Nat.le_of_ble_eq_true rfl⟩ (Nat.le_of_ble_eq_true rfl) dX0_lower_41 (fun h hc => ?_)
        refine ga_ifb_ne (pc := 44) (tgt := 50) dX0_lower_44 rfl (fun c44 => ?_) (fun c44 => ?_)
        · skip
          have hfl : J 30 = J 31 ∨ kd < 2 := by omega
          refine ga_aload_n (pc := 50) dX0_lower_50 rfl ?_
          refine ga_new (pc := 51) (ci := 17) (fs := [.int (iI 0), .int (iI 0), .null, .int (iI 0)]) in_X17 tyX17_ok rfl q1084 q1085 q130 (fun j hj => by rcases j with _ | _ | _ | _ | j <;> first | rfl | omega) (by decide) (by decide) dX0_lower_51 (fun b hab => ?_)
          have hZb : Z b = none := (hc.n (e := (oE 17 [.int (iI 0), .int (iI 0), .null, .int (iI 0)])) hab).2
          replace hc := (hc.n (e := (oE 17 [.int (iI 0), .int (iI 0), .null, .int (iI 0)])) hab).1
          generalize ga_u h b (oE 17 [.int (iI 0), .int (iI 0), .null, .int (iI 0)]) = h at hc ⊢
          refine ga_dup (pc := 54) dX0_lower_54 rfl ?_
          refine ga_aload_n (pc := 55) dX0_lower_55 rfl ?_
          refine cc_g_equations (pc := 56) hc dX0_lower_56 ?_
          refine ga_iload_n (pc := 59) dX0_lower_59 rfl ?_
          refine ga_aald (pc := 60) (N := 6) (f := Q 0) (hc.1 25 (by decide)) (by omega) (by decide) dX0_lower_60 ?_
          refine ga_eq (pc := 61) (st1 := [.ref p, .ref b, .ref b, .ref (ad 0)]) rfl rfl (congrArg (fun x => va_rf x :: [.ref b, .ref b, .ref (ad 0)]) (hqe)) ?_
          refine ga_iload_n (pc := 61) dX0_lower_61 rfl ?_
          refine ga_goV (pc := 62) (ga_runI (mc := 0) (ms := 0) (m_X17_init_17 _ _ _ b _ _ _ _ p kd y sh s (hc.2.2 b _ (ga_us _ _ _)).1 (hc.2.2 p _ (by rw [ga_un (fun q => by rw [q, hZb] at hp; cases hp)]; exact hp)).1 hkd) (lw_meth q1088) q130 q1086 q1087 rfl (show ga_nn' yX17_init 2 from (by unfold ga_nn'; decide +kernel)) ⟨rfl, rfl⟩ ⟨by show 3 + 1 ≤ _; exact Nat.le_of_ble_eq_true rfl, by show 8 + (3 + 11) + 64 * 3 ≤ _; exact Nat.le_of_ble_eq_true rfl⟩ ⟨Nat.le_of_ble_eq_true rfl, Nat.le_of_ble_eq_true rfl⟩ (Nat.le_of_ble_eq_true rfl) dX0_lower_62 rfl) (fun h1 hp => ?_)
          subst hp
          replace hc := hc.z (e := (oE 17 [.int (iI y), .int (iI sh), .ref p, .int (iI s)])) (ga_us _ _ _)
          rw [ga_uu] at hc
          generalize ga_u h b (oE 17 [.int (iI y), .int (iI sh), .ref p, .int (iI s)]) = h at hc ⊢
          have hZs : ∀ a e, Z a = some e → (ga_u Z b (oE 17 [.int (iI y), .int (iI sh), .ref p, .int (iI s)])) a = some e := fun a e z => by rw [ga_un (fun q => by rw [q, hZb] at z; cases z)]; exact z
          refine ga_iload_n (pc := 65) dX0_lower_65 rfl ?_
          have hpo : pOn (ga_u Z b (oE 17 [.int (iI y), .int (iI sh), .ref p, .int (iI s)])) b 8 kd y sh p s := ⟨by omega, hkd, fun z => by omega, fun z => by omega, fun _ => ga_us _ _ _, fun _ => ⟨y, sh, (by rw [ga_un (fun q => by rw [q, hZb] at hp; cases hp)]; exact hp)⟩⟩
          have hD := eqL (kx := 8) (fr := s) hm hkd hfl (by omega) (by omega) hms.2 hRl hTE hsh
          have hz := hD.2.2.2.2.1
          refine k_X0_laysOut_2 (pc := 66) (p := b) (q := p) (kx := 8) (kd := kd) (y := y) (sh := sh) (fr := s) (f0 := s) hc (hm) (hpo) (by omega) (he0) (he1) (he2) (hsh) (by omega) (by rw [hD.1]; omega) (by omega) ⟨Nat.le_of_ble_eq_true rfl, Nat.le_of_ble_eq_true rfl⟩ ⟨Nat.le_of_ble_eq_true rfl, Nat.le_of_ble_eq_true rfl⟩ (Nat.le_of_ble_eq_true rfl) dX0_lower_66 (fun J66 B66 hp66 h hc => ?_)
          obtain ⟨eJ2, g2, eB2, hg2⟩ := hp66
          subst eJ2
          subst eB2
          have hon : eOn ((J 30 - s) * J 31) (xUn 8 s (J 30) (J 31)) 10 g2 (mSys E (J 30) (J 31) kd 0 sh s) := cGr_on ⟨by rw [Int.mul_comm]; exact Int.le_refl _, by omega, by rw [hD.1]; omega⟩ hg2 hD.2.2.1
          replace hc : cOn h ad (uN (uN J 20 ((J 30 - s) * J 31)) 21 (xUn 8 s (J 30) (J 31))) (uN B 10 g2) Q (ga_u Z b (oE 17 [.int (iI y), .int (iI sh), .ref p, .int (iI s)])) := hc
          refine ga_aload_n (pc := 69) dX0_lower_69 rfl ?_
          refine k_X0_reduce (pc := 70) (T := (mSys E (J 30) (J 31) kd 0 sh s)) hc (show (0 ≤ ((J 30 - s) * J 31) ∧ ((J 30 - s) * J 31) ≤ 10) ∧ 0 ≤ (xUn 8 s (J 30) (J 31)) ∧ (xUn 8 s (J 30) (J 31)) ≤ 9 from by rw [hD.1]; omega) (show eOn (((J 30 - s) * J 31)) ((xUn 8 s (J 30) (J 31))) 10 (g2) (mSys E (J 30) (J 31) kd 0 sh s) from hon) (show eSafe (((J 30 - s) * J 31)) ((xUn 8 s (J 30) (J 31))) (mSys E (J 30) (J 31) kd 0 sh s) from hD.2.2.2.1) ⟨Nat.le_of_ble_eq_true rfl, Nat.le_of_ble_eq_true rfl⟩ ⟨Nat.le_of_ble_eq_true rfl, Nat.le_of_ble_eq_true rfl⟩ (Nat.le_of_ble_eq_true rfl) dX0_lower_70 (fun J70 B70 hp70 h hc => ?_)
          obtain ⟨eJ6, f6, g6, eB6, hf6, hg6⟩ := hp70
          replace hf6 : eOn ((J 30 - s) * J 31) (xUn 8 s (J 30) (J 31)) 10 f6 (eRed ((J 30 - s) * J 31) (mSys E (J 30) (J 31) kd 0 sh s) (xUn 8 s (J 30) (J 31)).toNat).1 := hf6
          subst eJ6
          subst eB6
          have hrr := eRed_r ((J 30 - s) * J 31) (mSys E (J 30) (J 31) kd 0 sh s) (by omega) (xUn 8 s (J 30) (J 31)).toNat
          have hs9 := hD.2.2.2.1 (xUn 8 s (J 30) (J 31)) (by rw [hD.1]; omega) (Int.le_refl _)
          replace hc : cOn h ad (uN (uN (uN (uN (uN J 20 ((J 30 - s) * J 31)) 21 (xUn 8 s (J 30) (J 31))) 22 ((eRed ((J 30 - s) * J 31) (mSys E (J 30) (J 31) kd 0 sh s) (xUn 8 s (J 30) (J 31)).toNat).2.1)) 23 (zSg (eRed ((J 30 - s) * J 31) (mSys E (J 30) (J 31) kd 0 sh s) (xUn 8 s (J 30) (J 31)).toNat).2.2.1)) 24 ((eRed ((J 30 - s) * J 31) (mSys E (J 30) (J 31) kd 0 sh s) (xUn 8 s (J 30) (J 31)).toNat).2.2.2.1)) (uN (uN B 10 f6) 11 g6) Q (ga_u Z b (oE 17 [.int (iI y), .int (iI sh), .ref p, .int (iI s)])) := hc
          refine ga_aload_n (pc := 73) dX0_lower_73 rfl ?_
          refine cc_g_rank (pc := 74) (z := (eRed ((J 30 - s) * J 31) (mSys E (J 30) (J 31) kd 0 sh s) (xUn 8 s (J 30) (J 31)).toNat).2.1) hc rfl dX0_lower_74 ?_
          refine ga_istore_n (pc := 77) (L1 := [some (.ref (ad 0)), some (.int (iI e)), some (.int (iI s)), some (.int (iI ((eRed ((J 30 - s) * J 31) (mSys E (J 30) (J 31) kd 0 sh s) (xUn 8 s (J 30) (J 31)).toNat).2.1)))]) dX0_lower_77 rfl (by decide) rfl ?_
          have lp78 : ∀ (N78 : Nat) (q9 : Int), ∀ h : ga_H, cOn h ad (uN (uN (uN (uN (uN J 20 ((J 30 - s) * J 31)) 21 (xUn 8 s (J 30) (J 31))) 22 ((eRed ((J 30 - s) * J 31) (mSys E (J 30) (J 31) kd 0 sh s) (xUn 8 s (J 30) (J 31)).toNat).2.1)) 23 (zSg (eRed ((J 30 - s) * J 31) (mSys E (J 30) (J 31) kd 0 sh s) (xUn 8 s (J 30) (J 31)).toNat).2.2.1)) 24 ((eRed ((J 30 - s) * J 31) (mSys E (J 30) (J 31) kd 0 sh s) (xUn 8 s (J 30) (J 31)).toNat).2.2.2.1)) (uN (uN B 10 f6) 11 g6) Q (ga_u Z b (oE 17 [.int (iI y), .int (iI sh), .ref p, .int (iI s)])) → ((eRed ((J 30 - s) * J 31) (mSys E (J 30) (J 31) kd 0 sh s) (xUn 8 s (J 30) (J 31)).toNat).2.1 ≤ q9 ∧ q9 ≤ ((J 30 - s) * J 31)) → (∀ i : Int, (eRed ((J 30 - s) * J 31) (mSys E (J 30) (J 31) kd 0 sh s) (xUn 8 s (J 30) (J 31)).toNat).2.1 ≤ i → i < q9 → (eRed ((J 30 - s) * J 31) (mSys E (J 30) (J 31) kd 0 sh s) (xUn 8 s (J 30) (J 31)).toNat).1 i (xUn 8 s (J 30) (J 31)) = 0) → (((J 30 - s) * J 31) - q9).toNat < N78 → G X (gK 7 1 4) RX0 4 cX0_lower h (0 + 1) (0 + 4) 78 [some (.ref (ad 0)), some (.int (iI e)), some (.int (iI s)), some (.int (iI q9))] [] := by
            intro N78
            induction N78 with
            | zero => intro q9 h hc hr hzz hN78; exact absurd hN78 (Nat.not_lt_zero _)
            | succ N78 ih78 =>
              intro q9 h hc hr hzz hN78
              refine ga_iload_n (pc := 78) dX0_lower_78 rfl ?_
              refine ga_aload_n (pc := 79) dX0_lower_79 rfl ?_
              refine cc_g_gridRows (pc := 80) (z := (J 30 - s) * J 31) hc rfl dX0_lower_80 ?_
              refine ga_icmp_ge (pc := 83) (tgt := 108) dX0_lower_83 rfl (by omega) (by omega) (fun c83 => ?_) (fun c83 => ?_)
              · skip
                refine ga_iconst (pc := 108) dX0_lower_108 ?_
                exact kc_iret (hc.sub hZs) hE dX0_lower_109 (by omega) (by omega) (⟨_, rfl, ⟨⟨rfl, rfl, rfl⟩, by (try dsimp only); refine ⟨by rw [if_pos (by omega), if_pos ⟨hss.1, hss.2, by unfold zLike; omega⟩, hD.2.2.2.2.2.1, hD.2.2.2.2.2.2, ← hD.1]; have h0 := eSlv_o (r := 1) (H := ((J 30 - s) * J 31)) (W := xUn 8 s (J 30) (J 31)) (S := (eRed ((J 30 - s) * J 31) (mSys E (J 30) (J 31) kd 0 sh s) (xUn 8 s (J 30) (J 31)).toNat)) hrr.1.2.2 (Or.inl ⟨rfl, fun i i0 i1 => hzz i i0 (by omega)⟩); rw [hz] at h0; exact h0, ((((((cSam.refl J B).uJ (by decide)).uJ (by decide)).uJ (by decide)).uJ (by decide)).uJ (by decide)).uB (by decide) |>.uB (by decide)⟩⟩⟩)
              · skip
                refine ga_aload_n (pc := 86) dX0_lower_86 rfl ?_
                refine ga_iload_n (pc := 87) dX0_lower_87 rfl ?_
                refine ga_aload_n (pc := 88) dX0_lower_88 rfl ?_
                refine cc_g_gridUnknowns (pc := 89) (z := xUn 8 s (J 30) (J 31)) hc rfl dX0_lower_89 ?_
                have hzr := hs9.1 q9 ((eRed ((J 30 - s) * J 31) (mSys E (J 30) (J 31) kd 0 sh s) (xUn 8 s (J 30) (J 31)).toNat).2.1 - (eRed ((J 30 - s) * J 31) (mSys E (J 30) (J 31) kd 0 sh s) (xUn 8 s (J 30) (J 31)).toNat).2.1 + xUn 8 s (J 30) (J 31)) (by omega) (by omega) (by rw [hD.1]; omega) (by omega)
                rw [Int.sub_self, Int.zero_add] at hzr
                have hze := hf6 q9 (xUn 8 s (J 30) (J 31)) (by omega) (by omega) (by rw [hD.1]; omega) (Int.le_refl _)
                refine k_X0_cell (pc := 92) (i := q9) (j := (xUn 8 s (J 30) (J 31))) (z := (eRed ((J 30 - s) * J 31) (mSys E (J 30) (J 31) kd 0 sh s) (xUn 8 s (J 30) (J 31)).toNat).1 q9 (xUn 8 s (J 30) (J 31))) hc (show 0 ≤ 10 * q9 + (xUn 8 s (J 30) (J 31)) ∧ 10 * q9 + (xUn 8 s (J 30) (J 31)) < 100 from by rw [hD.1]; omega) (hze) ⟨Nat.le_of_ble_eq_true rfl, Nat.le_of_ble_eq_true rfl⟩ ⟨Nat.le_of_ble_eq_true rfl, Nat.le_of_ble_eq_true rfl⟩ (Nat.le_of_ble_eq_true rfl) dX0_lower_92 (fun h hc => ?_)
                refine ga_lconst (pc := 95) 0 dX0_lower_95 rfl ?_
                refine ga_lcmp (pc := 96) dX0_lower_96 (by omega) (by omega) ?_
                refine ga_ifc_eq (pc := 97) (tgt := 102) dX0_lower_97 rfl (fun c97 => ?_) (fun c97 => ?_)
                · skip
                  refine ga_iinc (pc := 102) (L1 := [some (.ref (ad 0)), some (.int (iI e)), some (.int (iI s)), some (.int (iI (q9 + 1)))]) dX0_lower_102 rfl rfl (by decide) rfl ?_
                  refine ga_goto (pc := 105) (tgt := 78) dX0_lower_105 rfl ?_
                  exact ih78 (q9 + 1) h hc (by omega) (fun i i0 i1 => by by_cases e : i = q9; (rw [e]; omega); exact hzz i i0 (by omega)) (by omega)
                · skip
                  refine ga_iconst (pc := 100) dX0_lower_100 ?_
                  exact kc_iret (hc.sub hZs) hE dX0_lower_101 (by omega) (by omega) (⟨_, rfl, ⟨⟨rfl, rfl, rfl⟩, by (try dsimp only); refine ⟨by rw [if_pos (by omega), if_pos ⟨hss.1, hss.2, by unfold zLike; omega⟩, hD.2.2.2.2.2.1, hD.2.2.2.2.2.2, ← hD.1]; have h0 := eSlv_o (r := 0) (H := ((J 30 - s) * J 31)) (W := xUn 8 s (J 30) (J 31)) (S := (eRed ((J 30 - s) * J 31) (mSys E (J 30) (J 31) kd 0 sh s) (xUn 8 s (J 30) (J 31)).toNat)) hrr.1.2.2 (Or.inr ⟨rfl, fun z => c97 (z q9 hr.1 (by omega))⟩); rw [hz] at h0; exact h0, ((((((cSam.refl J B).uJ (by decide)).uJ (by decide)).uJ (by decide)).uJ (by decide)).uJ (by decide)).uB (by decide) |>.uB (by decide)⟩⟩⟩)
          exact lp78 _ ((eRed ((J 30 - s) * J 31) (mSys E (J 30) (J 31) kd 0 sh s) (xUn 8 s (J 30) (J 31)).toNat).2.1) h hc (by omega) (fun i i0 i1 => by omega) (Nat.lt_succ_self _)
        · skip
          refine ga_bipush (pc := 47) dX0_lower_47 rfl ?_
          exact kc_iret hc hE dX0_lower_49 (by omega) (by omega) (⟨_, rfl, ⟨⟨rfl, rfl, rfl⟩, by (try dsimp only); exact ⟨by rw [if_pos (by omega), if_neg (fun z => by have z2 := z.2.2; unfold zLike at z2; omega)], cSam.refl _ _⟩⟩⟩)
    · skip
      refine ga_iconst (pc := 17) dX0_lower_17 ?_
      exact kc_iret hc hE dX0_lower_18 (by omega) (by omega) (⟨_, rfl, ⟨⟨rfl, rfl, rfl⟩, by (try dsimp only); exact ⟨by rw [if_neg (by omega)], cSam.refl _ _⟩⟩⟩)
