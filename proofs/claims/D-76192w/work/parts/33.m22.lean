/-! THE REFERENCE: the whole -/
def zFts (I : Nat → Int) (A : Nat → Int → Int) : Nat → Int
  | 0 => 0
  | k + 1 => zor (zFts I A k) (if zFit (I 3) (I 4) (A 11 k) then zshl 1 k else 0)
theorem zFts_s (I : Nat → Int) (A : Nat → Int → Int) {k : Int} (h : 0 ≤ k) : zFts I A (k + 1).toNat = zor (zFts I A k.toNat) (if zFit (I 3) (I 4) (A 11 k) then zshl 1 k else 0) := by
  rw [show (k + 1).toNat = k.toNat + 1 by omega]
  have e : ((k.toNat : Nat) : Int) = k := by omega
  show zor (zFts I A k.toNat) (if zFit (I 3) (I 4) (A 11 (k.toNat : Nat)) then zshl 1 (k.toNat : Nat) else 0) = _
  rw [e]
def zSps (A : Nat → Int → Int) (m : Int) : Nat → Int
  | 0 => 0
  | k + 1 => zor (zSps A m k) (if zSpl A m (k + 1) then zshl 1 (k + 1) else 0)
theorem zSps_s (A : Nat → Int → Int) (m : Int) {s : Int} (h : 1 ≤ s) : zSps A m (s + 1 - 1).toNat = zor (zSps A m (s - 1).toNat) (if zSpl A m s then zshl 1 s else 0) := by
  rw [show (s + 1 - 1).toNat = (s - 1).toNat + 1 by omega]
  have e : (((s - 1).toNat : Nat) : Int) + 1 = s := by omega
  show zor (zSps A m (s - 1).toNat) (if zSpl A m (((s - 1).toNat : Nat) + 1) then zshl 1 (((s - 1).toNat : Nat) + 1) else 0) = _
  rw [e]
def mMny (I : Nat → Int) (A : Nat → Int → Int) (w : Int) : Int := if w = 0 then I 3 else if w = 1 then I 4 else if w = 2 then I 5 else if w = 3 then I 17 else if w = 4 then I 42 else if w = 5 then zFts I A (I 5).toNat else if w = 6 then zSps A (I 3) (I 3 - 1).toNat else -1
set_option maxHeartbeats 4000000 in
set_option maxRecDepth 100000 in
theorem m_X8_act (l : Launch) (D : ga_G) (mo : Nat) (ad : Nat → Nat) (I : Nat → Int) (A : Nat → Int → Int) (s a x : Int) (hhl : mHl A) (heq : mEq I A) (h1 : (-2147483648 ≤ s ∧ s < 2147483648) ∧ (-2147483648 ≤ a ∧ a < 2147483648) ∧ (-2147483648 ≤ x ∧ x < 2147483648)) : mM l D yX8_act (ws_ yX8_act cX8_act 5 (some .int)) (gR 10) [.int (iI s), .int (iI a), .int (iI x)] mo ad I A (mI (fun r I1 A1 => if mAc I A s a then r = zAc a (A 11 (A 39 s)) (A 39 s) (A 12 (A 39 s)) x ∧ I1 42 = (zAr9 a (A 11 (A 39 s)) (A 39 s) (A 12 (A 39 s)) (0, A 41)).1 ∧ A1 = uN A 41 (zAr9 a (A 11 (A 39 s)) (A 39 s) (A 12 (A 39 s)) (0, A 41)).2 ∧ ∀ k : Nat, k ∉ [42, 43, 44, 45, 46] → I1 k = I k else r = 0 ∧ I1 = uN I 42 0 ∧ A1 = A)) := by
  refine mm_met 1 rfl (Nat.le_of_ble_eq_true rfl) (L0 := [some (.ref mo), some (.int (iI s)), some (.int (iI a)), some (.int (iI x)), none]) rfl (fun X ok hE => ?_)
  refine ga_aload_n (pc := 0) dX8_act_0 rfl ?_
  refine ga_iconst (pc := 1) dX8_act_1 ?_
  refine mm_p42 (pc := 2) (I1 := (uN I 42 0)) (rfl) dX8_act_2 ?_
  refine ga_iload_n (pc := 5) dX8_act_5 rfl ?_
  refine k_X8_isShelf (pc := 6) (b := s) (by omega) (rfl) ⟨Nat.le_of_ble_eq_true rfl, Nat.le_of_ble_eq_true rfl⟩ ⟨Nat.le_of_ble_eq_true rfl, Nat.le_of_ble_eq_true rfl⟩ (Nat.le_of_ble_eq_true rfl) dX8_act_6 ?_
  refine ga_ifb_eq (pc := 9) (tgt := 32) dX8_act_9 rfl (fun c9 => ?_) (fun c9 => ?_)
  · skip
    refine ga_iconst (pc := 32) dX8_act_32 ?_
    exact mm_iret hE dX8_act_33 (⟨_, rfl, by dsimp only; rw [if_neg (by omega)]; exact ⟨rfl, rfl, rfl⟩⟩)
  · skip
    refine ga_iload_n (pc := 12) dX8_act_12 rfl ?_
    refine ga_i2l (pc := 13) dX8_act_13 (by omega) ?_
    refine ga_lconst (pc := 14) 0 dX8_act_14 rfl ?_
    refine ga_ldc2 (pc := 15) (3) dX8_act_15 q1731 rfl ?_
    refine k_X8_in (pc := 18) (a := a) (b := 0) (c := (3)) (by omega) (rfl) ⟨Nat.le_of_ble_eq_true rfl, Nat.le_of_ble_eq_true rfl⟩ ⟨Nat.le_of_ble_eq_true rfl, Nat.le_of_ble_eq_true rfl⟩ (Nat.le_of_ble_eq_true rfl) dX8_act_18 ?_
    refine ga_ifb_eq (pc := 21) (tgt := 32) dX8_act_21 rfl (fun c21 => ?_) (fun c21 => ?_)
    · skip
      refine ga_iconst (pc := 32) dX8_act_32 ?_
      exact mm_iret hE dX8_act_33 (⟨_, rfl, by dsimp only; rw [if_neg (by omega)]; exact ⟨rfl, rfl, rfl⟩⟩)
    · skip
      have hh := hhl s (by omega) (by omega)
      have hhr : 0 ≤ mHb I A s ∧ mHb I A s ≤ 2 := by { unfold mHb; split <;> omega }
      refine ga_aload_n (pc := 24) dX8_act_24 rfl ?_
      refine ga_iload_n (pc := 25) dX8_act_25 rfl ?_
      refine k_X8_heldBy (pc := 26) (s := s) (z := (mHb I A s)) ok (show mHl A from hhl) (show 0 ≤ (I 5) ∧ (I 5) ≤ 6 from heq.1) (show 0 ≤ s ∧ s ≤ 3 from by first | exact h1 | omega) (rfl) ⟨Nat.le_of_ble_eq_true rfl, Nat.le_of_ble_eq_true rfl⟩ (Nat.le_of_ble_eq_true rfl) dX8_act_26 ?_
      refine ga_if_eq (pc := 29) (tgt := 34) dX8_act_29 rfl (by omega) (fun c29 => ?_) (fun c29 => ?_)
      · skip
        have hh := hhl s (by omega) (by omega)
        have hhc : 0 ≤ A 39 s ∧ A 39 s < I 5 := by { have z : mHb I A s = 0 := (by omega); unfold mHb at z; split at z <;> omega }
        have hkk := heq.2 (A 39 s) hhc.1 hhc.2
        refine ga_aload_n (pc := 34) dX8_act_34 rfl ?_
        refine ga_aload_n (pc := 35) dX8_act_35 rfl ?_
        refine mm_g39 (pc := 36) dX8_act_36 ?_
        refine ga_iload_n (pc := 39) dX8_act_39 rfl ?_
        refine mm_ald39 (pc := 40) (x := A 39 s) ok (by omega) (rfl) dX8_act_40 ?_
        refine mm_p44 (pc := 41) (I1 := (uN (uN I 42 0) 44 (A 39 s))) (rfl) dX8_act_41 ?_
        refine ga_aload_n (pc := 44) dX8_act_44 rfl ?_
        refine ga_aload_n (pc := 45) dX8_act_45 rfl ?_
        refine mm_g11 (pc := 46) dX8_act_46 ?_
        refine ga_aload_n (pc := 49) dX8_act_49 rfl ?_
        refine mm_g44 (pc := 50) (z := A 39 s) rfl dX8_act_50 ?_
        refine mm_ald11 (pc := 53) (x := A 11 (A 39 s)) ok (by omega) (rfl) dX8_act_53 ?_
        refine mm_p43 (pc := 54) (I1 := (uN (uN (uN I 42 0) 44 (A 39 s)) 43 (A 11 (A 39 s)))) (rfl) dX8_act_54 ?_
        refine ga_aload_n (pc := 57) dX8_act_57 rfl ?_
        refine ga_aload_n (pc := 58) dX8_act_58 rfl ?_
        refine mm_g12 (pc := 59) dX8_act_59 ?_
        refine ga_aload_n (pc := 62) dX8_act_62 rfl ?_
        refine mm_g44 (pc := 63) (z := A 39 s) rfl dX8_act_63 ?_
        refine mm_ald12 (pc := 66) (x := A 12 (A 39 s)) ok (by omega) (rfl) dX8_act_66 ?_
        refine mm_p45 (pc := 67) (I1 := (uN (uN (uN (uN I 42 0) 44 (A 39 s)) 43 (A 11 (A 39 s))) 45 (A 12 (A 39 s)))) (rfl) dX8_act_67 ?_
        refine ga_aload_n (pc := 70) dX8_act_70 rfl ?_
        refine ga_iconst (pc := 71) dX8_act_71 ?_
        refine mm_p46 (pc := 72) (I1 := (uN (uN (uN (uN (uN I 42 0) 44 (A 39 s)) 43 (A 11 (A 39 s))) 45 (A 12 (A 39 s))) 46 0)) (by first | exact Or.inl rfl | exact Or.inr rfl) (rfl) dX8_act_72 ?_
        have jn118 : ∀ (v : Int) (pd : Int) (t2 : zRs), (t2 = zAr9 a (A 11 (A 39 s)) (A 39 s) (A 12 (A 39 s)) (0, A 41)) → (pd = if 2 ≤ a ∧ A 39 s = A 12 (A 39 s) then 1 else 0) → (pd = 0 → v = zAc a (A 11 (A 39 s)) (A 39 s) (A 12 (A 39 s)) x) → G X (gR 10) RX8 5 cX8_act (mH mo ad (uN (uN (uN (uN (uN I 42 t2.1) 44 (A 39 s)) 43 (A 11 (A 39 s))) 45 (A 12 (A 39 s))) 46 pd) (uN A 41 t2.2)) 0 0 118 [some (.ref mo), some (.int (iI s)), some (.int (iI a)), some (.int (iI x)), none] [.int (iI v)] := by
          intro v pd t2 ht2 hpd hvv
          refine ga_istore (pc := 118) (L1 := [some (.ref mo), some (.int (iI s)), some (.int (iI a)), some (.int (iI x)), some (.int (iI v))]) dX8_act_118 rfl (by decide) rfl ?_
          refine ga_aload_n (pc := 120) dX8_act_120 rfl ?_
          refine mm_g46 (pc := 121) (z := pd) rfl dX8_act_121 ?_
          refine ga_if_eq (pc := 124) (tgt := 132) dX8_act_124 rfl (by omega) (fun c124 => ?_) (fun c124 => ?_)
          · skip
            refine ga_iload (pc := 132) dX8_act_132 rfl ?_
            exact mm_iret hE dX8_act_134 (⟨_, rfl, by dsimp only; rw [if_pos (by omega)]; exact ⟨by rw [← hvv (by omega)], by rw [ht2]; rfl, by rw [ht2], fun k hk => by simp only [List.mem_cons, List.not_mem_nil, or_false, not_or] at hk; show uN (uN (uN (uN (uN I 42 _) 44 _) 43 _) 45 _) 46 _ k = _; rw [uN_n _ _ hk.2.2.2.2, uN_n _ _ hk.2.2.2.1, uN_n _ _ hk.2.1, uN_n _ _ hk.2.2.1, uN_n _ _ hk.1]⟩⟩)
          · skip
            refine ga_bipush (pc := 127) dX8_act_127 rfl ?_
            refine ga_goto (pc := 129) (tgt := 134) dX8_act_129 rfl ?_
            exact mm_iret hE dX8_act_134 (⟨_, rfl, by dsimp only; rw [if_pos (by omega)]; exact ⟨by unfold zAc; (by_cases g : 2 ≤ a ∧ A 39 s = A 12 (A 39 s); ((repeat' split) <;> first | rfl | (exfalso; omega) | omega); (exfalso; rw [if_neg g] at hpd; omega)), by rw [ht2]; rfl, by rw [ht2], fun k hk => by simp only [List.mem_cons, List.not_mem_nil, or_false, not_or] at hk; show uN (uN (uN (uN (uN I 42 _) 44 _) 43 _) 45 _) 46 _ k = _; rw [uN_n _ _ hk.2.2.2.2, uN_n _ _ hk.2.2.2.1, uN_n _ _ hk.2.1, uN_n _ _ hk.2.2.1, uN_n _ _ hk.1]⟩⟩)
        refine ga_iload_n (pc := 75) dX8_act_75 rfl ?_
        refine ga_if_ne (pc := 76) (tgt := 87) dX8_act_76 rfl (by omega) (fun c76 => ?_) (fun c76 => ?_)
        · skip
          refine ga_iload_n (pc := 87) dX8_act_87 rfl ?_
          refine ga_iconst (pc := 88) dX8_act_88 ?_
          refine ga_icmp_ne (pc := 89) (tgt := 100) dX8_act_89 rfl (by omega) (by omega) (fun c89 => ?_) (fun c89 => ?_)
          · skip
            refine ga_iload_n (pc := 100) dX8_act_100 rfl ?_
            refine ga_iconst (pc := 101) dX8_act_101 ?_
            refine ga_icmp_ne (pc := 102) (tgt := 113) dX8_act_102 rfl (by omega) (by omega) (fun c102 => ?_) (fun c102 => ?_)
            · skip
              refine ga_aload_n (pc := 113) dX8_act_113 rfl ?_
              refine ga_iload_n (pc := 114) dX8_act_114 rfl ?_
              refine k_X8_closes (pc := 115) (x := x) (t := (0, A 41)) (z := zCl ((A 11 (A 39 s))) ((A 39 s)) ((A 12 (A 39 s))) x) (I2 := (uN (uN (uN (uN (uN I 42 ((zClr ((A 11 (A 39 s))) ((A 39 s)) ((A 12 (A 39 s))) (0, A 41)).1)) 44 (A 39 s)) 43 (A 11 (A 39 s))) 45 (A 12 (A 39 s))) 46 (if (A 39 s) = (A 12 (A 39 s)) then 1 else 0))) (A2 := (uN A 41 ((zClr ((A 11 (A 39 s))) ((A 39 s)) ((A 12 (A 39 s))) (0, A 41)).2))) ok (show 0 = (0, A 41).1 ∧ A 41 = (0, A 41).2 from ⟨rfl, rfl⟩) (show 0 ≤ (0, A 41).1 ∧ (0, A 41).1 ≤ 30 from (show (0 : Int) ≤ 0 ∧ (0 : Int) ≤ 30 from ⟨by decide, by decide⟩)) (show (0 ≤ (A 11 (A 39 s)) ∧ (A 11 (A 39 s)) ≤ 6) ∧ (0 ≤ (A 39 s) ∧ (A 39 s) ≤ 5) ∧ -2 ≤ (A 12 (A 39 s)) ∧ (A 12 (A 39 s)) ≤ 2 from ⟨hkk.1, by omega, hkk.2⟩) (show 0 = 0 from rfl) (rfl) (by funext j; by_cases e0 : j = 42; (subst e0; rfl); by_cases e1 : j = 44; (subst e1; rfl); by_cases e2 : j = 43; (subst e2; rfl); by_cases e3 : j = 45; (subst e3; rfl); by_cases e4 : j = 46; (subst e4; rfl); simp only [uN, if_neg e0, if_neg e1, if_neg e2, if_neg e3, if_neg e4]) (rfl) ⟨Nat.le_of_ble_eq_true rfl, Nat.le_of_ble_eq_true rfl⟩ (Nat.le_of_ble_eq_true rfl) dX8_act_115 ?_
              refine ga_heq (pc := 118) (h1 := mH mo ad (uN (uN (uN (uN (uN I 42 ((zAr9 a (A 11 (A 39 s)) (A 39 s) (A 12 (A 39 s)) (0, A 41)).1)) 44 (A 39 s)) 43 (A 11 (A 39 s))) 45 (A 12 (A 39 s))) 46 (if (A 39 s) = (A 12 (A 39 s)) then 1 else 0)) (uN A 41 ((zAr9 a (A 11 (A 39 s)) (A 39 s) (A 12 (A 39 s)) (0, A 41)).2))) (congr (congrArg (mH mo ad) (by funext j; by_cases e0 : j = 42; (subst e0; exact (show ((zClr ((A 11 (A 39 s))) ((A 39 s)) ((A 12 (A 39 s))) (0, A 41)).1) = ((zAr9 a (A 11 (A 39 s)) (A 39 s) (A 12 (A 39 s)) (0, A 41)).1) from by unfold zAr9; first | (rw [if_pos (by omega)]; done) | (rw [if_neg (by omega), if_pos (by omega)]; done) | (rw [if_neg (by omega), if_neg (by omega), if_pos (by omega)]; done) | (rw [if_neg (by omega), if_neg (by omega), if_neg (by omega)]))); by_cases e1 : j = 44; (subst e1; rfl); by_cases e2 : j = 43; (subst e2; rfl); by_cases e3 : j = 45; (subst e3; rfl); by_cases e4 : j = 46; (subst e4; rfl); simp only [uN, if_neg e0, if_neg e1, if_neg e2, if_neg e3, if_neg e4])) (by funext j; by_cases e0 : j = 41; (subst e0; exact (show ((zClr ((A 11 (A 39 s))) ((A 39 s)) ((A 12 (A 39 s))) (0, A 41)).2) = ((zAr9 a (A 11 (A 39 s)) (A 39 s) (A 12 (A 39 s)) (0, A 41)).2) from by unfold zAr9; first | (rw [if_pos (by omega)]; done) | (rw [if_neg (by omega), if_pos (by omega)]; done) | (rw [if_neg (by omega), if_neg (by omega), if_pos (by omega)]; done) | (rw [if_neg (by omega), if_neg (by omega), if_neg (by omega)]))); simp only [uN, if_neg e0])) ?_
              exact jn118 (zCl ((A 11 (A 39 s))) ((A 39 s)) ((A 12 (A 39 s))) x) (if (A 39 s) = (A 12 (A 39 s)) then 1 else 0) (zAr9 a (A 11 (A 39 s)) (A 39 s) (A 12 (A 39 s)) (0, A 41)) (rfl) (by first | (rw [if_neg (by omega)]; done) | ((repeat' split) <;> first | rfl | omega)) (fun z => by unfold zAc; (repeat' split) <;> first | rfl | (exfalso; omega) | omega | (exfalso; revert z; rw [if_pos (by omega)]; decide))
            · skip
              refine ga_aload_n (pc := 105) dX8_act_105 rfl ?_
              refine ga_iload_n (pc := 106) dX8_act_106 rfl ?_
              refine k_X8_parts (pc := 107) (x := x) (t := (0, A 41)) (z := zPa ((A 11 (A 39 s))) ((A 39 s)) ((A 12 (A 39 s))) x) (I2 := (uN (uN (uN (uN (uN I 42 ((zQr ((A 11 (A 39 s))) ((A 39 s)) ((A 12 (A 39 s))) (0, A 41)).1)) 44 (A 39 s)) 43 (A 11 (A 39 s))) 45 (A 12 (A 39 s))) 46 (if (A 39 s) = (A 12 (A 39 s)) then 1 else 0))) (A2 := (uN A 41 ((zQr ((A 11 (A 39 s))) ((A 39 s)) ((A 12 (A 39 s))) (0, A 41)).2))) ok (show 0 = (0, A 41).1 ∧ A 41 = (0, A 41).2 from ⟨rfl, rfl⟩) (show 0 ≤ (0, A 41).1 ∧ (0, A 41).1 ≤ 30 from (show (0 : Int) ≤ 0 ∧ (0 : Int) ≤ 30 from ⟨by decide, by decide⟩)) (show (0 ≤ (A 11 (A 39 s)) ∧ (A 11 (A 39 s)) ≤ 6) ∧ (0 ≤ (A 39 s) ∧ (A 39 s) ≤ 5) ∧ -2 ≤ (A 12 (A 39 s)) ∧ (A 12 (A 39 s)) ≤ 2 from ⟨hkk.1, by omega, hkk.2⟩) (show zI32 x from h1.2.2) (show 0 = 0 from rfl) (rfl) (by funext j; by_cases e0 : j = 42; (subst e0; rfl); by_cases e1 : j = 44; (subst e1; rfl); by_cases e2 : j = 43; (subst e2; rfl); by_cases e3 : j = 45; (subst e3; rfl); by_cases e4 : j = 46; (subst e4; rfl); simp only [uN, if_neg e0, if_neg e1, if_neg e2, if_neg e3, if_neg e4]) (rfl) ⟨Nat.le_of_ble_eq_true rfl, Nat.le_of_ble_eq_true rfl⟩ (Nat.le_of_ble_eq_true rfl) dX8_act_107 ?_
              refine ga_goto (pc := 110) (tgt := 118) dX8_act_110 rfl ?_
              refine ga_heq (pc := 118) (h1 := mH mo ad (uN (uN (uN (uN (uN I 42 ((zAr9 a (A 11 (A 39 s)) (A 39 s) (A 12 (A 39 s)) (0, A 41)).1)) 44 (A 39 s)) 43 (A 11 (A 39 s))) 45 (A 12 (A 39 s))) 46 (if (A 39 s) = (A 12 (A 39 s)) then 1 else 0)) (uN A 41 ((zAr9 a (A 11 (A 39 s)) (A 39 s) (A 12 (A 39 s)) (0, A 41)).2))) (congr (congrArg (mH mo ad) (by funext j; by_cases e0 : j = 42; (subst e0; exact (show ((zQr ((A 11 (A 39 s))) ((A 39 s)) ((A 12 (A 39 s))) (0, A 41)).1) = ((zAr9 a (A 11 (A 39 s)) (A 39 s) (A 12 (A 39 s)) (0, A 41)).1) from by unfold zAr9; first | (rw [if_pos (by omega)]; done) | (rw [if_neg (by omega), if_pos (by omega)]; done) | (rw [if_neg (by omega), if_neg (by omega), if_pos (by omega)]; done) | (rw [if_neg (by omega), if_neg (by omega), if_neg (by omega)]))); by_cases e1 : j = 44; (subst e1; rfl); by_cases e2 : j = 43; (subst e2; rfl); by_cases e3 : j = 45; (subst e3; rfl); by_cases e4 : j = 46; (subst e4; rfl); simp only [uN, if_neg e0, if_neg e1, if_neg e2, if_neg e3, if_neg e4])) (by funext j; by_cases e0 : j = 41; (subst e0; exact (show ((zQr ((A 11 (A 39 s))) ((A 39 s)) ((A 12 (A 39 s))) (0, A 41)).2) = ((zAr9 a (A 11 (A 39 s)) (A 39 s) (A 12 (A 39 s)) (0, A 41)).2) from by unfold zAr9; first | (rw [if_pos (by omega)]; done) | (rw [if_neg (by omega), if_pos (by omega)]; done) | (rw [if_neg (by omega), if_neg (by omega), if_pos (by omega)]; done) | (rw [if_neg (by omega), if_neg (by omega), if_neg (by omega)]))); simp only [uN, if_neg e0])) ?_
              exact jn118 (zPa ((A 11 (A 39 s))) ((A 39 s)) ((A 12 (A 39 s))) x) (if (A 39 s) = (A 12 (A 39 s)) then 1 else 0) (zAr9 a (A 11 (A 39 s)) (A 39 s) (A 12 (A 39 s)) (0, A 41)) (rfl) (by first | (rw [if_neg (by omega)]; done) | ((repeat' split) <;> first | rfl | omega)) (fun z => by unfold zAc; (repeat' split) <;> first | rfl | (exfalso; omega) | omega | (exfalso; revert z; rw [if_pos (by omega)]; decide))
          · skip
            refine ga_aload_n (pc := 92) dX8_act_92 rfl ?_
            refine ga_iload_n (pc := 93) dX8_act_93 rfl ?_
            refine k_X8_turns (pc := 94) (x := x) (t := (0, A 41)) (z := zTu ((A 11 (A 39 s))) ((A 39 s)) ((A 12 (A 39 s))) x) (I2 := (uN (uN (uN (uN (uN I 42 ((zTr ((A 11 (A 39 s))) (0, A 41)).1)) 44 (A 39 s)) 43 (A 11 (A 39 s))) 45 (A 12 (A 39 s))) 46 0)) (A2 := (uN A 41 ((zTr ((A 11 (A 39 s))) (0, A 41)).2))) ok (show 0 = (0, A 41).1 ∧ A 41 = (0, A 41).2 from ⟨rfl, rfl⟩) (show 0 ≤ (0, A 41).1 ∧ (0, A 41).1 ≤ 30 from (show (0 : Int) ≤ 0 ∧ (0 : Int) ≤ 30 from ⟨by decide, by decide⟩)) (show (0 ≤ (A 11 (A 39 s)) ∧ (A 11 (A 39 s)) ≤ 6) ∧ (0 ≤ (A 39 s) ∧ (A 39 s) ≤ 5) ∧ -2 ≤ (A 12 (A 39 s)) ∧ (A 12 (A 39 s)) ≤ 2 from ⟨hkk.1, by omega, hkk.2⟩) (rfl) (by funext j; by_cases e0 : j = 42; (subst e0; rfl); by_cases e1 : j = 44; (subst e1; rfl); by_cases e2 : j = 43; (subst e2; rfl); by_cases e3 : j = 45; (subst e3; rfl); by_cases e4 : j = 46; (subst e4; rfl); simp only [uN, if_neg e0, if_neg e1, if_neg e2, if_neg e3, if_neg e4]) (rfl) ⟨Nat.le_of_ble_eq_true rfl, Nat.le_of_ble_eq_true rfl⟩ (Nat.le_of_ble_eq_true rfl) dX8_act_94 ?_
            refine ga_goto (pc := 97) (tgt := 118) dX8_act_97 rfl ?_
            refine ga_heq (pc := 118) (h1 := mH mo ad (uN (uN (uN (uN (uN I 42 ((zAr9 a (A 11 (A 39 s)) (A 39 s) (A 12 (A 39 s)) (0, A 41)).1)) 44 (A 39 s)) 43 (A 11 (A 39 s))) 45 (A 12 (A 39 s))) 46 0) (uN A 41 ((zAr9 a (A 11 (A 39 s)) (A 39 s) (A 12 (A 39 s)) (0, A 41)).2))) (congr (congrArg (mH mo ad) (by funext j; by_cases e0 : j = 42; (subst e0; exact (show ((zTr ((A 11 (A 39 s))) (0, A 41)).1) = ((zAr9 a (A 11 (A 39 s)) (A 39 s) (A 12 (A 39 s)) (0, A 41)).1) from by unfold zAr9; first | (rw [if_pos (by omega)]; done) | (rw [if_neg (by omega), if_pos (by omega)]; done) | (rw [if_neg (by omega), if_neg (by omega), if_pos (by omega)]; done) | (rw [if_neg (by omega), if_neg (by omega), if_neg (by omega)]))); by_cases e1 : j = 44; (subst e1; rfl); by_cases e2 : j = 43; (subst e2; rfl); by_cases e3 : j = 45; (subst e3; rfl); by_cases e4 : j = 46; (subst e4; rfl); simp only [uN, if_neg e0, if_neg e1, if_neg e2, if_neg e3, if_neg e4])) (by funext j; by_cases e0 : j = 41; (subst e0; exact (show ((zTr ((A 11 (A 39 s))) (0, A 41)).2) = ((zAr9 a (A 11 (A 39 s)) (A 39 s) (A 12 (A 39 s)) (0, A 41)).2) from by unfold zAr9; first | (rw [if_pos (by omega)]; done) | (rw [if_neg (by omega), if_pos (by omega)]; done) | (rw [if_neg (by omega), if_neg (by omega), if_pos (by omega)]; done) | (rw [if_neg (by omega), if_neg (by omega), if_neg (by omega)]))); simp only [uN, if_neg e0])) ?_
            exact jn118 (zTu ((A 11 (A 39 s))) ((A 39 s)) ((A 12 (A 39 s))) x) 0 (zAr9 a (A 11 (A 39 s)) (A 39 s) (A 12 (A 39 s)) (0, A 41)) (rfl) (by first | (rw [if_neg (by omega)]; done) | ((repeat' split) <;> first | rfl | omega)) (fun z => by unfold zAc; (repeat' split) <;> first | rfl | (exfalso; omega) | omega | (exfalso; revert z; rw [if_pos (by omega)]; decide))
        · skip
          refine ga_aload_n (pc := 79) dX8_act_79 rfl ?_
          refine ga_iload_n (pc := 80) dX8_act_80 rfl ?_
          refine k_X8_weighs (pc := 81) (x := x) (t := (0, A 41)) (z := zWe ((A 11 (A 39 s))) ((A 39 s)) ((A 12 (A 39 s))) x) (I2 := (uN (uN (uN (uN (uN I 42 ((zWr ((A 11 (A 39 s))) (0, A 41)).1)) 44 (A 39 s)) 43 (A 11 (A 39 s))) 45 (A 12 (A 39 s))) 46 0)) (A2 := (uN A 41 ((zWr ((A 11 (A 39 s))) (0, A 41)).2))) ok (show 0 = (0, A 41).1 ∧ A 41 = (0, A 41).2 from ⟨rfl, rfl⟩) (show 0 ≤ (0, A 41).1 ∧ (0, A 41).1 ≤ 30 from (show (0 : Int) ≤ 0 ∧ (0 : Int) ≤ 30 from ⟨by decide, by decide⟩)) (show (0 ≤ (A 11 (A 39 s)) ∧ (A 11 (A 39 s)) ≤ 6) ∧ (0 ≤ (A 39 s) ∧ (A 39 s) ≤ 5) ∧ -2 ≤ (A 12 (A 39 s)) ∧ (A 12 (A 39 s)) ≤ 2 from ⟨hkk.1, by omega, hkk.2⟩) (rfl) (by funext j; by_cases e0 : j = 42; (subst e0; rfl); by_cases e1 : j = 44; (subst e1; rfl); by_cases e2 : j = 43; (subst e2; rfl); by_cases e3 : j = 45; (subst e3; rfl); by_cases e4 : j = 46; (subst e4; rfl); simp only [uN, if_neg e0, if_neg e1, if_neg e2, if_neg e3, if_neg e4]) (rfl) ⟨Nat.le_of_ble_eq_true rfl, Nat.le_of_ble_eq_true rfl⟩ (Nat.le_of_ble_eq_true rfl) dX8_act_81 ?_
          refine ga_goto (pc := 84) (tgt := 118) dX8_act_84 rfl ?_
          refine ga_heq (pc := 118) (h1 := mH mo ad (uN (uN (uN (uN (uN I 42 ((zAr9 a (A 11 (A 39 s)) (A 39 s) (A 12 (A 39 s)) (0, A 41)).1)) 44 (A 39 s)) 43 (A 11 (A 39 s))) 45 (A 12 (A 39 s))) 46 0) (uN A 41 ((zAr9 a (A 11 (A 39 s)) (A 39 s) (A 12 (A 39 s)) (0, A 41)).2))) (congr (congrArg (mH mo ad) (by funext j; by_cases e0 : j = 42; (subst e0; exact (show ((zWr ((A 11 (A 39 s))) (0, A 41)).1) = ((zAr9 a (A 11 (A 39 s)) (A 39 s) (A 12 (A 39 s)) (0, A 41)).1) from by unfold zAr9; first | (rw [if_pos (by omega)]; done) | (rw [if_neg (by omega), if_pos (by omega)]; done) | (rw [if_neg (by omega), if_neg (by omega), if_pos (by omega)]; done) | (rw [if_neg (by omega), if_neg (by omega), if_neg (by omega)]))); by_cases e1 : j = 44; (subst e1; rfl); by_cases e2 : j = 43; (subst e2; rfl); by_cases e3 : j = 45; (subst e3; rfl); by_cases e4 : j = 46; (subst e4; rfl); simp only [uN, if_neg e0, if_neg e1, if_neg e2, if_neg e3, if_neg e4])) (by funext j; by_cases e0 : j = 41; (subst e0; exact (show ((zWr ((A 11 (A 39 s))) (0, A 41)).2) = ((zAr9 a (A 11 (A 39 s)) (A 39 s) (A 12 (A 39 s)) (0, A 41)).2) from by unfold zAr9; first | (rw [if_pos (by omega)]; done) | (rw [if_neg (by omega), if_pos (by omega)]; done) | (rw [if_neg (by omega), if_neg (by omega), if_pos (by omega)]; done) | (rw [if_neg (by omega), if_neg (by omega), if_neg (by omega)]))); simp only [uN, if_neg e0])) ?_
          exact jn118 (zWe ((A 11 (A 39 s))) ((A 39 s)) ((A 12 (A 39 s))) x) 0 (zAr9 a (A 11 (A 39 s)) (A 39 s) (A 12 (A 39 s)) (0, A 41)) (rfl) (by first | (rw [if_neg (by omega)]; done) | ((repeat' split) <;> first | rfl | omega)) (fun z => by unfold zAc; (repeat' split) <;> first | rfl | (exfalso; omega) | omega | (exfalso; revert z; rw [if_pos (by omega)]; decide))
      · skip
        refine ga_iconst (pc := 32) dX8_act_32 ?_
        exact mm_iret hE dX8_act_33 (⟨_, rfl, by dsimp only; rw [if_neg (by omega)]; exact ⟨rfl, rfl, rfl⟩⟩)
set_option maxHeartbeats 4000000 in
set_option maxRecDepth 100000 in
theorem m_X8_trace (l : Launch) (D : ga_G) (mo : Nat) (ad : Nat → Nat) (I : Nat → Int) (A : Nat → Int → Int) (i : Int) (ht : 0 ≤ I 42 ∧ I 42 ≤ 30) (h1 : (-2147483648 ≤ i ∧ i < 2147483648)) : mM l D yX8_trace (ws_ yX8_trace cX8_trace 2 (some .int)) (gR 1) [.int (iI i)] mo ad I A (mI (fun r I1 A1 => r = (if 0 ≤ i ∧ i < I 42 then A 41 i else -3) ∧ I1 = I ∧ A1 = A)) := by
  refine mm_met 0 rfl (Nat.le_of_ble_eq_true rfl) (L0 := [some (.ref mo), some (.int (iI i))]) rfl (fun X ok hE => ?_)
  refine ga_iload_n (pc := 0) dX8_trace_0 rfl ?_
  refine ga_i2l (pc := 1) dX8_trace_1 (by omega) ?_
  refine ga_lconst (pc := 2) 0 dX8_trace_2 rfl ?_
  refine ga_aload_n (pc := 3) dX8_trace_3 rfl ?_
  refine mm_g42 (pc := 4) (z := I 42) rfl dX8_trace_4 ?_
  refine ga_iconst (pc := 7) dX8_trace_7 ?_
  refine ga_isub (pc := 8) dX8_trace_8 ?_
  refine ga_i2l (pc := 9) dX8_trace_9 (by omega) ?_
  refine k_X8_in (pc := 10) (a := i) (b := 0) (c := ((I 42) - 1)) (by omega) (rfl) ⟨Nat.le_of_ble_eq_true rfl, Nat.le_of_ble_eq_true rfl⟩ ⟨Nat.le_of_ble_eq_true rfl, Nat.le_of_ble_eq_true rfl⟩ (Nat.le_of_ble_eq_true rfl) dX8_trace_10 ?_
  refine ga_ifb_eq (pc := 13) (tgt := 25) dX8_trace_13 rfl (fun c13 => ?_) (fun c13 => ?_)
  · skip
    refine ga_bipush (pc := 25) dX8_trace_25 rfl ?_
    exact mm_iret hE dX8_trace_27 (⟨_, rfl, by first | (rw [if_pos (by omega)]; done) | rw [if_neg (by omega)], rfl, rfl⟩)
  · skip
    refine ga_aload_n (pc := 16) dX8_trace_16 rfl ?_
    refine mm_g41 (pc := 17) dX8_trace_17 ?_
    refine ga_iload_n (pc := 20) dX8_trace_20 rfl ?_
    refine mm_ald41 (pc := 21) (x := A 41 i) ok (by omega) (rfl) dX8_trace_21 ?_
    refine ga_goto (pc := 22) (tgt := 27) dX8_trace_22 rfl ?_
    exact mm_iret hE dX8_trace_27 (⟨_, rfl, by first | (rw [if_pos (by omega)]; done) | rw [if_neg (by omega)], rfl, rfl⟩)
set_option maxHeartbeats 4000000 in
set_option maxRecDepth 100000 in
theorem m_X8_fitting (l : Launch) (D : ga_G) (mo : Nat) (ad : Nat → Nat) (I : Nat → Int) (A : Nat → Int → Int)  (hm : (1 ≤ I 3 ∧ I 3 ≤ 3) ∧ 1 ≤ I 4 ∧ I 4 ≤ 3) (heq : mEq I A) : mM l D yX8_fitting (ws_ yX8_fitting cX8_fitting 3 (some .int)) (gR 3) [] mo ad I A (mI (fun r I1 A1 => r = zFts I A (I 5).toNat ∧ mSam I A I1 A1)) := by
  refine mm_met 2 rfl (Nat.le_of_ble_eq_true rfl) (L0 := [some (.ref mo), none, none]) rfl (fun X ok hE => ?_)
  refine ga_iconst (pc := 0) dX8_fitting_0 ?_
  refine ga_istore_n (pc := 1) (L1 := [some (.ref mo), some (.int (iI 0)), none]) dX8_fitting_1 rfl (by decide) rfl ?_
  refine ga_iconst (pc := 2) dX8_fitting_2 ?_
  refine ga_istore_n (pc := 3) (L1 := [some (.ref mo), some (.int (iI 0)), some (.int (iI 0))]) dX8_fitting_3 rfl (by decide) rfl ?_
  refine ga_heq (pc := 4) (h1 := mH mo ad I (uN A 22 (A 22))) (congr (congrArg (mH mo ad) (rfl)) (by funext j; by_cases e0 : j = 22; (subst e0; exact (show (A 22) = (A 22) from rfl)); simp only [uN, if_neg e0])) ?_
  have lp4 : ∀ (N4 : Nat) (v e : Int) (g : Int → Int), (0 ≤ e ∧ e ≤ I 5) → (v = zFts I A e.toNat) → (I 5 - e).toNat < N4 → G X (gR 3) RX8 3 cX8_fitting (mH mo ad I (uN A 22 g)) 0 0 4 [some (.ref mo), some (.int (iI v)), some (.int (iI e))] [] := by
    intro N4
    induction N4 with
    | zero => intro v e g he hv hN4; exact absurd hN4 (Nat.not_lt_zero _)
    | succ N4 ih4 =>
      intro v e g he hv hN4
      refine ga_iload_n (pc := 4) dX8_fitting_4 rfl ?_
      refine ga_aload_n (pc := 5) dX8_fitting_5 rfl ?_
      refine mm_g5 (pc := 6) (z := I 5) rfl dX8_fitting_6 ?_
      refine ga_icmp_ge (pc := 9) (tgt := 41) dX8_fitting_9 rfl (by omega) (by omega) (fun c9 => ?_) (fun c9 => ?_)
      · skip
        refine ga_iload_n (pc := 41) dX8_fitting_41 rfl ?_
        exact mm_iret hE dX8_fitting_42 (⟨_, rfl, by dsimp only; exact ⟨by rw [hv, show e = I 5 by omega], (mSam.refl I A).uA (k := 22) (by decide)⟩⟩)
      · skip
        have hke := heq.2 e (by omega) (by omega)
        have jn33 : ∀ (y : Int) (f2 : Int → Int), (y = if zFit (I 3) (I 4) (A 11 e) then zshl 1 e else 0) → G X (gR 3) RX8 3 cX8_fitting (mH mo ad I (uN A 22 f2)) 0 0 33 [some (.ref mo), some (.int (iI v)), some (.int (iI e))] [.int (iI y), .int (iI v)] := by
          intro y f2 hy
          refine ga_ior (pc := 33) dX8_fitting_33 ?_
          refine ga_istore_n (pc := 34) (L1 := [some (.ref mo), some (.int (iI (zor v y))), some (.int (iI e))]) dX8_fitting_34 rfl (by decide) rfl ?_
          refine ga_iinc (pc := 35) (L1 := [some (.ref mo), some (.int (iI (zor v y))), some (.int (iI (e + 1)))]) dX8_fitting_35 rfl rfl (by decide) rfl ?_
          refine ga_goto (pc := 38) (tgt := 4) dX8_fitting_38 rfl ?_
          exact ih4 (zor v y) (e + 1) f2 (by omega) (by rw [zFts_s _ _ he.1, hv, hy]) (by omega)
        refine ga_iload_n (pc := 12) dX8_fitting_12 rfl ?_
        refine ga_aload_n (pc := 13) dX8_fitting_13 rfl ?_
        refine ga_aload_n (pc := 14) dX8_fitting_14 rfl ?_
        refine mm_g11 (pc := 15) dX8_fitting_15 ?_
        refine ga_iload_n (pc := 18) dX8_fitting_18 rfl ?_
        refine mm_ald11 (pc := 19) (x := A 11 e) ok (by omega) (rfl) dX8_fitting_19 ?_
        refine k_X8_isFit (pc := 20) (kind := (A 11 e)) ok (show (1 ≤ I 3 ∧ I 3 ≤ 3) ∧ 1 ≤ I 4 ∧ I 4 ≤ 3 from by first | exact hm | omega) (show 0 ≤ (A 11 e) ∧ (A 11 e) ≤ 6 from by first | exact h1 | omega) ⟨Nat.le_of_ble_eq_true rfl, Nat.le_of_ble_eq_true rfl⟩ (Nat.le_of_ble_eq_true rfl) dX8_fitting_20 (fun r20 I20 A20 hp20 => ?_)
        obtain ⟨er20, eI20, f20, rfl⟩ := hp20
        rw [tCnt_e] at er20
        rw [er20, eI20]
        refine ga_ifb_eq (pc := 23) (tgt := 32) dX8_fitting_23 rfl (fun c23 => ?_) (fun c23 => ?_)
        · skip
          refine ga_iconst (pc := 32) dX8_fitting_32 ?_
          refine ga_heq (pc := 33) (h1 := mH mo ad I (uN A 22 f20)) (congr (congrArg (mH mo ad) (rfl)) (by funext j; by_cases e0 : j = 22; (subst e0; rfl); simp only [uN, if_neg e0])) ?_
          exact jn33 0 f20 (by first | (rw [if_pos (by assumption)]; done) | rw [if_neg (by assumption)])
        · skip
          refine ga_iconst (pc := 26) dX8_fitting_26 ?_
          refine ga_iload_n (pc := 27) dX8_fitting_27 rfl ?_
          refine ga_ishl (pc := 28) dX8_fitting_28 ?_
          refine ga_goto (pc := 29) (tgt := 33) dX8_fitting_29 rfl ?_
          refine ga_heq (pc := 33) (h1 := mH mo ad I (uN A 22 f20)) (congr (congrArg (mH mo ad) (rfl)) (by funext j; by_cases e0 : j = 22; (subst e0; rfl); simp only [uN, if_neg e0])) ?_
          exact jn33 (zshl 1 e) f20 (by first | (rw [if_pos (by assumption)]; done) | rw [if_neg (by assumption)])
  exact lp4 _ 0 0 (A 22) (by omega) (rfl) (Nat.lt_succ_self _)
theorem k_X8_fitting {X : ga_X} {nL : Nat} {cc : ByteArray} {mo : Nat} {ad : Nat → Nat} {I : Nat → Int} {A : Nat → Int → Int} {d pc : Nat} {L : List (Option Value)} {st : List Value}   (ok : mOk mo ad) (hm : (1 ≤ I 3 ∧ I 3 ≤ 3) ∧ 1 ≤ I 4 ∧ I 4 ≤ 3) (heq : mEq I A)  (hR : 3 + 1 ≤ d ∧ 19 + 3 + 64 * 3 ≤ 64 * d) (hs : (st.map fun v => v.category).sum ≤ 8) (dd : decode cc pc = .ok (.invokevirtual 397, 3)) (kk : ∀ (r : Int) (I1 : Nat → Int) (A1 : Nat → Int → Int), (r = zFts I A (I 5).toNat ∧ mSam I A I1 A1) → G X (gR d) RX8 nL cc (mH mo ad I1 A1) 0 0 (pc + 3) L (.int (iI r) :: st)) : G X (gR d) RX8 nL cc (mH mo ad I A) 0 0 pc L (.ref mo :: st) :=
  mm_run ok (m_X8_fitting _ _ mo ad I A  hm heq) (lw_V q2137 q2139 qs99 q113 q2140) rfl (show ga_nn' yX8_fitting 0 from (by unfold ga_nn'; decide +kernel)) hR hs dd rfl (fun v I1 A1 hp => by
    obtain ⟨r, rfl, hp⟩ := hp
    exact kk r I1 A1 hp)
set_option maxHeartbeats 4000000 in
set_option maxRecDepth 100000 in
theorem m_X8_splitting (l : Launch) (D : ga_G) (mo : Nat) (ad : Nat → Nat) (I : Nat → Int) (A : Nat → Int → Int)  (hm : (1 ≤ I 3 ∧ I 3 ≤ 3) ∧ 1 ≤ I 4 ∧ I 4 ≤ 3) (he5 : tEn (A 0)) : mM l D yX8_splitting (ws_ yX8_splitting cX8_splitting 3 (some .int)) (gR 2) [] mo ad I A (mI (fun r I1 A1 => r = (zSps A (I 3) (I 3 - 1).toNat) ∧ I1 = I ∧ A1 = A)) := by
  refine mm_met 2 rfl (Nat.le_of_ble_eq_true rfl) (L0 := [some (.ref mo), none, none]) rfl (fun X ok hE => ?_)
  refine ga_iconst (pc := 0) dX8_splitting_0 ?_
  refine ga_istore_n (pc := 1) (L1 := [some (.ref mo), some (.int (iI 0)), none]) dX8_splitting_1 rfl (by decide) rfl ?_
  refine ga_iconst (pc := 2) dX8_splitting_2 ?_
  refine ga_istore_n (pc := 3) (L1 := [some (.ref mo), some (.int (iI 0)), some (.int (iI 1))]) dX8_splitting_3 rfl (by decide) rfl ?_
  have lp4 : ∀ (N4 : Nat) (v s : Int), (1 ≤ s ∧ s ≤ I 3) → (v = zSps A (I 3) (s - 1).toNat) → (I 3 - s).toNat < N4 → G X (gR 2) RX8 3 cX8_splitting (mH mo ad I A) 0 0 4 [some (.ref mo), some (.int (iI v)), some (.int (iI s))] [] := by
    intro N4
    induction N4 with
    | zero => intro v s hs0 hv hN4; exact absurd hN4 (Nat.not_lt_zero _)
    | succ N4 ih4 =>
      intro v s hs0 hv hN4
      refine ga_iload_n (pc := 4) dX8_splitting_4 rfl ?_
      refine ga_aload_n (pc := 5) dX8_splitting_5 rfl ?_
      refine mm_g3 (pc := 6) (z := I 3) rfl dX8_splitting_6 ?_
      refine ga_icmp_ge (pc := 9) (tgt := 36) dX8_splitting_9 rfl (by omega) (by omega) (fun c9 => ?_) (fun c9 => ?_)
      · skip
        refine ga_iload_n (pc := 36) dX8_splitting_36 rfl ?_
        exact mm_iret hE dX8_splitting_37 (⟨_, rfl, by rw [hv, show s = I 3 by omega], rfl, rfl⟩)
      · skip
        have jn28 : ∀ (y : Int), (y = if zSpl A (I 3) s then zshl 1 s else 0) → G X (gR 2) RX8 3 cX8_splitting (mH mo ad I A) 0 0 28 [some (.ref mo), some (.int (iI v)), some (.int (iI s))] [.int (iI y), .int (iI v)] := by
          intro y hy
          refine ga_ior (pc := 28) dX8_splitting_28 ?_
          refine ga_istore_n (pc := 29) (L1 := [some (.ref mo), some (.int (iI (zor v y))), some (.int (iI s))]) dX8_splitting_29 rfl (by decide) rfl ?_
          refine ga_iinc (pc := 30) (L1 := [some (.ref mo), some (.int (iI (zor v y))), some (.int (iI (s + 1)))]) dX8_splitting_30 rfl rfl (by decide) rfl ?_
          refine ga_goto (pc := 33) (tgt := 4) dX8_splitting_33 rfl ?_
          exact ih4 (zor v y) (s + 1) (by omega) (by rw [zSps_s _ _ hs0.1, hv, hy]) (by omega)
        refine ga_iload_n (pc := 12) dX8_splitting_12 rfl ?_
        refine ga_aload_n (pc := 13) dX8_splitting_13 rfl ?_
        refine ga_iload_n (pc := 14) dX8_splitting_14 rfl ?_
        refine k_X8_splits (pc := 15) (s := s) ok (by first | exact hm | omega) (by first | exact he5 | omega) (by first | exact h1 | omega) (rfl) ⟨Nat.le_of_ble_eq_true rfl, Nat.le_of_ble_eq_true rfl⟩ (Nat.le_of_ble_eq_true rfl) dX8_splitting_15 ?_
        refine ga_ifb_eq (pc := 18) (tgt := 27) dX8_splitting_18 rfl (fun c18 => ?_) (fun c18 => ?_)
        · skip
          refine ga_iconst (pc := 27) dX8_splitting_27 ?_
          exact jn28 0 (by first | (rw [if_pos (by assumption)]; done) | rw [if_neg (by assumption)])
        · skip
          refine ga_iconst (pc := 21) dX8_splitting_21 ?_
          refine ga_iload_n (pc := 22) dX8_splitting_22 rfl ?_
          refine ga_ishl (pc := 23) dX8_splitting_23 ?_
          refine ga_goto (pc := 24) (tgt := 28) dX8_splitting_24 rfl ?_
          exact jn28 (zshl 1 s) (by first | (rw [if_pos (by assumption)]; done) | rw [if_neg (by assumption)])
  exact lp4 _ 0 1 (by omega) (rfl) (Nat.lt_succ_self _)
theorem k_X8_splitting {X : ga_X} {nL : Nat} {cc : ByteArray} {mo : Nat} {ad : Nat → Nat} {I : Nat → Int} {A : Nat → Int → Int} {d pc : Nat} {L : List (Option Value)} {st : List Value}  {z : Int} (ok : mOk mo ad) (hm : (1 ≤ I 3 ∧ I 3 ≤ 3) ∧ 1 ≤ I 4 ∧ I 4 ≤ 3) (he5 : tEn (A 0)) (hz : (zSps A (I 3) (I 3 - 1).toNat) = z) (hR : 2 + 1 ≤ d ∧ 19 + 3 + 64 * 2 ≤ 64 * d) (hs : (st.map fun v => v.category).sum ≤ 8) (dd : decode cc pc = .ok (.invokevirtual 400, 3)) (kk : G X (gR d) RX8 nL cc (mH mo ad I A) 0 0 (pc + 3) L (.int (iI z) :: st)) : G X (gR d) RX8 nL cc (mH mo ad I A) 0 0 pc L (.ref mo :: st) :=
  mm_run ok (m_X8_splitting _ _ mo ad I A  hm he5) (lw_V q2141 q2143 qs100 q113 q2144) rfl (show ga_nn' yX8_splitting 0 from (by unfold ga_nn'; decide +kernel)) hR hs dd rfl (fun v I1 A1 hp => by
    obtain ⟨r, rfl, hp⟩ := hp
    obtain ⟨e1, rfl, rfl⟩ := hp
    subst hz
    rw [e1]
    exact kk)
set_option maxHeartbeats 4000000 in
set_option maxRecDepth 100000 in
theorem m_X8_many (l : Launch) (D : ga_G) (mo : Nat) (ad : Nat → Nat) (I : Nat → Int) (A : Nat → Int → Int) (w : Int) (hm : (1 ≤ I 3 ∧ I 3 ≤ 3) ∧ 1 ≤ I 4 ∧ I 4 ≤ 3) (he5 : tEn (A 0)) (heq : mEq I A) (h1 : (-2147483648 ≤ w ∧ w < 2147483648)) : mM l D yX8_many (ws_ yX8_many cX8_many 2 (some .int)) (gR 4) [.int (iI w)] mo ad I A (mI (fun r I1 A1 => r = mMny I A w ∧ mSam I A I1 A1)) := by
  refine mm_met 0 rfl (Nat.le_of_ble_eq_true rfl) (L0 := [some (.ref mo), some (.int (iI w))]) rfl (fun X ok hE => ?_)
  refine ga_iload_n (pc := 0) dX8_many_0 rfl ?_
  by_cases c1_0 : w = 0
  · refine ga_tabIn (pc := 1) (tgt := 44) 0 dX8_many_1 (by omega) (by omega) (by decide) rfl rfl ?_
    refine ga_aload_n (pc := 44) dX8_many_44 rfl ?_
    refine mm_g3 (pc := 45) (z := I 3) rfl dX8_many_45 ?_
    exact mm_iret hE dX8_many_48 (⟨_, rfl, by dsimp only; exact ⟨by unfold mMny; (repeat' split) <;> first | rfl | (exfalso; omega), mSam.refl I A⟩⟩)
  by_cases c1_1 : w = 1
  · refine ga_tabIn (pc := 1) (tgt := 49) 1 dX8_many_1 (by omega) (by omega) (by decide) rfl rfl ?_
    refine ga_aload_n (pc := 49) dX8_many_49 rfl ?_
    refine mm_g4 (pc := 50) (z := I 4) rfl dX8_many_50 ?_
    exact mm_iret hE dX8_many_53 (⟨_, rfl, by dsimp only; exact ⟨by unfold mMny; (repeat' split) <;> first | rfl | (exfalso; omega), mSam.refl I A⟩⟩)
  by_cases c1_2 : w = 2
  · refine ga_tabIn (pc := 1) (tgt := 54) 2 dX8_many_1 (by omega) (by omega) (by decide) rfl rfl ?_
    refine ga_aload_n (pc := 54) dX8_many_54 rfl ?_
    refine mm_g5 (pc := 55) (z := I 5) rfl dX8_many_55 ?_
    exact mm_iret hE dX8_many_58 (⟨_, rfl, by dsimp only; exact ⟨by unfold mMny; (repeat' split) <;> first | rfl | (exfalso; omega), mSam.refl I A⟩⟩)
  by_cases c1_3 : w = 3
  · refine ga_tabIn (pc := 1) (tgt := 59) 3 dX8_many_1 (by omega) (by omega) (by decide) rfl rfl ?_
    refine ga_aload_n (pc := 59) dX8_many_59 rfl ?_
    refine mm_g17 (pc := 60) (z := I 17) rfl dX8_many_60 ?_
    exact mm_iret hE dX8_many_63 (⟨_, rfl, by dsimp only; exact ⟨by unfold mMny; (repeat' split) <;> first | rfl | (exfalso; omega), mSam.refl I A⟩⟩)
  by_cases c1_4 : w = 4
  · refine ga_tabIn (pc := 1) (tgt := 64) 4 dX8_many_1 (by omega) (by omega) (by decide) rfl rfl ?_
    refine ga_aload_n (pc := 64) dX8_many_64 rfl ?_
    refine mm_g42 (pc := 65) (z := I 42) rfl dX8_many_65 ?_
    exact mm_iret hE dX8_many_68 (⟨_, rfl, by dsimp only; exact ⟨by unfold mMny; (repeat' split) <;> first | rfl | (exfalso; omega), mSam.refl I A⟩⟩)
  by_cases c1_5 : w = 5
  · refine ga_tabIn (pc := 1) (tgt := 69) 5 dX8_many_1 (by omega) (by omega) (by decide) rfl rfl ?_
    refine ga_aload_n (pc := 69) dX8_many_69 rfl ?_
    refine k_X8_fitting (pc := 70)  ok (by first | exact hm | omega) (by first | exact heq | omega) ⟨Nat.le_of_ble_eq_true rfl, Nat.le_of_ble_eq_true rfl⟩ (Nat.le_of_ble_eq_true rfl) dX8_many_70 (fun r70 I70 A70 hp70 => ?_)
    obtain ⟨er70, hsm70⟩ := hp70
    rw [er70]
    exact mm_iret hE dX8_many_73 (⟨_, rfl, by dsimp only; exact ⟨by unfold mMny; (repeat' split) <;> first | rfl | (exfalso; omega), hsm70⟩⟩)
  by_cases c1_6 : w = 6
  · refine ga_tabIn (pc := 1) (tgt := 74) 6 dX8_many_1 (by omega) (by omega) (by decide) rfl rfl ?_
    refine ga_aload_n (pc := 74) dX8_many_74 rfl ?_
    refine k_X8_splitting (pc := 75)  (z := zSps A (I 3) (I 3 - 1).toNat) ok (by first | exact hm | omega) (by first | exact he5 | omega) (rfl) ⟨Nat.le_of_ble_eq_true rfl, Nat.le_of_ble_eq_true rfl⟩ (Nat.le_of_ble_eq_true rfl) dX8_many_75 ?_
    exact mm_iret hE dX8_many_78 (⟨_, rfl, by dsimp only; exact ⟨by unfold mMny; (repeat' split) <;> first | rfl | (exfalso; omega), mSam.refl I A⟩⟩)
  refine ga_tabOut (pc := 1) (tgt := 79) dX8_many_1 (by omega) (by omega) rfl ?_
  refine ga_iconst (pc := 79) dX8_many_79 ?_
  exact mm_iret hE dX8_many_80 (⟨_, rfl, by dsimp only; exact ⟨by unfold mMny; (repeat' split) <;> first | rfl | (exfalso; omega), mSam.refl I A⟩⟩)
set_option maxHeartbeats 4000000 in
set_option maxRecDepth 100000 in
theorem m_X8_keep (l : Launch) (D : ga_G) (mo : Nat) (ad : Nat → Nat) (I : Nat → Int) (A : Nat → Int → Int)   : mM l D yX8_keep (ws_ yX8_keep cX8_keep 2 (some .int)) (gR 1) [] mo ad I A (mI (fun r I1 A1 => r = 1 ∧ I1 = (uN (uN (uN (uN (uN I 7 (I 3)) 8 (I 4)) 10 (I 6)) 9 (I 5)) 15 1) ∧ A1 = (uN (uN (uN A 1 (mC (A 1) (A 0) 27)) 13 (mC (A 13) (A 11) 6)) 14 (mC (A 14) (A 12) 6)))) := by
  refine mm_met 1 rfl (Nat.le_of_ble_eq_true rfl) (L0 := [some (.ref mo), none]) rfl (fun X ok hE => ?_)
  refine ga_aload_n (pc := 0) dX8_keep_0 rfl ?_
  refine ga_aload_n (pc := 1) dX8_keep_1 rfl ?_
  refine mm_g0 (pc := 2) dX8_keep_2 ?_
  refine ga_aload_n (pc := 5) dX8_keep_5 rfl ?_
  refine mm_g1 (pc := 6) dX8_keep_6 ?_
  refine k_X8_saves_01 (pc := 9)  (A2 := (uN A 1 (mC (A 1) (A 0) 27))) ok  (rfl) ⟨Nat.le_of_ble_eq_true rfl, Nat.le_of_ble_eq_true rfl⟩ (Nat.le_of_ble_eq_true rfl) dX8_keep_9 ?_
  refine ga_aload_n (pc := 12) dX8_keep_12 rfl ?_
  refine ga_aload_n (pc := 13) dX8_keep_13 rfl ?_
  refine mm_g3 (pc := 14) (z := I 3) rfl dX8_keep_14 ?_
  refine mm_p7 (pc := 17) (I1 := (uN I 7 (I 3))) (rfl) dX8_keep_17 ?_
  refine ga_aload_n (pc := 20) dX8_keep_20 rfl ?_
  refine ga_aload_n (pc := 21) dX8_keep_21 rfl ?_
  refine mm_g4 (pc := 22) (z := I 4) rfl dX8_keep_22 ?_
  refine mm_p8 (pc := 25) (I1 := (uN (uN I 7 (I 3)) 8 (I 4))) (rfl) dX8_keep_25 ?_
  refine ga_aload_n (pc := 28) dX8_keep_28 rfl ?_
  refine ga_aload_n (pc := 29) dX8_keep_29 rfl ?_
  refine mm_g6 (pc := 30) (z := I 6) rfl dX8_keep_30 ?_
  refine mm_p10 (pc := 33) (I1 := (uN (uN (uN I 7 (I 3)) 8 (I 4)) 10 (I 6))) (rfl) dX8_keep_33 ?_
  refine ga_aload_n (pc := 36) dX8_keep_36 rfl ?_
  refine ga_aload_n (pc := 37) dX8_keep_37 rfl ?_
  refine mm_g5 (pc := 38) (z := I 5) rfl dX8_keep_38 ?_
  refine mm_p9 (pc := 41) (I1 := (uN (uN (uN (uN I 7 (I 3)) 8 (I 4)) 10 (I 6)) 9 (I 5))) (rfl) dX8_keep_41 ?_
  refine ga_iconst (pc := 44) dX8_keep_44 ?_
  refine ga_istore_n (pc := 45) (L1 := [some (.ref mo), some (.int (iI 0))]) dX8_keep_45 rfl (by decide) rfl ?_
  refine ga_heq (pc := 46) (h1 := mH mo ad (uN (uN (uN (uN I 7 (I 3)) 8 (I 4)) 10 (I 6)) 9 (I 5)) (uN (uN (uN A 1 (mC (A 1) (A 0) 27)) 13 (mC (A 13) (A 11) 0)) 14 (mC (A 14) (A 12) 0))) (congr (congrArg (mH mo ad) (rfl)) (by funext j; by_cases e0 : j = 1; (subst e0; rfl); by_cases e1 : j = 13; (subst e1; exact (show (A 13) = (mC (A 13) (A 11) 0) from (mC_0 _ _).symm)); by_cases e2 : j = 14; (subst e2; exact (show (A 14) = (mC (A 14) (A 12) 0) from (mC_0 _ _).symm)); simp only [uN, if_neg e0, if_neg e1, if_neg e2])) ?_
  have lp46 : ∀ (N46 : Nat) (e : Int), (0 ≤ e ∧ e ≤ 6) → (6 - e).toNat < N46 → G X (gR 1) RX8 2 cX8_keep (mH mo ad (uN (uN (uN (uN I 7 (I 3)) 8 (I 4)) 10 (I 6)) 9 (I 5)) (uN (uN (uN A 1 (mC (A 1) (A 0) 27)) 13 (mC (A 13) (A 11) e)) 14 (mC (A 14) (A 12) e))) 0 0 46 [some (.ref mo), some (.int (iI e))] [] := by
    intro N46
    induction N46 with
    | zero => intro e he hN46; exact absurd hN46 (Nat.not_lt_zero _)
    | succ N46 ih46 =>
      intro e he hN46
      refine ga_iload_n (pc := 46) dX8_keep_46 rfl ?_
      refine ga_bipush (pc := 47) dX8_keep_47 rfl ?_
      refine ga_icmp_ge (pc := 49) (tgt := 82) dX8_keep_49 rfl (by omega) (by omega) (fun c49 => ?_) (fun c49 => ?_)
      · skip
        obtain rfl : e = 6 := by omega
        refine ga_aload_n (pc := 82) dX8_keep_82 rfl ?_
        refine ga_iconst (pc := 83) dX8_keep_83 ?_
        refine mm_p15 (pc := 84) (I1 := (uN (uN (uN (uN (uN I 7 (I 3)) 8 (I 4)) 10 (I 6)) 9 (I 5)) 15 1)) (by first | exact Or.inl rfl | exact Or.inr rfl) (rfl) dX8_keep_84 ?_
        refine ga_iconst (pc := 87) dX8_keep_87 ?_
        exact mm_iret hE dX8_keep_88 (⟨_, rfl, rfl, rfl, by funext j; by_cases e0 : j = 1; (subst e0; rfl); by_cases e1 : j = 13; (subst e1; rfl); by_cases e2 : j = 14; (subst e2; rfl); simp only [uN, if_neg e0, if_neg e1, if_neg e2]⟩)
      · skip
        refine ga_aload_n (pc := 52) dX8_keep_52 rfl ?_
        refine mm_g13 (pc := 53) dX8_keep_53 ?_
        refine ga_iload_n (pc := 56) dX8_keep_56 rfl ?_
        refine ga_aload_n (pc := 57) dX8_keep_57 rfl ?_
        refine mm_g11 (pc := 58) dX8_keep_58 ?_
        refine ga_iload_n (pc := 61) dX8_keep_61 rfl ?_
        refine mm_ald11 (pc := 62) (x := A 11 e) ok (by omega) (rfl) dX8_keep_62 ?_
        refine mm_ast13 (pc := 63) (f := mC (A 13) (A 11) e) (A1 := (uN (uN (uN A 1 (mC (A 1) (A 0) 27)) 13 (uZ (mC (A 13) (A 11) e) e (A 11 e))) 14 (mC (A 14) (A 12) e))) ok (by omega) rfl (by funext j; by_cases e0 : j = 13; (subst e0; rfl); simp only [uN, if_neg e0]) dX8_keep_63 ?_
        refine ga_aload_n (pc := 64) dX8_keep_64 rfl ?_
        refine mm_g14 (pc := 65) dX8_keep_65 ?_
        refine ga_iload_n (pc := 68) dX8_keep_68 rfl ?_
        refine ga_aload_n (pc := 69) dX8_keep_69 rfl ?_
        refine mm_g12 (pc := 70) dX8_keep_70 ?_
        refine ga_iload_n (pc := 73) dX8_keep_73 rfl ?_
        refine mm_ald12 (pc := 74) (x := A 12 e) ok (by omega) (rfl) dX8_keep_74 ?_
        refine mm_ast14 (pc := 75) (f := mC (A 14) (A 12) e) (A1 := (uN (uN (uN A 1 (mC (A 1) (A 0) 27)) 13 (uZ (mC (A 13) (A 11) e) e (A 11 e))) 14 (uZ (mC (A 14) (A 12) e) e (A 12 e)))) ok (by omega) rfl (by funext j; by_cases e0 : j = 14; (subst e0; rfl); simp only [uN, if_neg e0]) dX8_keep_75 ?_
        refine ga_iinc (pc := 76) (L1 := [some (.ref mo), some (.int (iI (e + 1)))]) dX8_keep_76 rfl rfl (by decide) rfl ?_
        refine ga_goto (pc := 79) (tgt := 46) dX8_keep_79 rfl ?_
        refine ga_heq (pc := 46) (h1 := mH mo ad (uN (uN (uN (uN I 7 (I 3)) 8 (I 4)) 10 (I 6)) 9 (I 5)) (uN (uN (uN A 1 (mC (A 1) (A 0) 27)) 13 (mC (A 13) (A 11) (e + 1))) 14 (mC (A 14) (A 12) (e + 1)))) (congr (congrArg (mH mo ad) (rfl)) (by funext j; by_cases e0 : j = 1; (subst e0; rfl); by_cases e1 : j = 13; (subst e1; exact (show (uZ (mC (A 13) (A 11) e) e (A 11 e)) = (mC (A 13) (A 11) (e + 1)) from mC_s _ _ he.1)); by_cases e2 : j = 14; (subst e2; exact (show (uZ (mC (A 14) (A 12) e) e (A 12 e)) = (mC (A 14) (A 12) (e + 1)) from mC_s _ _ he.1)); simp only [uN, if_neg e0, if_neg e1, if_neg e2])) ?_
        exact ih46 (e + 1) (by omega) (by omega)
  exact lp46 _ 0 (by omega) (Nat.lt_succ_self _)
set_option maxHeartbeats 4000000 in
set_option maxRecDepth 100000 in
theorem m_X8_again (l : Launch) (D : ga_G) (mo : Nat) (ad : Nat → Nat) (I : Nat → Int) (A : Nat → Int → Int)  (hik : 0 ≤ I 15 ∧ I 15 ≤ 1) : mM l D yX8_again (ws_ yX8_again cX8_again 2 (some .int)) (gR 1) [] mo ad I A (mI (fun r I1 A1 => if I 15 = 0 then r = -3 ∧ I1 = I ∧ A1 = A else r = I 9 ∧ I1 = uN (uN (uN (uN I 3 (I 7)) 4 (I 8)) 6 (I 10)) 5 (I 9) ∧ A1 = uN (uN (uN A 0 (mC (A 0) (A 1) 27)) 11 (mC (A 11) (A 13) 6)) 12 (mC (A 12) (A 14) 6))) := by
  refine mm_met 1 rfl (Nat.le_of_ble_eq_true rfl) (L0 := [some (.ref mo), none]) rfl (fun X ok hE => ?_)
  refine ga_aload_n (pc := 0) dX8_again_0 rfl ?_
  refine mm_g15 (pc := 1) (z := I 15) rfl dX8_again_1 ?_
  refine ga_if_ne (pc := 4) (tgt := 10) dX8_again_4 rfl (by omega) (fun c4 => ?_) (fun c4 => ?_)
  · skip
    refine ga_aload_n (pc := 10) dX8_again_10 rfl ?_
    refine ga_aload_n (pc := 11) dX8_again_11 rfl ?_
    refine mm_g1 (pc := 12) dX8_again_12 ?_
    refine ga_aload_n (pc := 15) dX8_again_15 rfl ?_
    refine mm_g0 (pc := 16) dX8_again_16 ?_
    refine k_X8_saves_10 (pc := 19)  (A2 := (uN A 0 (mC (A 0) (A 1) 27))) ok  (rfl) ⟨Nat.le_of_ble_eq_true rfl, Nat.le_of_ble_eq_true rfl⟩ (Nat.le_of_ble_eq_true rfl) dX8_again_19 ?_
    refine ga_aload_n (pc := 22) dX8_again_22 rfl ?_
    refine ga_aload_n (pc := 23) dX8_again_23 rfl ?_
    refine mm_g7 (pc := 24) (z := I 7) rfl dX8_again_24 ?_
    refine mm_p3 (pc := 27) (I1 := (uN I 3 (I 7))) (rfl) dX8_again_27 ?_
    refine ga_aload_n (pc := 30) dX8_again_30 rfl ?_
    refine ga_aload_n (pc := 31) dX8_again_31 rfl ?_
    refine mm_g8 (pc := 32) (z := I 8) rfl dX8_again_32 ?_
    refine mm_p4 (pc := 35) (I1 := (uN (uN I 3 (I 7)) 4 (I 8))) (rfl) dX8_again_35 ?_
    refine ga_aload_n (pc := 38) dX8_again_38 rfl ?_
    refine ga_aload_n (pc := 39) dX8_again_39 rfl ?_
    refine mm_g10 (pc := 40) (z := I 10) rfl dX8_again_40 ?_
    refine mm_p6 (pc := 43) (I1 := (uN (uN (uN I 3 (I 7)) 4 (I 8)) 6 (I 10))) (rfl) dX8_again_43 ?_
    refine ga_aload_n (pc := 46) dX8_again_46 rfl ?_
    refine ga_aload_n (pc := 47) dX8_again_47 rfl ?_
    refine mm_g9 (pc := 48) (z := I 9) rfl dX8_again_48 ?_
    refine mm_p5 (pc := 51) (I1 := (uN (uN (uN (uN I 3 (I 7)) 4 (I 8)) 6 (I 10)) 5 (I 9))) (rfl) dX8_again_51 ?_
    refine ga_iconst (pc := 54) dX8_again_54 ?_
    refine ga_istore_n (pc := 55) (L1 := [some (.ref mo), some (.int (iI 0))]) dX8_again_55 rfl (by decide) rfl ?_
    refine ga_heq (pc := 56) (h1 := mH mo ad (uN (uN (uN (uN I 3 (I 7)) 4 (I 8)) 6 (I 10)) 5 (I 9)) (uN (uN (uN A 0 (mC (A 0) (A 1) 27)) 11 (mC (A 11) (A 13) 0)) 12 (mC (A 12) (A 14) 0))) (congr (congrArg (mH mo ad) (rfl)) (by funext j; by_cases e0 : j = 0; (subst e0; rfl); by_cases e1 : j = 11; (subst e1; exact (show (A 11) = (mC (A 11) (A 13) 0) from (mC_0 _ _).symm)); by_cases e2 : j = 12; (subst e2; exact (show (A 12) = (mC (A 12) (A 14) 0) from (mC_0 _ _).symm)); simp only [uN, if_neg e0, if_neg e1, if_neg e2])) ?_
    have lp56 : ∀ (N56 : Nat) (e : Int), (0 ≤ e ∧ e ≤ 6) → (6 - e).toNat < N56 → G X (gR 1) RX8 2 cX8_again (mH mo ad (uN (uN (uN (uN I 3 (I 7)) 4 (I 8)) 6 (I 10)) 5 (I 9)) (uN (uN (uN A 0 (mC (A 0) (A 1) 27)) 11 (mC (A 11) (A 13) e)) 12 (mC (A 12) (A 14) e))) 0 0 56 [some (.ref mo), some (.int (iI e))] [] := by
      intro N56
      induction N56 with
      | zero => intro e he hN56; exact absurd hN56 (Nat.not_lt_zero _)
      | succ N56 ih56 =>
        intro e he hN56
        refine ga_iload_n (pc := 56) dX8_again_56 rfl ?_
        refine ga_bipush (pc := 57) dX8_again_57 rfl ?_
        refine ga_icmp_ge (pc := 59) (tgt := 92) dX8_again_59 rfl (by omega) (by omega) (fun c59 => ?_) (fun c59 => ?_)
        · skip
          obtain rfl : e = 6 := by omega
          refine ga_aload_n (pc := 92) dX8_again_92 rfl ?_
          refine mm_g5 (pc := 93) (z := I 9) rfl dX8_again_93 ?_
          exact mm_iret hE dX8_again_96 (⟨_, rfl, by dsimp only; rw [if_neg (by omega)]; exact ⟨rfl, rfl, rfl⟩⟩)
        · skip
          refine ga_aload_n (pc := 62) dX8_again_62 rfl ?_
          refine mm_g11 (pc := 63) dX8_again_63 ?_
          refine ga_iload_n (pc := 66) dX8_again_66 rfl ?_
          refine ga_aload_n (pc := 67) dX8_again_67 rfl ?_
          refine mm_g13 (pc := 68) dX8_again_68 ?_
          refine ga_iload_n (pc := 71) dX8_again_71 rfl ?_
          refine mm_ald13 (pc := 72) (x := A 13 e) ok (by omega) (rfl) dX8_again_72 ?_
          refine mm_ast11 (pc := 73) (f := mC (A 11) (A 13) e) (A1 := (uN (uN (uN A 0 (mC (A 0) (A 1) 27)) 11 (uZ (mC (A 11) (A 13) e) e (A 13 e))) 12 (mC (A 12) (A 14) e))) ok (by omega) rfl (by funext j; by_cases e0 : j = 11; (subst e0; rfl); simp only [uN, if_neg e0]) dX8_again_73 ?_
          refine ga_aload_n (pc := 74) dX8_again_74 rfl ?_
          refine mm_g12 (pc := 75) dX8_again_75 ?_
          refine ga_iload_n (pc := 78) dX8_again_78 rfl ?_
          refine ga_aload_n (pc := 79) dX8_again_79 rfl ?_
          refine mm_g14 (pc := 80) dX8_again_80 ?_
          refine ga_iload_n (pc := 83) dX8_again_83 rfl ?_
          refine mm_ald14 (pc := 84) (x := A 14 e) ok (by omega) (rfl) dX8_again_84 ?_
          refine mm_ast12 (pc := 85) (f := mC (A 12) (A 14) e) (A1 := (uN (uN (uN A 0 (mC (A 0) (A 1) 27)) 11 (uZ (mC (A 11) (A 13) e) e (A 13 e))) 12 (uZ (mC (A 12) (A 14) e) e (A 14 e)))) ok (by omega) rfl (by funext j; by_cases e0 : j = 12; (subst e0; rfl); simp only [uN, if_neg e0]) dX8_again_85 ?_
          refine ga_iinc (pc := 86) (L1 := [some (.ref mo), some (.int (iI (e + 1)))]) dX8_again_86 rfl rfl (by decide) rfl ?_
          refine ga_goto (pc := 89) (tgt := 56) dX8_again_89 rfl ?_
          refine ga_heq (pc := 56) (h1 := mH mo ad (uN (uN (uN (uN I 3 (I 7)) 4 (I 8)) 6 (I 10)) 5 (I 9)) (uN (uN (uN A 0 (mC (A 0) (A 1) 27)) 11 (mC (A 11) (A 13) (e + 1))) 12 (mC (A 12) (A 14) (e + 1)))) (congr (congrArg (mH mo ad) (rfl)) (by funext j; by_cases e0 : j = 0; (subst e0; rfl); by_cases e1 : j = 11; (subst e1; exact (show (uZ (mC (A 11) (A 13) e) e (A 13 e)) = (mC (A 11) (A 13) (e + 1)) from mC_s _ _ he.1)); by_cases e2 : j = 12; (subst e2; exact (show (uZ (mC (A 12) (A 14) e) e (A 14 e)) = (mC (A 12) (A 14) (e + 1)) from mC_s _ _ he.1)); simp only [uN, if_neg e0, if_neg e1, if_neg e2])) ?_
          exact ih56 (e + 1) (by omega) (by omega)
    exact lp56 _ 0 (by omega) (Nat.lt_succ_self _)
  · skip
    refine ga_bipush (pc := 7) dX8_again_7 rfl ?_
    exact mm_iret hE dX8_again_9 (⟨_, rfl, by dsimp only; rw [if_pos (by omega)]; exact ⟨rfl, rfl, rfl⟩⟩)
