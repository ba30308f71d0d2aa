/-! THE CLASS: the tape; the grid -/
theorem zbv (x : BitVec 64) : x.toInt.bmod 256 = (x.setWidth 8).toInt := by
  rw [BitVec.toInt_setWidth, BitVec.toInt_eq_toNat_bmod]
  show ((x.toNat : Int).bmod (2 ^ 64 : Nat)).bmod (256 : Nat) = (x.toNat : Int).bmod (2 ^ 8 : Nat)
  rw [Int.bmod_bmod_of_dvd (by decide)]
theorem zbv2 (x : BitVec 64) {s : Nat} (hs : s ≤ 56) : (x.sshiftRight s).setWidth 8 = (x >>> s).setWidth 8 := by
  apply BitVec.eq_of_getLsbD_eq
  intro i hi
  rw [BitVec.getLsbD_setWidth, BitVec.getLsbD_setWidth, BitVec.getLsbD_sshiftRight, BitVec.getLsbD_ushiftRight]
  have h1 : s + i < 64 := by omega
  have h2 : ¬ 64 ≤ i := by omega
  simp [h1, h2]
theorem zsh_1 (e : Int) (c : Int64) (s : Nat) (hs : s ≤ 56) (hc : (c.toBitVec.smod 64).toNat = s) (hu : (c.toUInt64.toBitVec.toNat % 64) = s) : ((lI e >>> c).toInt).bmod 256 = (((lI e).toUInt64 >>> c.toUInt64).toInt64.toInt).bmod 256 := by
  have e1 : (lI e >>> c).toInt = ((lI e).toBitVec.sshiftRight s).toInt := by
    show (lI e >>> c).toBitVec.toInt = _
    rw [Int64.toBitVec_shiftRight]
    show ((lI e).toBitVec.sshiftRight (c.toBitVec.smod 64).toNat).toInt = _
    rw [hc]
  have e2 : (((lI e).toUInt64 >>> c.toUInt64).toInt64.toInt) = ((lI e).toBitVec >>> s).toInt := by
    show ((lI e).toUInt64 >>> c.toUInt64).toBitVec.toInt = _
    rw [UInt64.toBitVec_shiftRight]
    show ((lI e).toBitVec >>> (c.toUInt64.toBitVec % 64)).toInt = _
    rw [show ((lI e).toBitVec >>> (c.toUInt64.toBitVec % 64)) = (lI e).toBitVec >>> (c.toUInt64.toBitVec % 64).toNat from rfl]
    rw [show (c.toUInt64.toBitVec % 64).toNat = s by rw [BitVec.toNat_umod]; exact hu]
  rw [e1, e2, zbv, zbv, zbv2 _ hs]
theorem zsh_b (e : Int) {k : Int} (h : 0 ≤ k ∧ k ≤ 7) : (lshr e (8 * k)).bmod 256 = (lushr e (8 * k)).bmod 256 := by
  unfold lshr lushr
  rcases (by omega : k = 0 ∨ k = 1 ∨ k = 2 ∨ k = 3 ∨ k = 4 ∨ k = 5 ∨ k = 6 ∨ k = 7) with rfl | rfl | rfl | rfl | rfl | rfl | rfl | rfl
  · exact zsh_1 e ((iI (8 * 0)).toInt64 &&& 63) 0 (by decide) (by decide) (by decide)
  · exact zsh_1 e ((iI (8 * 1)).toInt64 &&& 63) 8 (by decide) (by decide) (by decide)
  · exact zsh_1 e ((iI (8 * 2)).toInt64 &&& 63) 16 (by decide) (by decide) (by decide)
  · exact zsh_1 e ((iI (8 * 3)).toInt64 &&& 63) 24 (by decide) (by decide) (by decide)
  · exact zsh_1 e ((iI (8 * 4)).toInt64 &&& 63) 32 (by decide) (by decide) (by decide)
  · exact zsh_1 e ((iI (8 * 5)).toInt64 &&& 63) 40 (by decide) (by decide) (by decide)
  · exact zsh_1 e ((iI (8 * 6)).toInt64 &&& 63) 48 (by decide) (by decide) (by decide)
  · exact zsh_1 e ((iI (8 * 7)).toInt64 &&& 63) 56 (by decide) (by decide) (by decide)
set_option maxHeartbeats 4000000 in
set_option maxRecDepth 100000 in
theorem m_X0_feed (l : Launch) (D : ga_G) (ad : Nat → Nat) (J : Nat → Int) (B : Nat → Int → Int) (Q : Nat → Int → Option Nat) (Z : ga_H) (e y : Int) (ht : 0 ≤ J 15 ∧ J 15 ≤ 200) (h1 : (-9223372036854775808 ≤ e ∧ e < 9223372036854775808) ∧ (-2147483648 ≤ y ∧ y < 2147483648)) : cM l D yX0_feed (ws_ yX0_feed cX0_feed 5 (some .int)) (gR 1) [.ref (ad 0), .long (lI e), .int (iI y)] ad J B Q Z (mI (fun r J1 B1 => if 1 ≤ y ∧ y ≤ 8 then (if J 15 + y > 200 then r = -2 ∧ J1 = J ∧ B1 = B else r = J 15 + y ∧ J1 = uN J 15 (J 15 + y) ∧ B1 = uN B 9 (mFd (B 9) (J 15) e y)) else r = -1 ∧ J1 = J ∧ B1 = B)) := by
  refine cc_met (own := RX0) 1 (by decide) rfl (Nat.le_of_ble_eq_true rfl) (L0 := [some (.ref (ad 0)), some (.long (lI e)), none, some (.int (iI y)), none]) rfl (fun X h hc hE => ?_)
  refine ga_iload_n (pc := 0) dX0_feed_0 rfl ?_
  refine ga_iconst (pc := 1) dX0_feed_1 ?_
  refine ga_bipush (pc := 2) dX0_feed_2 rfl ?_
  refine k_X0_isIn (pc := 4) (a := y) (b := 1) (e := 8) (by omega) (rfl) ⟨Nat.le_of_ble_eq_true rfl, Nat.le_of_ble_eq_true rfl⟩ ⟨Nat.le_of_ble_eq_true rfl, Nat.le_of_ble_eq_true rfl⟩ (Nat.le_of_ble_eq_true rfl) dX0_feed_4 ?_
  refine ga_ifb_ne (pc := 7) (tgt := 12) dX0_feed_7 rfl (fun c7 => ?_) (fun c7 => ?_)
  · skip
    refine ga_aload_n (pc := 12) dX0_feed_12 rfl ?_
    refine cc_g_tapeMany (pc := 13) (z := J 15) hc rfl dX0_feed_13 ?_
    refine ga_iload_n (pc := 16) dX0_feed_16 rfl ?_
    refine ga_iadd (pc := 17) dX0_feed_17 ?_
    refine ga_sipush (pc := 18) dX0_feed_18 rfl ?_
    refine ga_icmp_le (pc := 21) (tgt := 27) dX0_feed_21 rfl (by omega) (by omega) (fun c21 => ?_) (fun c21 => ?_)
    · skip
      refine ga_iconst (pc := 27) dX0_feed_27 ?_
      refine ga_istore (pc := 28) (L1 := [some (.ref (ad 0)), some (.long (lI e)), none, some (.int (iI y)), some (.int (iI 0))]) dX0_feed_28 rfl (by decide) rfl ?_
      replace hc : cOn h ad J (uN B 9 (mFd (B 9) (J 15) e 0)) Q Z := hc.eq (rfl) (by funext j; by_cases e0 : j = 9; (subst e0; exact (show (B 9) = (mFd (B 9) (J 15) e 0) from (mFd_0 _ _ _).symm)); simp only [uN, if_neg e0]) rfl
      have lp30 : ∀ (N30 : Nat) (x : Int), ∀ h : ga_H, cOn h ad J (uN B 9 (mFd (B 9) (J 15) e x)) Q Z → (0 ≤ x ∧ x ≤ y) → (y - x).toNat < N30 → G X (gR 1) RX0 5 cX0_feed h 0 0 30 [some (.ref (ad 0)), some (.long (lI e)), none, some (.int (iI y)), some (.int (iI x))] [] := by
        intro N30
        induction N30 with
        | zero => intro x h hc hk hN30; exact absurd hN30 (Nat.not_lt_zero _)
        | succ N30 ih30 =>
          intro x h hc hk hN30
          refine ga_iload (pc := 30) dX0_feed_30 rfl ?_
          refine ga_iload_n (pc := 32) dX0_feed_32 rfl ?_
          refine ga_icmp_ge (pc := 33) (tgt := 63) dX0_feed_33 rfl (by omega) (by omega) (fun c33 => ?_) (fun c33 => ?_)
          · skip
            refine ga_aload_n (pc := 63) dX0_feed_63 rfl ?_
            refine ga_dup (pc := 64) dX0_feed_64 rfl ?_
            refine cc_g_tapeMany (pc := 65) (z := J 15) hc rfl dX0_feed_65 ?_
            refine ga_iload_n (pc := 68) dX0_feed_68 rfl ?_
            refine ga_iadd (pc := 69) dX0_feed_69 ?_
            refine cc_p_tapeMany (pc := 70) (J1 := (uN J 15 ((J 15) + y))) hc (rfl) dX0_feed_70 (fun h hc => ?_)
            refine ga_aload_n (pc := 73) dX0_feed_73 rfl ?_
            refine cc_g_tapeMany (pc := 74) (z := (J 15) + y) hc rfl dX0_feed_74 ?_
            exact cc_iret hc hE dX0_feed_77 (⟨_, rfl, by dsimp only; (obtain rfl : x = y := by omega); rw [if_pos (by omega), if_neg (by omega)]; exact ⟨rfl, rfl, rfl⟩⟩)
          · skip
            refine ga_aload_n (pc := 36) dX0_feed_36 rfl ?_
            refine cc_g_tape (pc := 37) hc dX0_feed_37 ?_
            refine ga_aload_n (pc := 40) dX0_feed_40 rfl ?_
            refine cc_g_tapeMany (pc := 41) (z := J 15) hc rfl dX0_feed_41 ?_
            refine ga_iload (pc := 44) dX0_feed_44 rfl ?_
            refine ga_iadd (pc := 46) dX0_feed_46 ?_
            refine ga_lload_n (pc := 47) dX0_feed_47 rfl ?_
            refine ga_bipush (pc := 48) dX0_feed_48 rfl ?_
            refine ga_iload (pc := 50) dX0_feed_50 rfl ?_
            refine ga_imul (pc := 52) dX0_feed_52 ?_
            refine ga_lshr (pc := 53) dX0_feed_53 ?_
            refine ga_l2i (pc := 54) dX0_feed_54 ?_
            refine ga_i2b (pc := 55) dX0_feed_55 ?_
            refine cc_ast9 (pc := 56) (B1 := (uN B 9 (uZ (mFd (B 9) (J 15) e x) ((J 15) + x) (((lshr e (8 * x)).bmod 256).bmod 256)))) hc (by omega) (by funext j; by_cases e0 : j = 9; (subst e0; rfl); simp only [uN, if_neg e0]) dX0_feed_56 (fun h hc => ?_)
            refine ga_iinc (pc := 57) (L1 := [some (.ref (ad 0)), some (.long (lI e)), none, some (.int (iI y)), some (.int (iI (x + 1)))]) dX0_feed_57 rfl rfl (by decide) rfl ?_
            refine ga_goto (pc := 60) (tgt := 30) dX0_feed_60 rfl ?_
            replace hc : cOn h ad J (uN B 9 (mFd (B 9) (J 15) e (x + 1))) Q Z := hc.eq (rfl) (by funext j; by_cases e0 : j = 9; (subst e0; exact (show (uZ (mFd (B 9) (J 15) e x) ((J 15) + x) (((lshr e (8 * x)).bmod 256).bmod 256)) = (mFd (B 9) (J 15) e (x + 1)) from by rw [zsh_b e (by omega)]; exact mFd_s _ hk.1)); simp only [uN, if_neg e0]) rfl
            exact ih30 (x + 1) h hc (by omega) (by omega)
      exact lp30 _ 0 h hc (by omega) (Nat.lt_succ_self _)
    · skip
      refine ga_bipush (pc := 24) dX0_feed_24 rfl ?_
      exact cc_iret hc hE dX0_feed_26 (⟨_, rfl, by dsimp only; rw [if_pos (by omega), if_pos (by omega)]; exact ⟨rfl, rfl, rfl⟩⟩)
  · skip
    refine ga_iconst (pc := 10) dX0_feed_10 ?_
    exact cc_iret hc hE dX0_feed_11 (⟨_, rfl, by dsimp only; rw [if_neg (by omega)]; exact ⟨rfl, rfl, rfl⟩⟩)
set_option maxHeartbeats 4000000 in
set_option maxRecDepth 100000 in
theorem m_X0_next (l : Launch) (D : ga_G) (ad : Nat → Nat) (J : Nat → Int) (B : Nat → Int → Int) (Q : Nat → Int → Option Nat) (Z : ga_H)  (ht : 0 ≤ J 17 ∧ J 17 ≤ J 15 ∧ J 15 ≤ 200) (hb : ∀ k : Int, -128 ≤ B 9 k ∧ B 9 k ≤ 127) : cM l D yX0_next (ws_ yX0_next cX0_next 4 none) (gR 1) [.ref (ad 0)] ad J B Q Z (mV (fun J1 B1 => J1 = (uN (uN J 16 (tkFrom (B 9) (J 15) (J 17))) 17 (tkTo (B 9) (J 15) (J 17))) ∧ B1 = B)) := by
  refine cc_met (own := RX0) 3 (by decide) rfl (Nat.le_of_ble_eq_true rfl) (L0 := [some (.ref (ad 0)), none, none, none]) rfl (fun X h hc hE => ?_)
  have jn30 : ∀ (q : Int), ∀ h : ga_H, cOn h ad J B Q Z → (J 17 ≤ q ∧ q ≤ J 15) → (q = tkFrom (B 9) (J 15) (J 17)) → G X (gR 1) RX0 4 cX0_next h 0 0 30 [some (.ref (ad 0)), some (.int (iI q)), none, none] [] := by
    intro q h hc hq hF
    refine ga_aload_n (pc := 30) dX0_next_30 rfl ?_
    refine ga_iload_n (pc := 31) dX0_next_31 rfl ?_
    refine cc_p_at (pc := 32) (J1 := (uN J 16 q)) hc (rfl) dX0_next_32 (fun h hc => ?_)
    have jn60 : ∀ (x : Int), ∀ h : ga_H, cOn h ad (uN J 16 q) B Q Z → (x = bI (q < J 15 ∧ 97 ≤ B 9 q ∧ B 9 q ≤ 122)) → G X (gR 1) RX0 4 cX0_next h 0 0 60 [some (.ref (ad 0)), some (.int (iI q)), none, none] [.int (iI x)] := by
      intro x h hc hx
      subst hx
      refine ga_istore_n (pc := 60) (L1 := [some (.ref (ad 0)), some (.int (iI q)), some (.int (iI (bI (q < J 15 ∧ 97 ≤ B 9 q ∧ B 9 q ≤ 122)))), none]) dX0_next_60 rfl (by decide) rfl ?_
      have jn86 : ∀ (y : Int), ∀ h : ga_H, cOn h ad (uN J 16 q) B Q Z → (y = bI (q < J 15 ∧ 48 ≤ B 9 q ∧ B 9 q ≤ 57)) → G X (gR 1) RX0 4 cX0_next h 0 0 86 [some (.ref (ad 0)), some (.int (iI q)), some (.int (iI (bI (q < J 15 ∧ 97 ≤ B 9 q ∧ B 9 q ≤ 122)))), none] [.int (iI y)] := by
        intro y h hc hy
        subst hy
        refine ga_istore_n (pc := 86) (L1 := [some (.ref (ad 0)), some (.int (iI q)), some (.int (iI (bI (q < J 15 ∧ 97 ≤ B 9 q ∧ B 9 q ≤ 122)))), some (.int (iI (bI (q < J 15 ∧ 48 ≤ B 9 q ∧ B 9 q ≤ 57))))]) dX0_next_86 rfl (by decide) rfl ?_
        have jn144 : ∀ (w : Int), ∀ h : ga_H, cOn h ad (uN J 16 q) B Q Z → (w = tkTo (B 9) (J 15) (J 17)) → G X (gR 1) RX0 4 cX0_next h 0 0 144 [some (.ref (ad 0)), some (.int (iI w)), none, none] [] := by
          intro w h hc hw
          refine ga_aload_n (pc := 144) dX0_next_144 rfl ?_
          refine ga_iload_n (pc := 145) dX0_next_145 rfl ?_
          refine cc_p_end (pc := 146) (J1 := (uN (uN J 16 q) 17 w)) hc (rfl) dX0_next_146 (fun h hc => ?_)
          exact cc_vret hc hE dX0_next_149 (⟨rfl, by funext j; by_cases e0 : j = 16; (subst e0; exact (show q = (tkFrom (B 9) (J 15) (J 17)) from hF)); by_cases e1 : j = 17; (subst e1; exact (show w = (tkTo (B 9) (J 15) (J 17)) from hw)); simp only [uN, if_neg e0, if_neg e1], rfl⟩)
        refine ga_iload_n (pc := 87) dX0_next_87 rfl ?_
        refine ga_aload_n (pc := 88) dX0_next_88 rfl ?_
        refine cc_g_tapeMany (pc := 89) (z := J 15) hc rfl dX0_next_89 ?_
        refine ga_icmp_ge (pc := 92) (tgt := 98) dX0_next_92 rfl (by omega) (by omega) (fun c92 => ?_) (fun c92 => ?_)
        · skip
          have lp98 : ∀ (N98 : Nat) (w : Int), ∀ h : ga_H, cOn h ad (uN J 16 q) B Q Z → ((q < J 15 → q < w) ∧ q ≤ w ∧ w ≤ J 15 ∧ (J 15 ≤ q → w = q)) → ((if q < J 15 then tkE (B 9) (J 15) (B 9 q) (J 15 - w).toNat w else w) = tkTo (B 9) (J 15) (J 17)) → (J 15 - w).toNat < N98 → G X (gR 1) RX0 4 cX0_next h 0 0 98 [some (.ref (ad 0)), some (.int (iI w)), some (.int (iI (bI (q < J 15 ∧ 97 ≤ B 9 q ∧ B 9 q ≤ 122)))), some (.int (iI (bI (q < J 15 ∧ 48 ≤ B 9 q ∧ B 9 q ≤ 57))))] [] := by
            intro N98
            induction N98 with
            | zero => intro w h hc hw hg hN98; exact absurd hN98 (Nat.not_lt_zero _)
            | succ N98 ih98 =>
              intro w h hc hw hg hN98
              refine ga_iload_n (pc := 98) dX0_next_98 rfl ?_
              refine ga_aload_n (pc := 99) dX0_next_99 rfl ?_
              refine cc_g_tapeMany (pc := 100) (z := J 15) hc rfl dX0_next_100 ?_
              refine ga_icmp_ge (pc := 103) (tgt := 144) dX0_next_103 rfl (by omega) (by omega) (fun c103 => ?_) (fun c103 => ?_)
              · skip
                refine ga_kill (pc := 144) 2 (L1 := [some (.ref (ad 0)), some (.int (iI w)), none, some (.int (iI (bI (q < J 15 ∧ 48 ≤ B 9 q ∧ B 9 q ≤ 57))))]) rfl ?_
                refine ga_kill (pc := 144) 3 (L1 := [some (.ref (ad 0)), some (.int (iI w)), none, none]) rfl ?_
                exact jn144 w h hc (by rw [← hg]; first | (rw [if_neg (by omega)]; done) | (by_cases z : q < J 15; (rw [if_pos z, tkE_f (by omega)]); rw [if_neg z]))
              · skip
                refine ga_iload_n (pc := 106) dX0_next_106 rfl ?_
                refine ga_ifb_eq (pc := 107) (tgt := 122) dX0_next_107 rfl (fun c107 => ?_) (fun c107 => ?_)
                · skip
                  refine ga_iload_n (pc := 122) dX0_next_122 rfl ?_
                  refine ga_ifb_eq (pc := 123) (tgt := 144) dX0_next_123 rfl (fun c123 => ?_) (fun c123 => ?_)
                  · skip
                    refine ga_kill (pc := 144) 2 (L1 := [some (.ref (ad 0)), some (.int (iI w)), none, some (.int (iI (bI (q < J 15 ∧ 48 ≤ B 9 q ∧ B 9 q ≤ 57))))]) rfl ?_
                    refine ga_kill (pc := 144) 3 (L1 := [some (.ref (ad 0)), some (.int (iI w)), none, none]) rfl ?_
                    exact jn144 w h hc (by rw [← hg]; first | (rw [if_neg (by omega)]; done) | (by_cases z : q < J 15; (rw [if_pos z, tkE_f (by omega)]); rw [if_neg z]))
                  · skip
                    refine ga_aload_n (pc := 126) dX0_next_126 rfl ?_
                    refine cc_g_tape (pc := 127) hc dX0_next_127 ?_
                    refine ga_iload_n (pc := 130) dX0_next_130 rfl ?_
                    have hb1 := hb w
                    refine cc_ald9 (pc := 131) (x := B 9 w) hc (by omega) (rfl) dX0_next_131 ?_
                    refine k_X0_isDigit (pc := 132) (b := (B 9 w)) (by omega) (rfl) ⟨Nat.le_of_ble_eq_true rfl, Nat.le_of_ble_eq_true rfl⟩ ⟨Nat.le_of_ble_eq_true rfl, Nat.le_of_ble_eq_true rfl⟩ (Nat.le_of_ble_eq_true rfl) dX0_next_132 ?_
                    refine ga_ifb_eq (pc := 135) (tgt := 144) dX0_next_135 rfl (fun c135 => ?_) (fun c135 => ?_)
                    · skip
                      refine ga_kill (pc := 144) 2 (L1 := [some (.ref (ad 0)), some (.int (iI w)), none, some (.int (iI (bI (q < J 15 ∧ 48 ≤ B 9 q ∧ B 9 q ≤ 57))))]) rfl ?_
                      refine ga_kill (pc := 144) 3 (L1 := [some (.ref (ad 0)), some (.int (iI w)), none, none]) rfl ?_
                      exact jn144 w h hc (by rw [← hg]; first | (rw [if_neg (by omega)]; done) | (by_cases z : q < J 15; (rw [if_pos z, tkE_f (by omega)]); rw [if_neg z]))
                    · skip
                      refine ga_iinc (pc := 138) (L1 := [some (.ref (ad 0)), some (.int (iI (w + 1))), some (.int (iI (bI (q < J 15 ∧ 97 ≤ B 9 q ∧ B 9 q ≤ 122)))), some (.int (iI (bI (q < J 15 ∧ 48 ≤ B 9 q ∧ B 9 q ≤ 57))))]) dX0_next_138 rfl rfl (by decide) rfl ?_
                      refine ga_goto (pc := 141) (tgt := 98) dX0_next_141 rfl ?_
                      exact ih98 (w + 1) h hc (by omega) (by rw [← hg, if_pos (by omega), if_pos (by omega)]; exact (tkE_t (k := w) (by omega)).symm) (by omega)
                · skip
                  refine ga_aload_n (pc := 110) dX0_next_110 rfl ?_
                  refine cc_g_tape (pc := 111) hc dX0_next_111 ?_
                  refine ga_iload_n (pc := 114) dX0_next_114 rfl ?_
                  have hb1 := hb w
                  refine cc_ald9 (pc := 115) (x := B 9 w) hc (by omega) (rfl) dX0_next_115 ?_
                  refine k_X0_isLetter (pc := 116) (b := (B 9 w)) (by omega) (rfl) ⟨Nat.le_of_ble_eq_true rfl, Nat.le_of_ble_eq_true rfl⟩ ⟨Nat.le_of_ble_eq_true rfl, Nat.le_of_ble_eq_true rfl⟩ (Nat.le_of_ble_eq_true rfl) dX0_next_116 ?_
                  refine ga_ifb_ne (pc := 119) (tgt := 138) dX0_next_119 rfl (fun c119 => ?_) (fun c119 => ?_)
                  · skip
                    refine ga_iinc (pc := 138) (L1 := [some (.ref (ad 0)), some (.int (iI (w + 1))), some (.int (iI (bI (q < J 15 ∧ 97 ≤ B 9 q ∧ B 9 q ≤ 122)))), some (.int (iI (bI (q < J 15 ∧ 48 ≤ B 9 q ∧ B 9 q ≤ 57))))]) dX0_next_138 rfl rfl (by decide) rfl ?_
                    refine ga_goto (pc := 141) (tgt := 98) dX0_next_141 rfl ?_
                    exact ih98 (w + 1) h hc (by omega) (by rw [← hg, if_pos (by omega), if_pos (by omega)]; exact (tkE_t (k := w) (by omega)).symm) (by omega)
                  · skip
                    refine ga_iload_n (pc := 122) dX0_next_122 rfl ?_
                    refine ga_ifb_eq (pc := 123) (tgt := 144) dX0_next_123 rfl (fun c123 => ?_) (fun c123 => ?_)
                    · skip
                      refine ga_kill (pc := 144) 2 (L1 := [some (.ref (ad 0)), some (.int (iI w)), none, some (.int (iI (bI (q < J 15 ∧ 48 ≤ B 9 q ∧ B 9 q ≤ 57))))]) rfl ?_
                      refine ga_kill (pc := 144) 3 (L1 := [some (.ref (ad 0)), some (.int (iI w)), none, none]) rfl ?_
                      exact jn144 w h hc (by rw [← hg]; first | (rw [if_neg (by omega)]; done) | (by_cases z : q < J 15; (rw [if_pos z, tkE_f (by omega)]); rw [if_neg z]))
                    · skip
                      refine ga_aload_n (pc := 126) dX0_next_126 rfl ?_
                      refine cc_g_tape (pc := 127) hc dX0_next_127 ?_
                      refine ga_iload_n (pc := 130) dX0_next_130 rfl ?_
                      have hb1 := hb w
                      refine cc_ald9 (pc := 131) (x := B 9 w) hc (by omega) (rfl) dX0_next_131 ?_
                      refine k_X0_isDigit (pc := 132) (b := (B 9 w)) (by omega) (rfl) ⟨Nat.le_of_ble_eq_true rfl, Nat.le_of_ble_eq_true rfl⟩ ⟨Nat.le_of_ble_eq_true rfl, Nat.le_of_ble_eq_true rfl⟩ (Nat.le_of_ble_eq_true rfl) dX0_next_132 ?_
                      refine ga_ifb_eq (pc := 135) (tgt := 144) dX0_next_135 rfl (fun c135 => ?_) (fun c135 => ?_)
                      · skip
                        refine ga_kill (pc := 144) 2 (L1 := [some (.ref (ad 0)), some (.int (iI w)), none, some (.int (iI (bI (q < J 15 ∧ 48 ≤ B 9 q ∧ B 9 q ≤ 57))))]) rfl ?_
                        refine ga_kill (pc := 144) 3 (L1 := [some (.ref (ad 0)), some (.int (iI w)), none, none]) rfl ?_
                        exact jn144 w h hc (by rw [← hg]; first | (rw [if_neg (by omega)]; done) | (by_cases z : q < J 15; (rw [if_pos z, tkE_f (by omega)]); rw [if_neg z]))
                      · skip
                        refine ga_iinc (pc := 138) (L1 := [some (.ref (ad 0)), some (.int (iI (w + 1))), some (.int (iI (bI (q < J 15 ∧ 97 ≤ B 9 q ∧ B 9 q ≤ 122)))), some (.int (iI (bI (q < J 15 ∧ 48 ≤ B 9 q ∧ B 9 q ≤ 57))))]) dX0_next_138 rfl rfl (by decide) rfl ?_
                        refine ga_goto (pc := 141) (tgt := 98) dX0_next_141 rfl ?_
                        exact ih98 (w + 1) h hc (by omega) (by rw [← hg, if_pos (by omega), if_pos (by omega)]; exact (tkE_t (k := w) (by omega)).symm) (by omega)
          exact lp98 _ q h hc (by omega) (by unfold tkTo; rw [← hF]; first | (rw [if_pos (by omega), if_pos (by omega)]; done) | (rw [if_neg (by omega), if_neg (by omega)])) (Nat.lt_succ_self _)
        · skip
          refine ga_iinc (pc := 95) (L1 := [some (.ref (ad 0)), some (.int (iI (q + 1))), some (.int (iI (bI (q < J 15 ∧ 97 ≤ B 9 q ∧ B 9 q ≤ 122)))), some (.int (iI (bI (q < J 15 ∧ 48 ≤ B 9 q ∧ B 9 q ≤ 57))))]) dX0_next_95 rfl rfl (by decide) rfl ?_
          have lp98 : ∀ (N98 : Nat) (w : Int), ∀ h : ga_H, cOn h ad (uN J 16 q) B Q Z → ((q < J 15 → q < w) ∧ q ≤ w ∧ w ≤ J 15 ∧ (J 15 ≤ q → w = q)) → ((if q < J 15 then tkE (B 9) (J 15) (B 9 q) (J 15 - w).toNat w else w) = tkTo (B 9) (J 15) (J 17)) → (J 15 - w).toNat < N98 → G X (gR 1) RX0 4 cX0_next h 0 0 98 [some (.ref (ad 0)), some (.int (iI w)), some (.int (iI (bI (q < J 15 ∧ 97 ≤ B 9 q ∧ B 9 q ≤ 122)))), some (.int (iI (bI (q < J 15 ∧ 48 ≤ B 9 q ∧ B 9 q ≤ 57))))] [] := by
            intro N98
            induction N98 with
            | zero => intro w h hc hw hg hN98; exact absurd hN98 (Nat.not_lt_zero _)
            | succ N98 ih98 =>
              intro w h hc hw hg hN98
              refine ga_iload_n (pc := 98) dX0_next_98 rfl ?_
              refine ga_aload_n (pc := 99) dX0_next_99 rfl ?_
              refine cc_g_tapeMany (pc := 100) (z := J 15) hc rfl dX0_next_100 ?_
              refine ga_icmp_ge (pc := 103) (tgt := 144) dX0_next_103 rfl (by omega) (by omega) (fun c103 => ?_) (fun c103 => ?_)
              · skip
                refine ga_kill (pc := 144) 2 (L1 := [some (.ref (ad 0)), some (.int (iI w)), none, some (.int (iI (bI (q < J 15 ∧ 48 ≤ B 9 q ∧ B 9 q ≤ 57))))]) rfl ?_
                refine ga_kill (pc := 144) 3 (L1 := [some (.ref (ad 0)), some (.int (iI w)), none, none]) rfl ?_
                exact jn144 w h hc (by rw [← hg]; first | (rw [if_neg (by omega)]; done) | (by_cases z : q < J 15; (rw [if_pos z, tkE_f (by omega)]); rw [if_neg z]))
              · skip
                refine ga_iload_n (pc := 106) dX0_next_106 rfl ?_
                refine ga_ifb_eq (pc := 107) (tgt := 122) dX0_next_107 rfl (fun c107 => ?_) (fun c107 => ?_)
                · skip
                  refine ga_iload_n (pc := 122) dX0_next_122 rfl ?_
                  refine ga_ifb_eq (pc := 123) (tgt := 144) dX0_next_123 rfl (fun c123 => ?_) (fun c123 => ?_)
                  · skip
                    refine ga_kill (pc := 144) 2 (L1 := [some (.ref (ad 0)), some (.int (iI w)), none, some (.int (iI (bI (q < J 15 ∧ 48 ≤ B 9 q ∧ B 9 q ≤ 57))))]) rfl ?_
                    refine ga_kill (pc := 144) 3 (L1 := [some (.ref (ad 0)), some (.int (iI w)), none, none]) rfl ?_
                    exact jn144 w h hc (by rw [← hg]; first | (rw [if_neg (by omega)]; done) | (by_cases z : q < J 15; (rw [if_pos z, tkE_f (by omega)]); rw [if_neg z]))
                  · skip
                    refine ga_aload_n (pc := 126) dX0_next_126 rfl ?_
                    refine cc_g_tape (pc := 127) hc dX0_next_127 ?_
                    refine ga_iload_n (pc := 130) dX0_next_130 rfl ?_
                    have hb1 := hb w
                    refine cc_ald9 (pc := 131) (x := B 9 w) hc (by omega) (rfl) dX0_next_131 ?_
                    refine k_X0_isDigit (pc := 132) (b := (B 9 w)) (by omega) (rfl) ⟨Nat.le_of_ble_eq_true rfl, Nat.le_of_ble_eq_true rfl⟩ ⟨Nat.le_of_ble_eq_true rfl, Nat.le_of_ble_eq_true rfl⟩ (Nat.le_of_ble_eq_true rfl) dX0_next_132 ?_
                    refine ga_ifb_eq (pc := 135) (tgt := 144) dX0_next_135 rfl (fun c135 => ?_) (fun c135 => ?_)
                    · skip
                      refine ga_kill (pc := 144) 2 (L1 := [some (.ref (ad 0)), some (.int (iI w)), none, some (.int (iI (bI (q < J 15 ∧ 48 ≤ B 9 q ∧ B 9 q ≤ 57))))]) rfl ?_
                      refine ga_kill (pc := 144) 3 (L1 := [some (.ref (ad 0)), some (.int (iI w)), none, none]) rfl ?_
                      exact jn144 w h hc (by rw [← hg]; first | (rw [if_neg (by omega)]; done) | (by_cases z : q < J 15; (rw [if_pos z, tkE_f (by omega)]); rw [if_neg z]))
                    · skip
                      refine ga_iinc (pc := 138) (L1 := [some (.ref (ad 0)), some (.int (iI (w + 1))), some (.int (iI (bI (q < J 15 ∧ 97 ≤ B 9 q ∧ B 9 q ≤ 122)))), some (.int (iI (bI (q < J 15 ∧ 48 ≤ B 9 q ∧ B 9 q ≤ 57))))]) dX0_next_138 rfl rfl (by decide) rfl ?_
                      refine ga_goto (pc := 141) (tgt := 98) dX0_next_141 rfl ?_
                      exact ih98 (w + 1) h hc (by omega) (by rw [← hg, if_pos (by omega), if_pos (by omega)]; exact (tkE_t (k := w) (by omega)).symm) (by omega)
                · skip
                  refine ga_aload_n (pc := 110) dX0_next_110 rfl ?_
                  refine cc_g_tape (pc := 111) hc dX0_next_111 ?_
                  refine ga_iload_n (pc := 114) dX0_next_114 rfl ?_
                  have hb1 := hb w
                  refine cc_ald9 (pc := 115) (x := B 9 w) hc (by omega) (rfl) dX0_next_115 ?_
                  refine k_X0_isLetter (pc := 116) (b := (B 9 w)) (by omega) (rfl) ⟨Nat.le_of_ble_eq_true rfl, Nat.le_of_ble_eq_true rfl⟩ ⟨Nat.le_of_ble_eq_true rfl, Nat.le_of_ble_eq_true rfl⟩ (Nat.le_of_ble_eq_true rfl) dX0_next_116 ?_
                  refine ga_ifb_ne (pc := 119) (tgt := 138) dX0_next_119 rfl (fun c119 => ?_) (fun c119 => ?_)
                  · skip
                    refine ga_iinc (pc := 138) (L1 := [some (.ref (ad 0)), some (.int (iI (w + 1))), some (.int (iI (bI (q < J 15 ∧ 97 ≤ B 9 q ∧ B 9 q ≤ 122)))), some (.int (iI (bI (q < J 15 ∧ 48 ≤ B 9 q ∧ B 9 q ≤ 57))))]) dX0_next_138 rfl rfl (by decide) rfl ?_
                    refine ga_goto (pc := 141) (tgt := 98) dX0_next_141 rfl ?_
                    exact ih98 (w + 1) h hc (by omega) (by rw [← hg, if_pos (by omega), if_pos (by omega)]; exact (tkE_t (k := w) (by omega)).symm) (by omega)
                  · skip
                    refine ga_iload_n (pc := 122) dX0_next_122 rfl ?_
                    refine ga_ifb_eq (pc := 123) (tgt := 144) dX0_next_123 rfl (fun c123 => ?_) (fun c123 => ?_)
                    · skip
                      refine ga_kill (pc := 144) 2 (L1 := [some (.ref (ad 0)), some (.int (iI w)), none, some (.int (iI (bI (q < J 15 ∧ 48 ≤ B 9 q ∧ B 9 q ≤ 57))))]) rfl ?_
                      refine ga_kill (pc := 144) 3 (L1 := [some (.ref (ad 0)), some (.int (iI w)), none, none]) rfl ?_
                      exact jn144 w h hc (by rw [← hg]; first | (rw [if_neg (by omega)]; done) | (by_cases z : q < J 15; (rw [if_pos z, tkE_f (by omega)]); rw [if_neg z]))
                    · skip
                      refine ga_aload_n (pc := 126) dX0_next_126 rfl ?_
                      refine cc_g_tape (pc := 127) hc dX0_next_127 ?_
                      refine ga_iload_n (pc := 130) dX0_next_130 rfl ?_
                      have hb1 := hb w
                      refine cc_ald9 (pc := 131) (x := B 9 w) hc (by omega) (rfl) dX0_next_131 ?_
                      refine k_X0_isDigit (pc := 132) (b := (B 9 w)) (by omega) (rfl) ⟨Nat.le_of_ble_eq_true rfl, Nat.le_of_ble_eq_true rfl⟩ ⟨Nat.le_of_ble_eq_true rfl, Nat.le_of_ble_eq_true rfl⟩ (Nat.le_of_ble_eq_true rfl) dX0_next_132 ?_
                      refine ga_ifb_eq (pc := 135) (tgt := 144) dX0_next_135 rfl (fun c135 => ?_) (fun c135 => ?_)
                      · skip
                        refine ga_kill (pc := 144) 2 (L1 := [some (.ref (ad 0)), some (.int (iI w)), none, some (.int (iI (bI (q < J 15 ∧ 48 ≤ B 9 q ∧ B 9 q ≤ 57))))]) rfl ?_
                        refine ga_kill (pc := 144) 3 (L1 := [some (.ref (ad 0)), some (.int (iI w)), none, none]) rfl ?_
                        exact jn144 w h hc (by rw [← hg]; first | (rw [if_neg (by omega)]; done) | (by_cases z : q < J 15; (rw [if_pos z, tkE_f (by omega)]); rw [if_neg z]))
                      · skip
                        refine ga_iinc (pc := 138) (L1 := [some (.ref (ad 0)), some (.int (iI (w + 1))), some (.int (iI (bI (q < J 15 ∧ 97 ≤ B 9 q ∧ B 9 q ≤ 122)))), some (.int (iI (bI (q < J 15 ∧ 48 ≤ B 9 q ∧ B 9 q ≤ 57))))]) dX0_next_138 rfl rfl (by decide) rfl ?_
                        refine ga_goto (pc := 141) (tgt := 98) dX0_next_141 rfl ?_
                        exact ih98 (w + 1) h hc (by omega) (by rw [← hg, if_pos (by omega), if_pos (by omega)]; exact (tkE_t (k := w) (by omega)).symm) (by omega)
          exact lp98 _ (q + 1) h hc (by omega) (by unfold tkTo; rw [← hF]; first | (rw [if_pos (by omega), if_pos (by omega)]; done) | (rw [if_neg (by omega), if_neg (by omega)])) (Nat.lt_succ_self _)
      refine ga_iload_n (pc := 61) dX0_next_61 rfl ?_
      refine ga_aload_n (pc := 62) dX0_next_62 rfl ?_
      refine cc_g_tapeMany (pc := 63) (z := J 15) hc rfl dX0_next_63 ?_
      refine ga_icmp_ge (pc := 66) (tgt := 85) dX0_next_66 rfl (by omega) (by omega) (fun c66 => ?_) (fun c66 => ?_)
      · skip
        refine ga_iconst (pc := 85) dX0_next_85 ?_
        exact jn86 0 h hc (by first | exact (bI_t (by omega)).symm | exact (bI_f (by omega)).symm)
      · skip
        refine ga_aload_n (pc := 69) dX0_next_69 rfl ?_
        refine cc_g_tape (pc := 70) hc dX0_next_70 ?_
        refine ga_iload_n (pc := 73) dX0_next_73 rfl ?_
        have hb0 := hb q
        refine cc_ald9 (pc := 74) (x := B 9 q) hc (by omega) (rfl) dX0_next_74 ?_
        refine k_X0_isDigit (pc := 75) (b := (B 9 q)) (by omega) (rfl) ⟨Nat.le_of_ble_eq_true rfl, Nat.le_of_ble_eq_true rfl⟩ ⟨Nat.le_of_ble_eq_true rfl, Nat.le_of_ble_eq_true rfl⟩ (Nat.le_of_ble_eq_true rfl) dX0_next_75 ?_
        refine ga_ifb_eq (pc := 78) (tgt := 85) dX0_next_78 rfl (fun c78 => ?_) (fun c78 => ?_)
        · skip
          refine ga_iconst (pc := 85) dX0_next_85 ?_
          exact jn86 0 h hc (by first | exact (bI_t (by omega)).symm | exact (bI_f (by omega)).symm)
        · skip
          refine ga_iconst (pc := 81) dX0_next_81 ?_
          refine ga_goto (pc := 82) (tgt := 86) dX0_next_82 rfl ?_
          exact jn86 1 h hc (by first | exact (bI_t (by omega)).symm | exact (bI_f (by omega)).symm)
    refine ga_iload_n (pc := 35) dX0_next_35 rfl ?_
    refine ga_aload_n (pc := 36) dX0_next_36 rfl ?_
    refine cc_g_tapeMany (pc := 37) (z := J 15) hc rfl dX0_next_37 ?_
    refine ga_icmp_ge (pc := 40) (tgt := 59) dX0_next_40 rfl (by omega) (by omega) (fun c40 => ?_) (fun c40 => ?_)
    · skip
      refine ga_iconst (pc := 59) dX0_next_59 ?_
      exact jn60 0 h hc (by first | exact (bI_t (by omega)).symm | exact (bI_f (by omega)).symm)
    · skip
      refine ga_aload_n (pc := 43) dX0_next_43 rfl ?_
      refine cc_g_tape (pc := 44) hc dX0_next_44 ?_
      refine ga_iload_n (pc := 47) dX0_next_47 rfl ?_
      have hb0 := hb q
      refine cc_ald9 (pc := 48) (x := B 9 q) hc (by omega) (rfl) dX0_next_48 ?_
      refine k_X0_isLetter (pc := 49) (b := (B 9 q)) (by omega) (rfl) ⟨Nat.le_of_ble_eq_true rfl, Nat.le_of_ble_eq_true rfl⟩ ⟨Nat.le_of_ble_eq_true rfl, Nat.le_of_ble_eq_true rfl⟩ (Nat.le_of_ble_eq_true rfl) dX0_next_49 ?_
      refine ga_ifb_eq (pc := 52) (tgt := 59) dX0_next_52 rfl (fun c52 => ?_) (fun c52 => ?_)
      · skip
        refine ga_iconst (pc := 59) dX0_next_59 ?_
        exact jn60 0 h hc (by first | exact (bI_t (by omega)).symm | exact (bI_f (by omega)).symm)
      · skip
        refine ga_iconst (pc := 55) dX0_next_55 ?_
        refine ga_goto (pc := 56) (tgt := 60) dX0_next_56 rfl ?_
        exact jn60 1 h hc (by first | exact (bI_t (by omega)).symm | exact (bI_f (by omega)).symm)
  refine ga_aload_n (pc := 0) dX0_next_0 rfl ?_
  refine cc_g_end (pc := 1) (z := J 17) hc rfl dX0_next_1 ?_
  refine ga_istore_n (pc := 4) (L1 := [some (.ref (ad 0)), some (.int (iI (J 17))), none, none]) dX0_next_4 rfl (by decide) rfl ?_
  have lp5 : ∀ (N5 : Nat) (q : Int), ∀ h : ga_H, cOn h ad J B Q Z → (J 17 ≤ q ∧ q ≤ J 15) → (tkS (B 9) (J 15) (J 15 - q).toNat q = tkFrom (B 9) (J 15) (J 17)) → (J 15 - q).toNat < N5 → G X (gR 1) RX0 4 cX0_next h 0 0 5 [some (.ref (ad 0)), some (.int (iI q)), none, none] [] := by
    intro N5
    induction N5 with
    | zero => intro q h hc hq hf hN5; exact absurd hN5 (Nat.not_lt_zero _)
    | succ N5 ih5 =>
      intro q h hc hq hf hN5
      refine ga_iload_n (pc := 5) dX0_next_5 rfl ?_
      refine ga_aload_n (pc := 6) dX0_next_6 rfl ?_
      refine cc_g_tapeMany (pc := 7) (z := J 15) hc rfl dX0_next_7 ?_
      refine ga_icmp_ge (pc := 10) (tgt := 30) dX0_next_10 rfl (by omega) (by omega) (fun c10 => ?_) (fun c10 => ?_)
      · skip
        exact jn30 q h hc (by omega) (by rw [← hf, tkS_f (by omega)])
      · skip
        refine ga_aload_n (pc := 13) dX0_next_13 rfl ?_
        refine cc_g_tape (pc := 14) hc dX0_next_14 ?_
        refine ga_iload_n (pc := 17) dX0_next_17 rfl ?_
        have hb0 := hb q
        refine cc_ald9 (pc := 18) (x := B 9 q) hc (by omega) (rfl) dX0_next_18 ?_
        refine ga_bipush (pc := 19) dX0_next_19 rfl ?_
        refine ga_icmp_ne (pc := 21) (tgt := 30) dX0_next_21 rfl (by omega) (by omega) (fun c21 => ?_) (fun c21 => ?_)
        · skip
          exact jn30 q h hc (by omega) (by rw [← hf, tkS_f (by omega)])
        · skip
          refine ga_iinc (pc := 24) (L1 := [some (.ref (ad 0)), some (.int (iI (q + 1))), none, none]) dX0_next_24 rfl rfl (by decide) rfl ?_
          refine ga_goto (pc := 27) (tgt := 5) dX0_next_27 rfl ?_
          exact ih5 (q + 1) h hc (by omega) (by rw [← tkS_t (by omega)]; exact hf) (by omega)
  exact lp5 _ (J 17) h hc (by omega) (rfl) (Nat.lt_succ_self _)
theorem k_X0_next {X : ga_X} {R : Room} {nL : Nat} {cc : ByteArray} {h : ga_H} {ad : Nat → Nat} {J : Nat → Int} {B : Nat → Int → Int} {Q : Nat → Int → Option Nat} {Z : ga_H} {k n pc : Nat} {L : List (Option Value)} {st : List Value}   {J2 : Nat → Int} (hc : cOn h ad J B Q Z) (ht : 0 ≤ J 17 ∧ J 17 ≤ J 15 ∧ J 15 ≤ 200) (hb : ∀ k : Int, -128 ≤ B 9 k ∧ B 9 k ≤ 127)  (hJ2 : (uN (uN J 16 (tkFrom (B 9) (J 15) (J 17))) 17 (tkTo (B 9) (J 15) (J 17))) = J2) (hR : 1 + 1 ≤ R.frames ∧ 19 + 4 + 64 * 1 ≤ R.locals) (hk : k ≤ R.cells ∧ n ≤ R.slots) (hs : (st.map fun v => v.category).sum ≤ 8) (dd : decode cc pc = .ok (.invokevirtual 245, 3)) (kk : ∀ h : ga_H, cOn h ad J2 B Q Z → G X R RX0 nL cc h k n (pc + 3) L st) : G X R RX0 nL cc h k n pc L (.ref (ad 0) :: st) :=
  cc_run hc (m_X0_next _ _ ad J B Q Z  ht hb) (lw_V q587 q589 qs5 q102 q590) rfl (show ga_nn' yX0_next 0 from (by unfold ga_nn'; decide +kernel)) hR hk hs dd rfl (fun v hX J1 B1 hcX hp => by
    obtain ⟨rfl, hp⟩ := hp
    obtain ⟨rfl, rfl⟩ := hp
    subst hJ2
    exact kk hX hcX)
