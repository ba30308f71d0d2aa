/-! THE CLASS: diagonal, character, swapped, stable -/
theorem cB2 {x0 x1 b : Int} (h0 : -b ≤ x0 ∧ x0 ≤ b) (h1 : -b ≤ x1 ∧ x1 ≤ b) (k : Int) (k0 : 0 ≤ k) (k1 : k < 2) : -b ≤ uZ (uZ (fun _ => 0) 0 x0) 1 x1 k ∧ uZ (uZ (fun _ => 0) 0 x0) 1 x1 k ≤ b := by
  rcases (by omega : k = 0 ∨ k = 1) with rfl | rfl
  · exact h0
  · exact h1
theorem cAbs_r (f : Int → Int) (n : Nat) : cAbs f n = 0 ∨ cAbs f n = 1 := by
  cases n with
  | zero => exact Or.inr rfl
  | succ n => show (if _ then (1 : Int) else 0) = 0 ∨ (if _ then (1 : Int) else 0) = 1; split; exact Or.inr rfl; exact Or.inl rfl
set_option maxHeartbeats 4000000 in
set_option maxRecDepth 100000 in
theorem m_X0_diagonal (l : Launch) (D : ga_G) (ad : Nat → Nat) (J : Nat → Int) (B : Nat → Int → Int) (Q : Nat → Int → Option Nat) (Z : ga_H) (t : Int) (hm : (1 ≤ J 30 ∧ J 30 ≤ 3) ∧ 1 ≤ J 31 ∧ J 31 ≤ 3) (hri : (-2147483648 ≤ t ∧ t < 2147483648)) : cM l D yX0_diagonal (ws_ yX0_diagonal cX0_diagonal 2 (some .long)) (gR 2) [.ref (ad 0), .int (iI t)] ad J B Q Z (mL (fun r J1 B1 => r = (if 0 ≤ t ∧ t ≤ 2 then (if t = 2 ∧ J 30 ≠ J 31 then -4000000000000000004 else zsum (fun x => B t.toNat (cCl J t * x + x)) (cRo J t).toNat) else -4000000000000000001) ∧ J1 = J ∧ B1 = B)) := by
  refine cc_met (own := RX0) 0 (by decide) rfl (Nat.le_of_ble_eq_true rfl) (L0 := [some (.ref (ad 0)), some (.int (iI t))]) rfl (fun X h hc hE => ?_)
  have hro := cRo_r hm t
  refine ga_iload_n (pc := 0) dX0_diagonal_0 rfl ?_
  refine k_X0_isTable (pc := 1) (a := t) (by omega) (rfl) ⟨Nat.le_of_ble_eq_true rfl, Nat.le_of_ble_eq_true rfl⟩ ⟨Nat.le_of_ble_eq_true rfl, Nat.le_of_ble_eq_true rfl⟩ (Nat.le_of_ble_eq_true rfl) dX0_diagonal_1 ?_
  refine ga_ifb_ne (pc := 4) (tgt := 12) dX0_diagonal_4 rfl (fun c4 => ?_) (fun c4 => ?_)
  · skip
    have ht9 : 0 ≤ t ∧ t ≤ 2 := by omega
    refine ga_iload_n (pc := 12) dX0_diagonal_12 rfl ?_
    refine ga_iconst (pc := 13) dX0_diagonal_13 ?_
    refine ga_icmp_ne (pc := 14) (tgt := 32) dX0_diagonal_14 rfl (by omega) (by omega) (fun c14 => ?_) (fun c14 => ?_)
    · skip
      have hsr : cRo J t ≤ cCl J t := by unfold cRo cCl; (repeat' split) <;> omega
      refine ga_aload_n (pc := 32) dX0_diagonal_32 rfl ?_
      refine cc_g_now (pc := 33) hc dX0_diagonal_33 ?_
      refine ga_iload_n (pc := 36) dX0_diagonal_36 rfl ?_
      refine k_X4_byNumber_X0 (pc := 37) (b := ad 4) (ta := ad 7) (tb := ad 8) (tc := ad 9) (m := J 30) (w := J 31) (t := t) (hc.1 4 (by decide)) (by omega) ⟨Nat.le_of_ble_eq_true rfl, Nat.le_of_ble_eq_true rfl⟩ ⟨Nat.le_of_ble_eq_true rfl, Nat.le_of_ble_eq_true rfl⟩ (Nat.le_of_ble_eq_true rfl) dX0_diagonal_37 ?_
      refine ga_eq (pc := 40) (st1 := [.ref (ad (7 + t.toNat))]) rfl rfl (congrArg (fun x => Value.ref x :: []) (cTabE ht9)) ?_
      refine k_X5_diagonal_X0 (pc := 40) (b := (ad (7 + t.toNat))) (e := (ad (16 + t.toNat))) (ro := (cRo J t)) (co := (cCl J t)) (f := (B t.toNat)) ((hc.tab ht9).1) ((hc.tab ht9).2) (by omega) (hsr) (rfl) ⟨Nat.le_of_ble_eq_true rfl, Nat.le_of_ble_eq_true rfl⟩ ⟨Nat.le_of_ble_eq_true rfl, Nat.le_of_ble_eq_true rfl⟩ (Nat.le_of_ble_eq_true rfl) dX0_diagonal_40 ?_
      exact cc_lret hc hE dX0_diagonal_43 (⟨_, rfl, by rw [if_pos (by omega), if_neg (by omega)], rfl, rfl⟩)
    · skip
      refine ga_aload_n (pc := 17) dX0_diagonal_17 rfl ?_
      refine k_X0_isSquare (pc := 18)  hc (by first | exact hm | omega) (rfl) ⟨Nat.le_of_ble_eq_true rfl, Nat.le_of_ble_eq_true rfl⟩ ⟨Nat.le_of_ble_eq_true rfl, Nat.le_of_ble_eq_true rfl⟩ (Nat.le_of_ble_eq_true rfl) dX0_diagonal_18 (fun h hc => ?_)
      refine ga_ifb_ne (pc := 21) (tgt := 32) dX0_diagonal_21 rfl (fun c21 => ?_) (fun c21 => ?_)
      · skip
        have hsr : cRo J t ≤ cCl J t := by unfold cRo cCl; (repeat' split) <;> omega
        refine ga_aload_n (pc := 32) dX0_diagonal_32 rfl ?_
        refine cc_g_now (pc := 33) hc dX0_diagonal_33 ?_
        refine ga_iload_n (pc := 36) dX0_diagonal_36 rfl ?_
        refine k_X4_byNumber_X0 (pc := 37) (b := ad 4) (ta := ad 7) (tb := ad 8) (tc := ad 9) (m := J 30) (w := J 31) (t := t) (hc.1 4 (by decide)) (by omega) ⟨Nat.le_of_ble_eq_true rfl, Nat.le_of_ble_eq_true rfl⟩ ⟨Nat.le_of_ble_eq_true rfl, Nat.le_of_ble_eq_true rfl⟩ (Nat.le_of_ble_eq_true rfl) dX0_diagonal_37 ?_
        refine ga_eq (pc := 40) (st1 := [.ref (ad (7 + t.toNat))]) rfl rfl (congrArg (fun x => Value.ref x :: []) (cTabE ht9)) ?_
        refine k_X5_diagonal_X0 (pc := 40) (b := (ad (7 + t.toNat))) (e := (ad (16 + t.toNat))) (ro := (cRo J t)) (co := (cCl J t)) (f := (B t.toNat)) ((hc.tab ht9).1) ((hc.tab ht9).2) (by omega) (hsr) (rfl) ⟨Nat.le_of_ble_eq_true rfl, Nat.le_of_ble_eq_true rfl⟩ ⟨Nat.le_of_ble_eq_true rfl, Nat.le_of_ble_eq_true rfl⟩ (Nat.le_of_ble_eq_true rfl) dX0_diagonal_40 ?_
        exact cc_lret hc hE dX0_diagonal_43 (⟨_, rfl, by rw [if_pos (by omega), if_neg (by omega)], rfl, rfl⟩)
      · skip
        refine ga_bipush (pc := 24) dX0_diagonal_24 rfl ?_
        refine k_X0_far (pc := 26) (a := (-4)) (by omega) (rfl) ⟨Nat.le_of_ble_eq_true rfl, Nat.le_of_ble_eq_true rfl⟩ ⟨Nat.le_of_ble_eq_true rfl, Nat.le_of_ble_eq_true rfl⟩ (Nat.le_of_ble_eq_true rfl) dX0_diagonal_26 ?_
        refine ga_goto (pc := 29) (tgt := 43) dX0_diagonal_29 rfl ?_
        exact cc_lret hc hE dX0_diagonal_43 (⟨_, rfl, by rw [if_pos (by omega), if_pos (by omega)]; omega, rfl, rfl⟩)
  · skip
    refine ga_iconst (pc := 7) dX0_diagonal_7 ?_
    refine k_X0_far (pc := 8) (a := (-1)) (by omega) (rfl) ⟨Nat.le_of_ble_eq_true rfl, Nat.le_of_ble_eq_true rfl⟩ ⟨Nat.le_of_ble_eq_true rfl, Nat.le_of_ble_eq_true rfl⟩ (Nat.le_of_ble_eq_true rfl) dX0_diagonal_8 ?_
    exact cc_lret hc hE dX0_diagonal_11 (⟨_, rfl, by rw [if_neg (by omega)]; omega, rfl, rfl⟩)
set_option maxHeartbeats 4000000 in
set_option maxRecDepth 100000 in
theorem m_X0_character (l : Launch) (D : ga_G) (ad : Nat → Nat) (J : Nat → Int) (B : Nat → Int → Int) (Q : Nat → Int → Option Nat) (Z : ga_H) (t ch : Int) (hm : (1 ≤ J 30 ∧ J 30 ≤ 3) ∧ 1 ≤ J 31 ∧ J 31 ≤ 3) (heB : ∀ t k : Int, 0 ≤ t → t ≤ 2 → -50 ≤ B t.toNat k ∧ B t.toNat k ≤ 50) (hri : (-2147483648 ≤ t ∧ t < 2147483648) ∧ (-2147483648 ≤ ch ∧ ch < 2147483648)) : kM l D yX0_character (ws_ yX0_character cX0_character 3 (some .long)) (gK 5 1 3) [.ref (ad 0), .int (iI t), .int (iI ch)] ad J B Q Z (kL (fun r ad1 J1 B1 Q1 Z1 => (ad1 = ad ∧ Q1 = Q ∧ Z1 = Z) ∧ r = (if (0 ≤ t ∧ t ≤ 1) ∧ 0 ≤ ch ∧ ch ≤ cRo J t then (if cRo J t - ch = 0 then 1 else if cRo J t - ch = 1 then -zsum (fun x => B t.toNat (cRo J t * x + x)) (cRo J t).toNat else if cRo J t - ch = 2 then cMs (B t.toNat) (cRo J t) else -cDt (B t.toNat) (cRo J t)) else -4000000000000000001) ∧ J1 = J ∧ B1 = B)) kX0 1 3 := by
  refine kc_met (own := RX0) 0 (by decide) rfl (Nat.le_of_ble_eq_true rfl) (L0 := [some (.ref (ad 0)), some (.int (iI t)), some (.int (iI ch))]) rfl (fun X h hc hE => ?_)
  have hro := cRo_r hm t
  refine ga_iload_n (pc := 0) dX0_character_0 rfl ?_
  refine ga_iconst (pc := 1) dX0_character_1 ?_
  refine ga_iconst (pc := 2) dX0_character_2 ?_
  refine k_X0_isIn (pc := 3) (a := t) (b := 0) (e := 1) (by omega) (rfl) ⟨Nat.le_of_ble_eq_true rfl, Nat.le_of_ble_eq_true rfl⟩ ⟨Nat.le_of_ble_eq_true rfl, Nat.le_of_ble_eq_true rfl⟩ (Nat.le_of_ble_eq_true rfl) dX0_character_3 ?_
  refine ga_ifb_eq (pc := 6) (tgt := 43) dX0_character_6 rfl (fun c6 => ?_) (fun c6 => ?_)
  · skip
    refine ga_iconst (pc := 43) dX0_character_43 ?_
    refine k_X0_far (pc := 44) (a := (-1)) (by omega) (rfl) ⟨Nat.le_of_ble_eq_true rfl, Nat.le_of_ble_eq_true rfl⟩ ⟨Nat.le_of_ble_eq_true rfl, Nat.le_of_ble_eq_true rfl⟩ (Nat.le_of_ble_eq_true rfl) dX0_character_44 ?_
    exact kc_lret hc hE dX0_character_47 (by omega) (by omega) (⟨_, rfl, ⟨⟨rfl, rfl, rfl⟩, by (try dsimp only); exact ⟨by rw [if_neg (by omega)]; omega, rfl, rfl⟩⟩⟩)
  · skip
    have ht9 : 0 ≤ t ∧ t ≤ 2 := by omega
    have hsq : cCl J t = cRo J t := by unfold cRo cCl; (repeat' split) <;> omega
    refine ga_iload_n (pc := 9) dX0_character_9 rfl ?_
    refine ga_iconst (pc := 10) dX0_character_10 ?_
    refine ga_aload_n (pc := 11) dX0_character_11 rfl ?_
    refine cc_g_now (pc := 12) hc dX0_character_12 ?_
    refine ga_iload_n (pc := 15) dX0_character_15 rfl ?_
    refine k_X4_byNumber_X0 (pc := 16) (b := ad 4) (ta := ad 7) (tb := ad 8) (tc := ad 9) (m := J 30) (w := J 31) (t := t) (hc.1 4 (by decide)) (by omega) ⟨Nat.le_of_ble_eq_true rfl, Nat.le_of_ble_eq_true rfl⟩ ⟨Nat.le_of_ble_eq_true rfl, Nat.le_of_ble_eq_true rfl⟩ (Nat.le_of_ble_eq_true rfl) dX0_character_16 ?_
    refine ga_eq (pc := 19) (st1 := [.ref (ad (7 + t.toNat)), .int (iI 0), .int (iI ch)]) rfl rfl (congrArg (fun x => Value.ref x :: [.int (iI 0), .int (iI ch)]) (cTabE ht9)) ?_
    refine ga_getN (pc := 19) (C := RX5) (T := TX5) (N := 4) (v := .int (iI (cRo J t))) in_X5 rfl ((hc.tab ht9).1) 0 (by decide) (ga_nt q289 rfl) rfl rfl dX0_character_19 ?_
    refine k_X0_isIn (pc := 22) (a := ch) (b := 0) (e := (cRo J t)) (by omega) (rfl) ⟨Nat.le_of_ble_eq_true rfl, Nat.le_of_ble_eq_true rfl⟩ ⟨Nat.le_of_ble_eq_true rfl, Nat.le_of_ble_eq_true rfl⟩ (Nat.le_of_ble_eq_true rfl) dX0_character_22 ?_
    refine ga_ifb_eq (pc := 25) (tgt := 43) dX0_character_25 rfl (fun c25 => ?_) (fun c25 => ?_)
    · skip
      refine ga_iconst (pc := 43) dX0_character_43 ?_
      refine k_X0_far (pc := 44) (a := (-1)) (by omega) (rfl) ⟨Nat.le_of_ble_eq_true rfl, Nat.le_of_ble_eq_true rfl⟩ ⟨Nat.le_of_ble_eq_true rfl, Nat.le_of_ble_eq_true rfl⟩ (Nat.le_of_ble_eq_true rfl) dX0_character_44 ?_
      exact kc_lret hc hE dX0_character_47 (by omega) (by omega) (⟨_, rfl, ⟨⟨rfl, rfl, rfl⟩, by (try dsimp only); exact ⟨by rw [if_neg (by omega)]; omega, rfl, rfl⟩⟩⟩)
    · skip
      refine ga_aload_n (pc := 28) dX0_character_28 rfl ?_
      refine cc_g_now (pc := 29) hc dX0_character_29 ?_
      refine ga_iload_n (pc := 32) dX0_character_32 rfl ?_
      refine k_X4_byNumber_X0 (pc := 33) (b := ad 4) (ta := ad 7) (tb := ad 8) (tc := ad 9) (m := J 30) (w := J 31) (t := t) (hc.1 4 (by decide)) (by omega) ⟨Nat.le_of_ble_eq_true rfl, Nat.le_of_ble_eq_true rfl⟩ ⟨Nat.le_of_ble_eq_true rfl, Nat.le_of_ble_eq_true rfl⟩ (Nat.le_of_ble_eq_true rfl) dX0_character_33 ?_
      refine ga_eq (pc := 36) (st1 := [.ref (ad (7 + t.toNat))]) rfl rfl (congrArg (fun x => Value.ref x :: []) (cTabE ht9)) ?_
      refine ga_iload_n (pc := 36) dX0_character_36 rfl ?_
      refine k_X0_characterOf (pc := 37) (b := (ad (7 + t.toNat))) (e := (ad (16 + t.toNat))) (ro := (cRo J t)) (ch := ch) (f := (B t.toNat)) ((hsq ▸ (hc.tab ht9).1)) ((hc.tab ht9).2) (by omega) (fun k => heB t k (by omega) (by omega)) (by omega) (rfl) ⟨Nat.le_of_ble_eq_true rfl, Nat.le_of_ble_eq_true rfl⟩ ⟨Nat.le_of_ble_eq_true rfl, Nat.le_of_ble_eq_true rfl⟩ (Nat.le_of_ble_eq_true rfl) dX0_character_37 (fun h37 hfr37 => ?_)
      replace hc := hc.fr hfr37
      clear hfr37
      generalize h37 = h at hc ⊢
      refine ga_goto (pc := 40) (tgt := 47) dX0_character_40 rfl ?_
      exact kc_lret hc hE dX0_character_47 (by omega) (by omega) (⟨_, rfl, ⟨⟨rfl, rfl, rfl⟩, by (try dsimp only); exact ⟨by rw [if_pos (show (0 ≤ t ∧ t ≤ 1) ∧ 0 ≤ ch ∧ ch ≤ cRo J t by omega)], rfl, rfl⟩⟩⟩)
set_option maxHeartbeats 4000000 in
set_option maxRecDepth 100000 in
theorem m_X0_swapped (l : Launch) (D : ga_G) (ad : Nat → Nat) (J : Nat → Int) (B : Nat → Int → Int) (Q : Nat → Int → Option Nat) (Z : ga_H)  (hm : (1 ≤ J 30 ∧ J 30 ≤ 3) ∧ 1 ≤ J 31 ∧ J 31 ≤ 3) (heB2 : ∀ k : Int, -50 ≤ B 2 k ∧ B 2 k ≤ 50) : cM l D yX0_swapped (ws_ yX0_swapped cX0_swapped 1 (some .int)) (gR 2) [.ref (ad 0)] ad J B Q Z (mI (fun r J1 B1 => r = (if J 30 ≠ J 31 then -4 else if zsum (fun x => B 2 (J 31 * x + x)) (J 30).toNat = 0 then 1 else 0) ∧ J1 = J ∧ B1 = B)) := by
  refine cc_met (own := RX0) 0 (by decide) rfl (Nat.le_of_ble_eq_true rfl) (L0 := [some (.ref (ad 0))]) rfl (fun X h hc hE => ?_)
  refine ga_aload_n (pc := 0) dX0_swapped_0 rfl ?_
  refine k_X0_isSquare (pc := 1)  hc (by first | exact hm | omega) (rfl) ⟨Nat.le_of_ble_eq_true rfl, Nat.le_of_ble_eq_true rfl⟩ ⟨Nat.le_of_ble_eq_true rfl, Nat.le_of_ble_eq_true rfl⟩ (Nat.le_of_ble_eq_true rfl) dX0_swapped_1 (fun h hc => ?_)
  refine ga_ifb_ne (pc := 4) (tgt := 10) dX0_swapped_4 rfl (fun c4 => ?_) (fun c4 => ?_)
  · skip
    refine ga_aload_n (pc := 10) dX0_swapped_10 rfl ?_
    refine cc_g_now (pc := 11) hc dX0_swapped_11 ?_
    refine ga_getN (pc := 14) (C := RX4) (T := TX4) (N := 5) (v := .ref (ad 9)) in_X4 rfl (hc.1 4 (by decide)) 4 (by decide) (ga_nt q318 rfl) rfl rfl dX0_swapped_14 ?_
    refine k_X5_diagonal_X0 (pc := 17) (b := (ad 9)) (e := (ad 18)) (ro := (J 30)) (co := (J 31)) (f := (B 2)) (hc.1 9 (by decide)) (hc.1 18 (by decide)) (by omega) (by omega) (rfl) ⟨Nat.le_of_ble_eq_true rfl, Nat.le_of_ble_eq_true rfl⟩ ⟨Nat.le_of_ble_eq_true rfl, Nat.le_of_ble_eq_true rfl⟩ (Nat.le_of_ble_eq_true rfl) dX0_swapped_17 ?_
    have hzb := w_zsB (f := fun x => B 2 (J 31 * x + x)) (b := 50) (J 30).toNat (fun x _ _ => heB2 _)
    refine ga_lconst (pc := 20) 0 dX0_swapped_20 rfl ?_
    refine ga_lcmp (pc := 21) dX0_swapped_21 (by omega) (by omega) ?_
    refine ga_ifc_ne (pc := 22) (tgt := 29) dX0_swapped_22 rfl (fun c22 => ?_) (fun c22 => ?_)
    · skip
      refine ga_iconst (pc := 29) dX0_swapped_29 ?_
      exact cc_iret hc hE dX0_swapped_30 (⟨_, rfl, by rw [if_neg (by omega)]; first | (rw [if_pos (by omega)]; done) | rw [if_neg (by omega)], rfl, rfl⟩)
    · skip
      refine ga_iconst (pc := 25) dX0_swapped_25 ?_
      refine ga_goto (pc := 26) (tgt := 30) dX0_swapped_26 rfl ?_
      exact cc_iret hc hE dX0_swapped_30 (⟨_, rfl, by rw [if_neg (by omega)]; first | (rw [if_pos (by omega)]; done) | rw [if_neg (by omega)], rfl, rfl⟩)
  · skip
    refine ga_bipush (pc := 7) dX0_swapped_7 rfl ?_
    exact cc_iret hc hE dX0_swapped_9 (⟨_, rfl, by rw [if_pos (by omega)], rfl, rfl⟩)
set_option maxHeartbeats 4000000 in
set_option maxRecDepth 100000 in
theorem m_X0_isStable (l : Launch) (D : ga_G) (ad : Nat → Nat) (J : Nat → Int) (B : Nat → Int → Int) (Q : Nat → Int → Option Nat) (Z : ga_H)  (hm : (1 ≤ J 30 ∧ J 30 ≤ 3) ∧ 1 ≤ J 31 ∧ J 31 ≤ 3) (heB0 : ∀ k : Int, -50 ≤ B 0 k ∧ B 0 k ≤ 50) : kM l D yX0_isStable (ws_ yX0_isStable cX0_isStable 4 (some .boolean)) (gK 4 3 9) [.ref (ad 0)] ad J B Q Z (kI (fun r ad1 J1 B1 Q1 Z1 => (ad1 = ad ∧ Q1 = Q ∧ Z1 = Z) ∧ (r = 0 ∨ r = 1) ∧ r = (if J 30 = 1 then cAbs (uZ (fun _ => 0) 0 (-B 0 (J 30 * 0 + 0))) 1 else if J 30 = 2 then cAbs (uZ (uZ (fun _ => 0) 0 (-(zsum (fun x => B 0 (J 30 * x + x)) (J 30).toNat))) 1 (cDt (B 0) (J 30))) 2 else cAbs (uZ (uZ (uZ (fun _ => 0) 0 (-(zsum (fun x => B 0 (J 30 * x + x)) (J 30).toNat))) 1 (-cDt (B 0) (J 30))) 2 (-(zsum (fun x => B 0 (J 30 * x + x)) (J 30).toNat) * cMs (B 0) (J 30) - -cDt (B 0) (J 30))) 3) ∧ J1 = J ∧ B1 = B)) kX0 3 9 := by
  refine kc_met (own := RX0) 3 (by decide) rfl (Nat.le_of_ble_eq_true rfl) (L0 := [some (.ref (ad 0)), none, none, none]) rfl (fun X h hc hE => ?_)
  refine ga_aload_n (pc := 0) dX0_isStable_0 rfl ?_
  refine cc_g_now (pc := 1) hc dX0_isStable_1 ?_
  refine ga_getN (pc := 4) (C := RX4) (T := TX4) (N := 5) (v := .ref (ad 7)) in_X4 rfl (hc.1 4 (by decide)) 2 (by decide) (ga_nt q313 rfl) rfl rfl dX0_isStable_4 ?_
  refine ga_astore_n (pc := 7) (L1 := [some (.ref (ad 0)), some (.ref (ad 7)), none, none]) dX0_isStable_7 rfl (by decide) rfl ?_
  refine ga_aload_n (pc := 8) dX0_isStable_8 rfl ?_
  refine ga_getN (pc := 9) (C := RX5) (T := TX5) (N := 4) (v := .int (iI (J 30))) in_X5 rfl (hc.1 7 (by decide)) 0 (by decide) (ga_nt q289 rfl) rfl rfl dX0_isStable_9 ?_
  refine ga_iconst (pc := 12) dX0_isStable_12 ?_
  refine ga_icmp_ne (pc := 13) (tgt := 33) dX0_isStable_13 rfl (by omega) (by omega) (fun c13 => ?_) (fun c13 => ?_)
  · skip
    refine ga_aload_n (pc := 33) dX0_isStable_33 rfl ?_
    refine ga_getN (pc := 34) (C := RX5) (T := TX5) (N := 4) (v := .int (iI (J 30))) in_X5 rfl (hc.1 7 (by decide)) 0 (by decide) (ga_nt q289 rfl) rfl rfl dX0_isStable_34 ?_
    refine ga_iconst (pc := 37) dX0_isStable_37 ?_
    refine ga_icmp_ne (pc := 38) (tgt := 63) dX0_isStable_38 rfl (by omega) (by omega) (fun c38 => ?_) (fun c38 => ?_)
    · skip
      refine ga_aload_n (pc := 63) dX0_isStable_63 rfl ?_
      refine k_X0_determinant (pc := 64) (b := (ad 7)) (e := (ad 16)) (ro := (J 30)) (f := (B 0)) (hc.1 7 (by decide)) (hc.1 16 (by decide)) (by first | exact hrc | omega) (by first | exact hen | omega) (rfl) ⟨Nat.le_of_ble_eq_true rfl, Nat.le_of_ble_eq_true rfl⟩ ⟨Nat.le_of_ble_eq_true rfl, Nat.le_of_ble_eq_true rfl⟩ (Nat.le_of_ble_eq_true rfl) dX0_isStable_64 (fun h64 hfr64 => ?_)
      replace hc := hc.fr hfr64
      clear hfr64
      generalize h64 = h at hc ⊢
      refine ga_lneg (pc := 67) dX0_isStable_67 ?_
      refine ga_lstore_n (pc := 68) (L1 := [some (.ref (ad 0)), some (.ref (ad 7)), some (.long (lI (-(cDt (B 0) (J 30))))), none]) dX0_isStable_68 rfl (by decide) rfl ?_
      refine ga_iconst (pc := 69) dX0_isStable_69 ?_
      refine ga_newL (pc := 70) (N := 3) rfl (by decide) (by decide) (by decide) dX0_isStable_70 (fun q haq => ?_)
      have hZq : Z q = none := (hc.n (e := (aL 3 (fun _ => 0))) haq).2
      replace hc := (hc.n (e := (aL 3 (fun _ => 0))) haq).1
      generalize ga_u h q (aL 3 (fun _ => 0)) = h at hc ⊢
      have hZs : ∀ a e, Z a = some e → (ga_u Z q (aL 3 (fun _ => 0))) a = some e := fun a e z => by rw [ga_un (fun y => by rw [y, hZq] at z; cases z)]; exact z
      refine ga_dup (pc := 72) dX0_isStable_72 rfl ?_
      refine ga_iconst (pc := 73) dX0_isStable_73 ?_
      refine ga_aload_n (pc := 74) dX0_isStable_74 rfl ?_
      refine k_X5_diagonal_X0 (pc := 75) (b := (ad 7)) (e := (ad 16)) (ro := (J 30)) (co := (J 30)) (f := (B 0)) (hc.1 7 (by decide)) (hc.1 16 (by decide)) (by omega) (by omega) (rfl) ⟨Nat.le_of_ble_eq_true rfl, Nat.le_of_ble_eq_true rfl⟩ ⟨Nat.le_of_ble_eq_true rfl, Nat.le_of_ble_eq_true rfl⟩ (Nat.le_of_ble_eq_true rfl) dX0_isStable_75 ?_
      refine ga_lneg (pc := 78) dX0_isStable_78 ?_
      refine ga_last (pc := 79) (N := 3) (f := (fun _ => 0)) ((hc.2.2 q _ (ga_us _ _ _)).1) (by omega) (by decide) dX0_isStable_79 ?_
      replace hc := hc.z (e := (aL 3 (uZ (fun _ => 0) 0 (-(zsum (fun x => (B 0) ((J 30) * x + x)) (J 30).toNat))))) (ga_us _ _ _)
      rw [ga_uu] at hc
      generalize ga_u h q (aL 3 (uZ (fun _ => 0) 0 (-(zsum (fun x => (B 0) ((J 30) * x + x)) (J 30).toNat)))) = h at hc ⊢
      have hZs : ∀ a e, Z a = some e → (ga_u Z q (aL 3 (uZ (fun _ => 0) 0 (-(zsum (fun x => (B 0) ((J 30) * x + x)) (J 30).toNat))))) a = some e := fun a e z => by rw [ga_un (fun y => by rw [y, hZq] at z; cases z)]; exact z
      refine ga_dup (pc := 80) dX0_isStable_80 rfl ?_
      refine ga_iconst (pc := 81) dX0_isStable_81 ?_
      refine ga_lload_n (pc := 82) dX0_isStable_82 rfl ?_
      refine ga_last (pc := 83) (N := 3) (f := (uZ (fun _ => 0) 0 (-(zsum (fun x => (B 0) ((J 30) * x + x)) (J 30).toNat)))) ((hc.2.2 q _ (ga_us _ _ _)).1) (by omega) (by decide) dX0_isStable_83 ?_
      replace hc := hc.z (e := (aL 3 (uZ (uZ (fun _ => 0) 0 (-(zsum (fun x => (B 0) ((J 30) * x + x)) (J 30).toNat))) 1 (-(cDt (B 0) (J 30)))))) (ga_us _ _ _)
      rw [ga_uu] at hc
      generalize ga_u h q (aL 3 (uZ (uZ (fun _ => 0) 0 (-(zsum (fun x => (B 0) ((J 30) * x + x)) (J 30).toNat))) 1 (-(cDt (B 0) (J 30))))) = h at hc ⊢
      have hZs : ∀ a e, Z a = some e → (ga_u Z q (aL 3 (uZ (uZ (fun _ => 0) 0 (-(zsum (fun x => (B 0) ((J 30) * x + x)) (J 30).toNat))) 1 (-(cDt (B 0) (J 30)))))) a = some e := fun a e z => by rw [ga_un (fun y => by rw [y, hZq] at z; cases z)]; exact z
      refine ga_dup (pc := 84) dX0_isStable_84 rfl ?_
      refine ga_iconst (pc := 85) dX0_isStable_85 ?_
      refine ga_aload_n (pc := 86) dX0_isStable_86 rfl ?_
      refine k_X5_diagonal_X0 (pc := 87) (b := (ad 7)) (e := (ad 16)) (ro := (J 30)) (co := (J 30)) (f := (B 0)) (hc.1 7 (by decide)) (hc.1 16 (by decide)) (by omega) (by omega) (rfl) ⟨Nat.le_of_ble_eq_true rfl, Nat.le_of_ble_eq_true rfl⟩ ⟨Nat.le_of_ble_eq_true rfl, Nat.le_of_ble_eq_true rfl⟩ (Nat.le_of_ble_eq_true rfl) dX0_isStable_87 ?_
      refine ga_lneg (pc := 90) dX0_isStable_90 ?_
      refine ga_aload_n (pc := 91) dX0_isStable_91 rfl ?_
      refine k_X0_minors (pc := 92) (b := (ad 7)) (e := (ad 16)) (ro := (J 30)) (f := (B 0)) (hc.1 7 (by decide)) (hc.1 16 (by decide)) (by first | exact hrc | omega) (by first | exact hen | omega) (rfl) ⟨Nat.le_of_ble_eq_true rfl, Nat.le_of_ble_eq_true rfl⟩ ⟨Nat.le_of_ble_eq_true rfl, Nat.le_of_ble_eq_true rfl⟩ (Nat.le_of_ble_eq_true rfl) dX0_isStable_92 (fun h92 hfr92 => ?_)
      replace hc := hc.fr hfr92
      clear hfr92
      generalize h92 = h at hc ⊢
      refine ga_lmul (pc := 95) dX0_isStable_95 ?_
      refine ga_lload_n (pc := 96) dX0_isStable_96 rfl ?_
      refine ga_lsub (pc := 97) dX0_isStable_97 ?_
      refine ga_last (pc := 98) (N := 3) (f := (uZ (uZ (fun _ => 0) 0 (-(zsum (fun x => (B 0) ((J 30) * x + x)) (J 30).toNat))) 1 (-(cDt (B 0) (J 30))))) ((hc.2.2 q _ (ga_us _ _ _)).1) (by omega) (by decide) dX0_isStable_98 ?_
      replace hc := hc.z (e := (aL 3 (uZ (uZ (uZ (fun _ => 0) 0 (-(zsum (fun x => (B 0) ((J 30) * x + x)) (J 30).toNat))) 1 (-(cDt (B 0) (J 30)))) 2 (((-(zsum (fun x => (B 0) ((J 30) * x + x)) (J 30).toNat)) * (cMs (B 0) (J 30))) - (-(cDt (B 0) (J 30))))))) (ga_us _ _ _)
      rw [ga_uu] at hc
      generalize ga_u h q (aL 3 (uZ (uZ (uZ (fun _ => 0) 0 (-(zsum (fun x => (B 0) ((J 30) * x + x)) (J 30).toNat))) 1 (-(cDt (B 0) (J 30)))) 2 (((-(zsum (fun x => (B 0) ((J 30) * x + x)) (J 30).toNat)) * (cMs (B 0) (J 30))) - (-(cDt (B 0) (J 30)))))) = h at hc ⊢
      have hZs : ∀ a e, Z a = some e → (ga_u Z q (aL 3 (uZ (uZ (uZ (fun _ => 0) 0 (-(zsum (fun x => (B 0) ((J 30) * x + x)) (J 30).toNat))) 1 (-(cDt (B 0) (J 30)))) 2 (((-(zsum (fun x => (B 0) ((J 30) * x + x)) (J 30).toNat)) * (cMs (B 0) (J 30))) - (-(cDt (B 0) (J 30))))))) a = some e := fun a e z => by rw [ga_un (fun y => by rw [y, hZq] at z; cases z)]; exact z
      have hzb := w_zsB (f := fun x => B 0 (J 30 * x + x)) (b := 50) (J 30).toNat (fun x _ _ => heB0 _)
      have hdb := cDt_r heB0 (J 30)
      have hmb := cMs_r heB0 (J 30)
      have hpr : -60000000000 ≤ -(zsum (fun x => B 0 (J 30 * x + x)) (J 30).toNat) * cMs (B 0) (J 30) ∧ -(zsum (fun x => B 0 (J 30 * x + x)) (J 30).toNat) * cMs (B 0) (J 30) ≤ 60000000000 := by { have : (-(zsum (fun x => B 0 (J 30 * x + x)) (J 30).toNat) * cMs (B 0) (J 30)).natAbs ≤ 150 * 1000000 := (by rw [Int.natAbs_mul]; exact Nat.mul_le_mul (by omega) (by omega)); omega }
      refine k_X0_areAbove_3_X0 (pc := 99) (b := q) (f := (uZ (uZ (uZ (fun _ => 0) 0 (-(zsum (fun x => (B 0) ((J 30) * x + x)) (J 30).toNat))) 1 (-(cDt (B 0) (J 30)))) 2 (((-(zsum (fun x => (B 0) ((J 30) * x + x)) (J 30).toNat)) * (cMs (B 0) (J 30))) - (-(cDt (B 0) (J 30)))))) ((hc.2.2 q _ (ga_us _ _ _)).1) (fun k k0 k1 => by have z := cB3 (b := 100000000000) (x0 := -(zsum (fun x => B 0 (J 30 * x + x)) (J 30).toNat)) (x1 := -cDt (B 0) (J 30)) (x2 := -(zsum (fun x => B 0 (J 30 * x + x)) (J 30).toNat) * cMs (B 0) (J 30) - -cDt (B 0) (J 30)) (by omega) (by omega) (by omega) k k0 k1; exact ⟨Int.le_trans (by decide) z.1, Int.lt_of_le_of_lt z.2 (by decide)⟩) (rfl) ⟨Nat.le_of_ble_eq_true rfl, Nat.le_of_ble_eq_true rfl⟩ ⟨Nat.le_of_ble_eq_true rfl, Nat.le_of_ble_eq_true rfl⟩ (Nat.le_of_ble_eq_true rfl) dX0_isStable_99 ?_
      exact kc_zret (hc.sub hZs) hE dX0_isStable_102 (by omega) (by omega) (cAbs_r _ _) (⟨_, rfl, ⟨⟨rfl, rfl, rfl⟩, by (try dsimp only); exact ⟨cAbs_r _ _, by rw [if_neg (by omega), if_neg (by omega)], rfl, rfl⟩⟩⟩)
    · skip
      refine ga_iconst (pc := 41) dX0_isStable_41 ?_
      refine ga_newL (pc := 42) (N := 2) rfl (by decide) (by decide) (by decide) dX0_isStable_42 (fun q haq => ?_)
      have hZq : Z q = none := (hc.n (e := (aL 2 (fun _ => 0))) haq).2
      replace hc := (hc.n (e := (aL 2 (fun _ => 0))) haq).1
      generalize ga_u h q (aL 2 (fun _ => 0)) = h at hc ⊢
      have hZs : ∀ a e, Z a = some e → (ga_u Z q (aL 2 (fun _ => 0))) a = some e := fun a e z => by rw [ga_un (fun y => by rw [y, hZq] at z; cases z)]; exact z
      refine ga_dup (pc := 44) dX0_isStable_44 rfl ?_
      refine ga_iconst (pc := 45) dX0_isStable_45 ?_
      refine ga_aload_n (pc := 46) dX0_isStable_46 rfl ?_
      refine k_X5_diagonal_X0 (pc := 47) (b := (ad 7)) (e := (ad 16)) (ro := (J 30)) (co := (J 30)) (f := (B 0)) (hc.1 7 (by decide)) (hc.1 16 (by decide)) (by omega) (by omega) (rfl) ⟨Nat.le_of_ble_eq_true rfl, Nat.le_of_ble_eq_true rfl⟩ ⟨Nat.le_of_ble_eq_true rfl, Nat.le_of_ble_eq_true rfl⟩ (Nat.le_of_ble_eq_true rfl) dX0_isStable_47 ?_
      refine ga_lneg (pc := 50) dX0_isStable_50 ?_
      refine ga_last (pc := 51) (N := 2) (f := (fun _ => 0)) ((hc.2.2 q _ (ga_us _ _ _)).1) (by omega) (by decide) dX0_isStable_51 ?_
      replace hc := hc.z (e := (aL 2 (uZ (fun _ => 0) 0 (-(zsum (fun x => (B 0) ((J 30) * x + x)) (J 30).toNat))))) (ga_us _ _ _)
      rw [ga_uu] at hc
      generalize ga_u h q (aL 2 (uZ (fun _ => 0) 0 (-(zsum (fun x => (B 0) ((J 30) * x + x)) (J 30).toNat)))) = h at hc ⊢
      have hZs : ∀ a e, Z a = some e → (ga_u Z q (aL 2 (uZ (fun _ => 0) 0 (-(zsum (fun x => (B 0) ((J 30) * x + x)) (J 30).toNat))))) a = some e := fun a e z => by rw [ga_un (fun y => by rw [y, hZq] at z; cases z)]; exact z
      refine ga_dup (pc := 52) dX0_isStable_52 rfl ?_
      refine ga_iconst (pc := 53) dX0_isStable_53 ?_
      refine ga_aload_n (pc := 54) dX0_isStable_54 rfl ?_
      refine k_X0_determinant (pc := 55) (b := (ad 7)) (e := (ad 16)) (ro := (J 30)) (f := (B 0)) (hc.1 7 (by decide)) (hc.1 16 (by decide)) (by first | exact hrc | omega) (by first | exact hen | omega) (rfl) ⟨Nat.le_of_ble_eq_true rfl, Nat.le_of_ble_eq_true rfl⟩ ⟨Nat.le_of_ble_eq_true rfl, Nat.le_of_ble_eq_true rfl⟩ (Nat.le_of_ble_eq_true rfl) dX0_isStable_55 (fun h55 hfr55 => ?_)
      replace hc := hc.fr hfr55
      clear hfr55
      generalize h55 = h at hc ⊢
      refine ga_last (pc := 58) (N := 2) (f := (uZ (fun _ => 0) 0 (-(zsum (fun x => (B 0) ((J 30) * x + x)) (J 30).toNat)))) ((hc.2.2 q _ (ga_us _ _ _)).1) (by omega) (by decide) dX0_isStable_58 ?_
      replace hc := hc.z (e := (aL 2 (uZ (uZ (fun _ => 0) 0 (-(zsum (fun x => (B 0) ((J 30) * x + x)) (J 30).toNat))) 1 (cDt (B 0) (J 30))))) (ga_us _ _ _)
      rw [ga_uu] at hc
      generalize ga_u h q (aL 2 (uZ (uZ (fun _ => 0) 0 (-(zsum (fun x => (B 0) ((J 30) * x + x)) (J 30).toNat))) 1 (cDt (B 0) (J 30)))) = h at hc ⊢
      have hZs : ∀ a e, Z a = some e → (ga_u Z q (aL 2 (uZ (uZ (fun _ => 0) 0 (-(zsum (fun x => (B 0) ((J 30) * x + x)) (J 30).toNat))) 1 (cDt (B 0) (J 30))))) a = some e := fun a e z => by rw [ga_un (fun y => by rw [y, hZq] at z; cases z)]; exact z
      have hzb := w_zsB (f := fun x => B 0 (J 30 * x + x)) (b := 50) (J 30).toNat (fun x _ _ => heB0 _)
      have hdb := cDt_r heB0 (J 30)
      refine k_X0_areAbove_2_X0 (pc := 59) (b := q) (f := (uZ (uZ (fun _ => 0) 0 (-(zsum (fun x => (B 0) ((J 30) * x + x)) (J 30).toNat))) 1 (cDt (B 0) (J 30)))) ((hc.2.2 q _ (ga_us _ _ _)).1) (fun k k0 k1 => by have z := cB2 (b := 100000000000) (x0 := -(zsum (fun x => B 0 (J 30 * x + x)) (J 30).toNat)) (x1 := cDt (B 0) (J 30)) (by omega) (by omega) k k0 k1; exact ⟨Int.le_trans (by decide) z.1, Int.lt_of_le_of_lt z.2 (by decide)⟩) (rfl) ⟨Nat.le_of_ble_eq_true rfl, Nat.le_of_ble_eq_true rfl⟩ ⟨Nat.le_of_ble_eq_true rfl, Nat.le_of_ble_eq_true rfl⟩ (Nat.le_of_ble_eq_true rfl) dX0_isStable_59 ?_
      exact kc_zret (hc.sub hZs) hE dX0_isStable_62 (by omega) (by omega) (cAbs_r _ _) (⟨_, rfl, ⟨⟨rfl, rfl, rfl⟩, by (try dsimp only); exact ⟨cAbs_r _ _, by rw [if_neg (by omega), if_pos (by omega)], rfl, rfl⟩⟩⟩)
  · skip
    refine ga_iconst (pc := 16) dX0_isStable_16 ?_
    refine ga_newL (pc := 17) (N := 1) rfl (by decide) (by decide) (by decide) dX0_isStable_17 (fun q haq => ?_)
    have hZq : Z q = none := (hc.n (e := (aL 1 (fun _ => 0))) haq).2
    replace hc := (hc.n (e := (aL 1 (fun _ => 0))) haq).1
    generalize ga_u h q (aL 1 (fun _ => 0)) = h at hc ⊢
    have hZs : ∀ a e, Z a = some e → (ga_u Z q (aL 1 (fun _ => 0))) a = some e := fun a e z => by rw [ga_un (fun y => by rw [y, hZq] at z; cases z)]; exact z
    refine ga_dup (pc := 19) dX0_isStable_19 rfl ?_
    refine ga_iconst (pc := 20) dX0_isStable_20 ?_
    refine ga_aload_n (pc := 21) dX0_isStable_21 rfl ?_
    refine ga_iconst (pc := 22) dX0_isStable_22 ?_
    refine ga_iconst (pc := 23) dX0_isStable_23 ?_
    refine k_X5_at_X0 (pc := 24) (b := (ad 7)) (e := (ad 16)) (ro := (J 30)) (co := (J 30)) (i := 0) (j := 0) (f := (B 0)) (hc.1 7 (by decide)) (hc.1 16 (by decide)) (by omega) (rfl) ⟨Nat.le_of_ble_eq_true rfl, Nat.le_of_ble_eq_true rfl⟩ ⟨Nat.le_of_ble_eq_true rfl, Nat.le_of_ble_eq_true rfl⟩ (Nat.le_of_ble_eq_true rfl) dX0_isStable_24 ?_
    refine ga_lneg (pc := 27) dX0_isStable_27 ?_
    refine ga_last (pc := 28) (N := 1) (f := (fun _ => 0)) ((hc.2.2 q _ (ga_us _ _ _)).1) (by omega) (by decide) dX0_isStable_28 ?_
    replace hc := hc.z (e := (aL 1 (uZ (fun _ => 0) 0 (-((B 0) ((J 30) * 0 + 0)))))) (ga_us _ _ _)
    rw [ga_uu] at hc
    generalize ga_u h q (aL 1 (uZ (fun _ => 0) 0 (-((B 0) ((J 30) * 0 + 0))))) = h at hc ⊢
    have hZs : ∀ a e, Z a = some e → (ga_u Z q (aL 1 (uZ (fun _ => 0) 0 (-((B 0) ((J 30) * 0 + 0)))))) a = some e := fun a e z => by rw [ga_un (fun y => by rw [y, hZq] at z; cases z)]; exact z
    have h0 := heB0 (J 30 * 0 + 0)
    refine k_X0_areAbove_1_X0 (pc := 29) (b := q) (f := (uZ (fun _ => 0) 0 (-((B 0) ((J 30) * 0 + 0))))) ((hc.2.2 q _ (ga_us _ _ _)).1) (fun k k0 k1 => by obtain rfl : k = 0 := (by omega); rw [uZ_s]; omega) (rfl) ⟨Nat.le_of_ble_eq_true rfl, Nat.le_of_ble_eq_true rfl⟩ ⟨Nat.le_of_ble_eq_true rfl, Nat.le_of_ble_eq_true rfl⟩ (Nat.le_of_ble_eq_true rfl) dX0_isStable_29 ?_
    exact kc_zret (hc.sub hZs) hE dX0_isStable_32 (by omega) (by omega) (cAbs_r _ _) (⟨_, rfl, ⟨⟨rfl, rfl, rfl⟩, by (try dsimp only); exact ⟨cAbs_r _ _, by rw [if_pos (by omega)], rfl, rfl⟩⟩⟩)
theorem k_X0_isStable {X : ga_X} {R : Room} {nL : Nat} {cc : ByteArray} {h : ga_H} {ad : Nat → Nat} {J : Nat → Int} {B : Nat → Int → Int} {Q : Nat → Int → Option Nat} {Z : ga_H} {k n pc : Nat} {L : List (Option Value)} {st : List Value}  (hc : cOn h ad J B Q Z) (hm : (1 ≤ J 30 ∧ J 30 ≤ 3) ∧ 1 ≤ J 31 ∧ J 31 ≤ 3) (heB0 : ∀ k : Int, -50 ≤ B 0 k ∧ B 0 k ≤ 50) (hR : 4 + 1 ≤ R.frames ∧ 19 + 4 + 64 * 4 ≤ R.locals) (hk : k + 3 ≤ R.cells ∧ n + 9 ≤ R.slots) (hs : (st.map fun v => v.category).sum ≤ 8) (dd : decode cc pc = .ok (.invokevirtual 452, 3))  (kk : ∀ (r : Int) (J1 : Nat → Int) (B1 : Nat → Int → Int), ((r = 0 ∨ r = 1) ∧ r = (if J 30 = 1 then cAbs (uZ (fun _ => 0) 0 (-B 0 (J 30 * 0 + 0))) 1 else if J 30 = 2 then cAbs (uZ (uZ (fun _ => 0) 0 (-(zsum (fun x => B 0 (J 30 * x + x)) (J 30).toNat))) 1 (cDt (B 0) (J 30))) 2 else cAbs (uZ (uZ (uZ (fun _ => 0) 0 (-(zsum (fun x => B 0 (J 30 * x + x)) (J 30).toNat))) 1 (-cDt (B 0) (J 30))) 2 (-(zsum (fun x => B 0 (J 30 * x + x)) (J 30).toNat) * cMs (B 0) (J 30) - -cDt (B 0) (J 30))) 3) ∧ J1 = J ∧ B1 = B) → ∀ h : ga_H, cOn h ad J1 B1 Q Z → G X R RX0 nL cc h (k + 3) (n + 9) (pc + 3) L (.int (iI r) :: st)) : G X R RX0 nL cc h k n pc L (.ref (ad 0) :: st) := by
  refine kc_run hc (m_X0_isStable _ _ ad J B Q Z  hm heB0) (lw_V q1104 q1106 qs32 q102 q1107) rfl (show ga_nn' yX0_isStable 0 from (by unfold ga_nn'; decide +kernel)) hR hk hs dd rfl (fun EX qX hX adX JX BX QX ZX hcX hpX => ?_) (fun vX hX adX JX BX QX ZX hcX hpX => ?_)
  · exact hpX.elim
  · obtain ⟨rX, rfl, ⟨rfl, rfl, rfl⟩, hpX⟩ := hpX
    exact kk rX JX BX hpX hX hcX
set_option maxHeartbeats 4000000 in
set_option maxRecDepth 100000 in
theorem m_X0_stable (l : Launch) (D : ga_G) (ad : Nat → Nat) (J : Nat → Int) (B : Nat → Int → Int) (Q : Nat → Int → Option Nat) (Z : ga_H)  (hm : (1 ≤ J 30 ∧ J 30 ≤ 3) ∧ 1 ≤ J 31 ∧ J 31 ≤ 3) (heB0 : ∀ k : Int, -50 ≤ B 0 k ∧ B 0 k ≤ 50) : kM l D yX0_stable (ws_ yX0_stable cX0_stable 1 (some .int)) (gK 5 3 9) [.ref (ad 0)] ad J B Q Z (kI (fun r ad1 J1 B1 Q1 Z1 => (ad1 = ad ∧ Q1 = Q ∧ Z1 = Z) ∧ r = (if J 30 = 1 then cAbs (uZ (fun _ => 0) 0 (-B 0 (J 30 * 0 + 0))) 1 else if J 30 = 2 then cAbs (uZ (uZ (fun _ => 0) 0 (-(zsum (fun x => B 0 (J 30 * x + x)) (J 30).toNat))) 1 (cDt (B 0) (J 30))) 2 else cAbs (uZ (uZ (uZ (fun _ => 0) 0 (-(zsum (fun x => B 0 (J 30 * x + x)) (J 30).toNat))) 1 (-cDt (B 0) (J 30))) 2 (-(zsum (fun x => B 0 (J 30 * x + x)) (J 30).toNat) * cMs (B 0) (J 30) - -cDt (B 0) (J 30))) 3) ∧ J1 = J ∧ B1 = B)) kX0 3 9 := by
  refine kc_met (own := RX0) 0 (by decide) rfl (Nat.le_of_ble_eq_true rfl) (L0 := [some (.ref (ad 0))]) rfl (fun X h hc hE => ?_)
  refine ga_aload_n (pc := 0) dX0_stable_0 rfl ?_
  refine k_X0_isStable (pc := 1)  hc (by first | exact hm | omega) (by first | exact heB0 | omega) ⟨Nat.le_of_ble_eq_true rfl, Nat.le_of_ble_eq_true rfl⟩ ⟨Nat.le_of_ble_eq_true rfl, Nat.le_of_ble_eq_true rfl⟩ (Nat.le_of_ble_eq_true rfl) dX0_stable_1  (fun r1 J1 B1 hp1 h hc => ?_)
  obtain ⟨hr01, hre, eJ1, eB1⟩ := hp1
  refine ga_if_eq (pc := 4) (tgt := 11) dX0_stable_4 rfl (by omega) (fun c4 => ?_) (fun c4 => ?_)
  · skip
    refine ga_iconst (pc := 11) dX0_stable_11 ?_
    exact kc_iret hc hE dX0_stable_12 (by omega) (by omega) (⟨_, rfl, ⟨⟨rfl, rfl, rfl⟩, by (try dsimp only); exact ⟨by rw [← hre]; omega, eJ1, eB1⟩⟩⟩)
  · skip
    refine ga_iconst (pc := 7) dX0_stable_7 ?_
    refine ga_goto (pc := 8) (tgt := 12) dX0_stable_8 rfl ?_
    exact kc_iret hc hE dX0_stable_12 (by omega) (by omega) (⟨_, rfl, ⟨⟨rfl, rfl, rfl⟩, by (try dsimp only); exact ⟨by rw [← hre]; omega, eJ1, eB1⟩⟩⟩)
