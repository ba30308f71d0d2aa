/-! THE CLASS: a table by its number; entries; det, diagonal, character, swapped, stable -/
def cRo (J : Nat → Int) (t : Int) : Int := if t = 1 then J 31 else J 30
def cCl (J : Nat → Int) (t : Int) : Int := if t = 0 then J 30 else J 31
theorem cOn.tab {h : ga_H} {ad : Nat → Nat} {J : Nat → Int} {B : Nat → Int → Int} {Q : Nat → Int → Option Nat} {Z : ga_H} (hc : cOn h ad J B Q Z) {t : Int} (ht : 0 ≤ t ∧ t ≤ 2) : h (ad (7 + t.toNat)) = some (oE 5 [.int (iI (cRo J t)), .int (iI (cCl J t)), .int (iI 9), .ref (ad (16 + t.toNat))]) ∧ h (ad (16 + t.toNat)) = some (aL 9 (B t.toNat)) := by
  rcases (by omega : t = 0 ∨ t = 1 ∨ t = 2) with rfl | rfl | rfl
  · exact ⟨hc.1 7 (by decide), hc.1 16 (by decide)⟩
  · exact ⟨hc.1 8 (by decide), hc.1 17 (by decide)⟩
  · exact ⟨hc.1 9 (by decide), hc.1 18 (by decide)⟩
theorem cTabE {ad : Nat → Nat} {t : Int} (ht : 0 ≤ t ∧ t ≤ 2) : (if t = 0 then ad 7 else if t = 1 then ad 8 else ad 9) = ad (7 + t.toNat) := by
  rcases (by omega : t = 0 ∨ t = 1 ∨ t = 2) with rfl | rfl | rfl <;> rfl
theorem cRo_r {J : Nat → Int} (hm : (1 ≤ J 30 ∧ J 30 ≤ 3) ∧ 1 ≤ J 31 ∧ J 31 ≤ 3) (t : Int) : (1 ≤ cRo J t ∧ cRo J t ≤ 3) ∧ 1 ≤ cCl J t ∧ cCl J t ≤ 3 := by
  unfold cRo cCl
  (repeat' split) <;> omega
/-- a table's cells are written -/
theorem cOn.cell {h : ga_H} {ad : Nat → Nat} {J : Nat → Int} {B : Nat → Int → Int} {Q : Nat → Int → Option Nat} {Z : ga_H} (hc : cOn h ad J B Q Z) {k : Nat} (hk : k < 9) (g : Int → Int) : cOn (ga_u h (ad (16 + k)) (aL 9 g)) ad J (uN B k g) Q Z := by
  refine hc.u (16 + k) (by omega) (fun r hr hn => ?_) ?_
  · match r, hr, hn with
    | 16, _, hn => show aL 9 (uN B k g 0) = aL 9 (B 0); rw [uN_n B g (by omega)]
    | 17, _, hn => show aL 9 (uN B k g 1) = aL 9 (B 1); rw [uN_n B g (by omega)]
    | 18, _, hn => show aL 9 (uN B k g 2) = aL 9 (B 2); rw [uN_n B g (by omega)]
    | 19, _, hn => show aL 9 (uN B k g 3) = aL 9 (B 3); rw [uN_n B g (by omega)]
    | 20, _, hn => show aL 9 (uN B k g 4) = aL 9 (B 4); rw [uN_n B g (by omega)]
    | 21, _, hn => show aL 9 (uN B k g 5) = aL 9 (B 5); rw [uN_n B g (by omega)]
    | 22, _, hn => show aL 9 (uN B k g 6) = aL 9 (B 6); rw [uN_n B g (by omega)]
    | 23, _, hn => show aL 9 (uN B k g 7) = aL 9 (B 7); rw [uN_n B g (by omega)]
    | 24, _, hn => show aL 9 (uN B k g 8) = aL 9 (B 8); rw [uN_n B g (by omega)]
    | 28, _, _ => show aB 200 (uN B k g 9) = aB 200 (B 9); rw [uN_n B g (by omega)]
    | 29, _, _ => show aL 100 (uN B k g 10) = aL 100 (B 10); rw [uN_n B g (by omega)]
    | 30, _, _ => show aI 10 (uN B k g 11) = aI 10 (B 11); rw [uN_n B g (by omega)]
    | 43, _, _ => show aI 30 (uN B k g 12) = aI 30 (B 12); rw [uN_n B g (by omega)]
    | 0, _, _ | 1, _, _ | 2, _, _ | 3, _, _ | 4, _, _ | 5, _, _ | 6, _, _ | 7, _, _ | 8, _, _ | 9, _, _ | 10, _, _ | 11, _, _ | 12, _, _ | 13, _, _ | 14, _, _ | 15, _, _ | 25, _, _ | 26, _, _ | 27, _, _ | 31, _, _ | 32, _, _ | 33, _, _ | 34, _, _ | 35, _, _ | 36, _, _ | 37, _, _ | 38, _, _ | 39, _, _ | 40, _, _ | 41, _, _ | 42, _, _ => rfl
    | r + 44, hr, _ => omega
  · match k, hk with
    | 0, _ => show aL 9 g = aL 9 (uN B 0 g 0); rw [uN_s]
    | 1, _ => show aL 9 g = aL 9 (uN B 1 g 1); rw [uN_s]
    | 2, _ => show aL 9 g = aL 9 (uN B 2 g 2); rw [uN_s]
    | 3, _ => show aL 9 g = aL 9 (uN B 3 g 3); rw [uN_s]
    | 4, _ => show aL 9 g = aL 9 (uN B 4 g 4); rw [uN_s]
    | 5, _ => show aL 9 g = aL 9 (uN B 5 g 5); rw [uN_s]
    | 6, _ => show aL 9 g = aL 9 (uN B 6 g 6); rw [uN_s]
    | 7, _ => show aL 9 g = aL 9 (uN B 7 g 7); rw [uN_s]
    | 8, _ => show aL 9 g = aL 9 (uN B 8 g 8); rw [uN_s]
    | k + 9, hk => omega
set_option maxHeartbeats 4000000 in
set_option maxRecDepth 100000 in
theorem m_X4_byNumber (l : Launch) (D : ga_G) (h : ga_H) (b ta tb tc : Nat) (m w t : Int) (hb : h b = some (oE 4 [.int (iI m), .int (iI w), .ref ta, .ref tb, .ref tc])) (hri : -2147483648 ≤ t ∧ t < 2147483648) : rM l D yX4_byNumber (ws_ yX4_byNumber cX4_byNumber 2 (some (.object "TwoSidedTables$Table"))) (gR 0) [.ref b, .int (iI t)] h (some (.ref (if t = 0 then ta else if t = 1 then tb else tc))) := by
  refine ga_met (own := RX4) 0 (by decide) rfl (Nat.le_of_ble_eq_true rfl) (L0 := [some (.ref b), some (.int (iI t))]) rfl (fun X _ _ hE => ?_)
  refine ga_iload_n (pc := 0) dX4_byNumber_0 rfl ?_
  refine ga_if_ne (pc := 1) (tgt := 11) dX4_byNumber_1 rfl (by omega) (fun c1 => ?_) (fun c1 => ?_)
  · skip
    refine ga_iload_n (pc := 11) dX4_byNumber_11 rfl ?_
    refine ga_iconst (pc := 12) dX4_byNumber_12 ?_
    refine ga_icmp_ne (pc := 13) (tgt := 23) dX4_byNumber_13 rfl (by omega) (by omega) (fun c13 => ?_) (fun c13 => ?_)
    · skip
      refine ga_aload_n (pc := 23) dX4_byNumber_23 rfl ?_
      refine ga_get (pc := 24) (C := RX4) (T := TX4) (N := 5) (v := .ref tc) in_X4 rfl hb 4 (by decide) q317 rfl rfl dX4_byNumber_24 ?_
      refine ga_eq (pc := 27) (st1 := [va_rf (some tc)]) rfl rfl rfl ?_
      exact ga_aret hE (Or.inl ⟨_, rfl⟩) dX4_byNumber_27 (Nat.le_of_ble_eq_true rfl) (Nat.le_of_ble_eq_true rfl) (⟨by first | (rw [if_pos (by omega)]; rfl) | (rw [if_neg (by omega), if_pos (by omega)]; rfl) | (rw [if_neg (by omega), if_neg (by omega)]; rfl), rfl⟩)
    · skip
      refine ga_aload_n (pc := 16) dX4_byNumber_16 rfl ?_
      refine ga_get (pc := 17) (C := RX4) (T := TX4) (N := 5) (v := .ref tb) in_X4 rfl hb 3 (by decide) q314 rfl rfl dX4_byNumber_17 ?_
      refine ga_goto (pc := 20) (tgt := 27) dX4_byNumber_20 rfl ?_
      refine ga_eq (pc := 27) (st1 := [va_rf (some tb)]) rfl rfl rfl ?_
      exact ga_aret hE (Or.inl ⟨_, rfl⟩) dX4_byNumber_27 (Nat.le_of_ble_eq_true rfl) (Nat.le_of_ble_eq_true rfl) (⟨by first | (rw [if_pos (by omega)]; rfl) | (rw [if_neg (by omega), if_pos (by omega)]; rfl) | (rw [if_neg (by omega), if_neg (by omega)]; rfl), rfl⟩)
  · skip
    refine ga_aload_n (pc := 4) dX4_byNumber_4 rfl ?_
    refine ga_get (pc := 5) (C := RX4) (T := TX4) (N := 5) (v := .ref ta) in_X4 rfl hb 2 (by decide) q310 rfl rfl dX4_byNumber_5 ?_
    refine ga_goto (pc := 8) (tgt := 27) dX4_byNumber_8 rfl ?_
    refine ga_eq (pc := 27) (st1 := [va_rf (some ta)]) rfl rfl rfl ?_
    exact ga_aret hE (Or.inl ⟨_, rfl⟩) dX4_byNumber_27 (Nat.le_of_ble_eq_true rfl) (Nat.le_of_ble_eq_true rfl) (⟨by first | (rw [if_pos (by omega)]; rfl) | (rw [if_neg (by omega), if_pos (by omega)]; rfl) | (rw [if_neg (by omega), if_neg (by omega)]; rfl), rfl⟩)
theorem k_X4_byNumber_X0 {X : ga_X} {R : Room} {nL : Nat} {cc : ByteArray} {h : ga_H} {k n pc : Nat} {L : List (Option Value)} {st : List Value} {b ta tb tc : Nat} {m w t : Int}  (hb : h b = some (oE 4 [.int (iI m), .int (iI w), .ref ta, .ref tb, .ref tc])) (hri : -2147483648 ≤ t ∧ t < 2147483648)  (hR : 0 + 1 ≤ R.frames ∧ 19 + 2 + 64 * 0 ≤ R.locals) (hk : k ≤ R.cells ∧ n ≤ R.slots) (hs : (st.map fun v => v.category).sum ≤ 8) (d : decode cc pc = .ok (.invokevirtual 160, 3)) (kk : G X R RX0 nL cc h k n (pc + 3) L (.ref (if t = 0 then ta else if t = 1 then tb else tc) :: st)) : G X R RX0 nL cc h k n pc L (.int (iI t) :: .ref b :: st) := by
  exact rm_run (C := RX4) (T := TX4) (N := 5) (m_X4_byNumber _ _ h b ta tb tc m w t hb hri) (lw_V q468 q469 q470 q109 q471) rfl (show ga_nn' yX4_byNumber 1 from (by unfold ga_nn'; decide +kernel)) hR hk hb rfl hs d rfl kk
theorem k_X4_byNumber_X4 {X : ga_X} {R : Room} {nL : Nat} {cc : ByteArray} {h : ga_H} {k n pc : Nat} {L : List (Option Value)} {st : List Value} {b ta tb tc : Nat} {m w t : Int}  (hb : h b = some (oE 4 [.int (iI m), .int (iI w), .ref ta, .ref tb, .ref tc])) (hri : -2147483648 ≤ t ∧ t < 2147483648)  (hR : 0 + 1 ≤ R.frames ∧ 19 + 2 + 64 * 0 ≤ R.locals) (hk : k ≤ R.cells ∧ n ≤ R.slots) (hs : (st.map fun v => v.category).sum ≤ 8) (d : decode cc pc = .ok (.invokevirtual 35, 3)) (kk : G X R RX4 nL cc h k n (pc + 3) L (.ref (if t = 0 then ta else if t = 1 then tb else tc) :: st)) : G X R RX4 nL cc h k n pc L (.int (iI t) :: .ref b :: st) := by
  exact rm_run (C := RX4) (T := TX4) (N := 5) (m_X4_byNumber _ _ h b ta tb tc m w t hb hri) (lw_V q575 q469 q470 q109 q471) rfl (show ga_nn' yX4_byNumber 1 from (by unfold ga_nn'; decide +kernel)) hR hk hb rfl hs d rfl kk
set_option maxHeartbeats 4000000 in
set_option maxRecDepth 100000 in
theorem m_X0_at (l : Launch) (D : ga_G) (ad : Nat → Nat) (J : Nat → Int) (B : Nat → Int → Int) (Q : Nat → Int → Option Nat) (Z : ga_H) (t i j : Int) (hm : (1 ≤ J 30 ∧ J 30 ≤ 3) ∧ 1 ≤ J 31 ∧ J 31 ≤ 3) (hri : (-2147483648 ≤ t ∧ t < 2147483648) ∧ (-2147483648 ≤ i ∧ i < 2147483648) ∧ (-2147483648 ≤ j ∧ j < 2147483648)) : cM l D yX0_at (ws_ yX0_at cX0_at 4 (some .int)) (gR 2) [.ref (ad 0), .int (iI t), .int (iI i), .int (iI j)] ad J B Q Z (mI (fun r J1 B1 => r = (if (0 ≤ t ∧ t ≤ 2) ∧ (0 ≤ i ∧ i < cRo J t) ∧ 0 ≤ j ∧ j < cCl J t then 100 + B t.toNat (cCl J t * i + j) else -1) ∧ J1 = J ∧ B1 = B)) := by
  refine cc_met (own := RX0) 0 (by decide) rfl (Nat.le_of_ble_eq_true rfl) (L0 := [some (.ref (ad 0)), some (.int (iI t)), some (.int (iI i)), some (.int (iI j))]) rfl (fun X h hc hE => ?_)
  have hro := cRo_r hm t
  refine ga_iload_n (pc := 0) dX0_at_0 rfl ?_
  refine k_X0_isTable (pc := 1) (a := t) (by omega) (rfl) ⟨Nat.le_of_ble_eq_true rfl, Nat.le_of_ble_eq_true rfl⟩ ⟨Nat.le_of_ble_eq_true rfl, Nat.le_of_ble_eq_true rfl⟩ (Nat.le_of_ble_eq_true rfl) dX0_at_1 ?_
  refine ga_ifb_eq (pc := 4) (tgt := 43) dX0_at_4 rfl (fun c4 => ?_) (fun c4 => ?_)
  · skip
    refine ga_iconst (pc := 43) dX0_at_43 ?_
    exact cc_iret hc hE dX0_at_44 (⟨_, rfl, by first | (rw [if_pos (by omega)]; done) | rw [if_neg (by omega)], rfl, rfl⟩)
  · skip
    have ht9 : 0 ≤ t ∧ t ≤ 2 := by omega
    refine ga_aload_n (pc := 7) dX0_at_7 rfl ?_
    refine cc_g_now (pc := 8) hc dX0_at_8 ?_
    refine ga_iload_n (pc := 11) dX0_at_11 rfl ?_
    refine k_X4_byNumber_X0 (pc := 12) (b := ad 4) (ta := ad 7) (tb := ad 8) (tc := ad 9) (m := J 30) (w := J 31) (t := t) (hc.1 4 (by decide)) (by omega) ⟨Nat.le_of_ble_eq_true rfl, Nat.le_of_ble_eq_true rfl⟩ ⟨Nat.le_of_ble_eq_true rfl, Nat.le_of_ble_eq_true rfl⟩ (Nat.le_of_ble_eq_true rfl) dX0_at_12 ?_
    refine ga_eq (pc := 15) (st1 := [.ref (ad (7 + t.toNat))]) rfl rfl (congrArg (fun x => Value.ref x :: []) (cTabE ht9)) ?_
    refine ga_iload_n (pc := 15) dX0_at_15 rfl ?_
    refine ga_iload_n (pc := 16) dX0_at_16 rfl ?_
    refine k_X5_has_X0 (pc := 17) (b := (ad (7 + t.toNat))) (e := (ad (16 + t.toNat))) (ro := (cRo J t)) (co := (cCl J t)) (i := i) (j := j) (f := (B t.toNat)) ((hc.tab ht9).1) ((hc.tab ht9).2) (by omega) (by omega) (rfl) ⟨Nat.le_of_ble_eq_true rfl, Nat.le_of_ble_eq_true rfl⟩ ⟨Nat.le_of_ble_eq_true rfl, Nat.le_of_ble_eq_true rfl⟩ (Nat.le_of_ble_eq_true rfl) dX0_at_17 ?_
    refine ga_ifb_eq (pc := 20) (tgt := 43) dX0_at_20 rfl (fun c20 => ?_) (fun c20 => ?_)
    · skip
      refine ga_iconst (pc := 43) dX0_at_43 ?_
      exact cc_iret hc hE dX0_at_44 (⟨_, rfl, by first | (rw [if_pos (by omega)]; done) | rw [if_neg (by omega)], rfl, rfl⟩)
    · skip
      refine ga_bipush (pc := 23) dX0_at_23 rfl ?_
      refine ga_aload_n (pc := 25) dX0_at_25 rfl ?_
      refine cc_g_now (pc := 26) hc dX0_at_26 ?_
      refine ga_iload_n (pc := 29) dX0_at_29 rfl ?_
      refine k_X4_byNumber_X0 (pc := 30) (b := ad 4) (ta := ad 7) (tb := ad 8) (tc := ad 9) (m := J 30) (w := J 31) (t := t) (hc.1 4 (by decide)) (by omega) ⟨Nat.le_of_ble_eq_true rfl, Nat.le_of_ble_eq_true rfl⟩ ⟨Nat.le_of_ble_eq_true rfl, Nat.le_of_ble_eq_true rfl⟩ (Nat.le_of_ble_eq_true rfl) dX0_at_30 ?_
      refine ga_eq (pc := 33) (st1 := [.ref (ad (7 + t.toNat)), .int (iI 100)]) rfl rfl (congrArg (fun x => Value.ref x :: [.int (iI 100)]) (cTabE ht9)) ?_
      refine ga_iload_n (pc := 33) dX0_at_33 rfl ?_
      refine ga_iload_n (pc := 34) dX0_at_34 rfl ?_
      refine k_X5_at_X0 (pc := 35) (b := (ad (7 + t.toNat))) (e := (ad (16 + t.toNat))) (ro := (cRo J t)) (co := (cCl J t)) (i := i) (j := j) (f := (B t.toNat)) ((hc.tab ht9).1) ((hc.tab ht9).2) (zIx hro.2 (by omega) (by omega) (by omega)) (rfl) ⟨Nat.le_of_ble_eq_true rfl, Nat.le_of_ble_eq_true rfl⟩ ⟨Nat.le_of_ble_eq_true rfl, Nat.le_of_ble_eq_true rfl⟩ (Nat.le_of_ble_eq_true rfl) dX0_at_35 ?_
      refine ga_l2i (pc := 38) dX0_at_38 ?_
      refine ga_iadd (pc := 39) dX0_at_39 ?_
      refine ga_goto (pc := 40) (tgt := 44) dX0_at_40 rfl ?_
      exact cc_iret hc hE dX0_at_44 (⟨_, rfl, by first | (rw [if_pos (by omega)]; done) | rw [if_neg (by omega)], rfl, rfl⟩)
