/-! THE CLASS: a table by its number; entries; det, diagonal, character, swapped, stable -/
def cRo (J : Nat → Int) (t : Int) : Int := if t = 1 then J 31 else J 30
def cCl (J : Nat → Int) (t : Int) : Int := if t = 0 then J 30 else J 31
theorem cOn.tab {h : ga_H} {ad : Nat → Nat} {J : Nat → Int} {B : Nat → Int → Int} {Q : Nat → Int → Option Nat} {Z : ga_H} (hc : cOn h ad J B Q Z) {t : Int} (ht : 0 ≤ t ∧ t ≤ 2) : h (ad (7 + t.toNat)) = some (oE 5 [.int (iI (cRo J t)), .int (iI (cCl J t)), .int (iI 9), .ref (ad (16 + t.toNat))]) ∧ h (ad (16 + t.toNat)) = some (aL 9 (B t.toNat)) := by
  rcases (by omega : t = 0 ∨ t = 1 ∨ t = 2) with rfl | rfl | rfl
  · exact ⟨hc.1 7 (by decide), hc.1 16 (by decide)⟩
  · exact ⟨hc.1 8 (by decide), hc.1 17 (by decide)⟩
  · exact ⟨hc.1 9 (by decide), hc.1 18 (by decide)⟩
theorem cTabE {ad : Nat → Nat} {t : Int} (ht : 0 ≤ t ∧ t ≤ 2) : (if t = 0 then ad 7 else if t = 1 then ad 8 else ad 9) = ad (7 + t.toNat) := by
  rcases (by omega : t = 0 ∨ t = 1 ∨ t = 2) with rfl | rfl | rfl <;> rfl
theorem cRo_r {J : Nat → Int} (hm : (1 ≤ J 30 ∧ J 30 ≤ 3) ∧ 1 ≤ J 31 ∧ J 31 ≤ 3) (t : Int) : (1 ≤ cRo J t ∧ cRo J t ≤ 3) ∧ 1 ≤ cCl J t ∧ cCl J t ≤ 3 := by
  unfold cRo cCl
  (repeat' split) <;> omega
/-- a table's cells are written -/
theorem cOn.cell {h : ga_H} {ad : Nat → Nat} {J : Nat → Int} {B : Nat → Int → Int} {Q : Nat → Int → Option Nat} {Z : ga_H} (hc : cOn h ad J B Q Z) {k : Nat} (hk : k < 9) (g : Int → Int) : cOn (ga_u h (ad (16 + k)) (aL 9 g)) ad J (uN B k g) Q Z := by
  refine hc.u (16 + k) (by omega) (fun r hr hn => ?_) ?_
  · match r, hr, hn with
    | 16, _, hn => show aL 9 (uN B k g 0) = aL 9 (B 0); rw [uN_n B g (by omega)]
    | 17, _, hn => show aL 9 (uN B k g 1) = aL 9 (B 1); rw [uN_n B g (by omega)]
    | 18, _, hn => show aL 9 (uN B k g 2) = aL 9 (B 2); rw [uN_n B g (by omega)]
    | 19, _, hn => show aL 9 (uN B k g 3) = aL 9 (B 3); rw [uN_n B g (by omega)]
    | 20, _, hn => show aL 9 (uN B k g 4) = aL 9 (B 4); rw [uN_n B g (by omega)]
    | 21, _, hn => show aL 9 (uN B k g 5) = aL 9 (B 5); rw [uN_n B g (by omega)]
    | 22, _, hn => show aL 9 (uN B k g 6) = aL 9 (B 6); rw [uN_n B g (by omega)]
    | 23, _, hn => show aL 9 (uN B k g 7) = aL 9 (B 7); rw [uN_n B g (by omega)]
    | 24, _, hn => show aL 9 (uN B k g 8) = aL 9 (B 8); rw [uN_n B g (by omega)]
    | 28, _, _ => show aB 200 (uN B k g 9) = aB 200 (B 9); rw [uN_n B g (by omega)]
    | 29, _, _ => show aL 100 (uN B k g 10) = aL 100 (B 10); rw [uN_n B g (by omega)]
    | 30, _, _ => show aI 10 (uN B k g 11) = aI 10 (B 11); rw [uN_n B g (by omega)]
    | 43, _, _ => show aI 30 (uN B k g 12) = aI 30 (B 12); rw [uN_n B g (by omega)]
    | 0, _, _ | 1, _, _ | 2, _, _ | 3, _, _ | 4, _, _ | 5, _, _ | 6, _, _ | 7, _, _ | 8, _, _ | 9, _, _ | 10, _, _ | 11, _, _ | 12, _, _ | 13, _, _ | 14, _, _ | 15, _, _ | 25, _, _ | 26, _, _ | 27, _, _ | 31, _, _ | 32, _, _ | 33, _, _ | 34, _, _ | 35, _, _ | 36, _, _ | 37, _, _ | 38, _, _ | 39, _, _ | 40, _, _ | 41, _, _ | 42, _, _ => rfl
    | r + 44, hr, _ => omega
  · match k, hk with
    | 0, _ => show aL 9 g = aL 9 (uN B 0 g 0); rw [uN_s]
    | 1, _ => show aL 9 g = aL 9 (uN B 1 g 1); rw [uN_s]
    | 2, _ => show aL 9 g = aL 9 (uN B 2 g 2); rw [uN_s]
    | 3, _ => show aL 9 g = aL 9 (uN B 3 g 3); rw [uN_s]
    | 4, _ => show aL 9 g = aL 9 (uN B 4 g 4); rw [uN_s]
    | 5, _ => show aL 9 g = aL 9 (uN B 5 g 5); rw [uN_s]
    | 6, _ => show aL 9 g = aL 9 (uN B 6 g 6); rw [uN_s]
    | 7, _ => show aL 9 g = aL 9 (uN B 7 g 7); rw [uN_s]
    | 8, _ => show aL 9 g = aL 9 (uN B 8 g 8); rw [uN_s]
    | k + 9, hk => omega
set_option maxHeartbeats 4000000 in
set_option maxRecDepth 100000 in
theorem m_X4_byNumber (l : Launch) (D : ga_G) (h : ga_H) (b ta tb tc : Nat) (m w t : Int) (hb : h b = some (oE 4 [.int (iI m), .int (iI w), .ref ta, .ref tb, .ref tc])) (hri : -2147483648 ≤ t ∧ t < 2147483648) : rM l D yX4_byNumber (ws_ yX4_byNumber cX4_byNumber 2 (some (.object "TwoSidedTables$Table"))) (gR 0) [.ref b, .int (iI t)] h (some (.ref (if t = 0 then ta else if t = 1 then tb else tc))) := by
  refine ga_met (own := RX4) 0 (by decide) rfl (Nat.le_of_ble_eq_true rfl) (L0 := [some (.ref b), some (.int (iI t))]) rfl (fun X _ _ hE => ?_)
  refine ga_iload_n (pc := 0) dX4_byNumber_0 rfl ?_
  refine ga_if_ne (pc := 1) (tgt := 11) dX4_byNumber_1 rfl (by omega) (fun c1 => ?_) (fun c1 => ?_)
  · skip
    refine ga_iload_n (pc := 11) dX4_byNumber_11 rfl ?_
    refine ga_iconst (pc := 12) dX4_byNumber_12 ?_
    refine ga_icmp_ne (pc := 13) (tgt := 23) dX4_byNumber_13 rfl (by omega) (by omega) (fun c13 => ?_) (fun c13 => ?_)
    · skip
      refine ga_aload_n (pc := 23) dX4_byNumber_23 rfl ?_
      refine ga_get (pc := 24) (C := RX4) (T := TX4) (N := 5) (v := .ref tc) in_X4 rfl hb 4 (by decide) q317 rfl rfl dX4_byNumber_24 ?_
      refine ga_eq (pc := 27) (st1 := [va_rf (some tc)]) rfl rfl rfl ?_
      exact ga_aret hE (Or.inl ⟨_, rfl⟩) dX4_byNumber_27 (Nat.le_of_ble_eq_true rfl) (Nat.le_of_ble_eq_true rfl) (⟨by first | (rw [if_pos (by omega)]; rfl) | (rw [if_neg (by omega), if_pos (by omega)]; rfl) | (rw [if_neg (by omega), if_neg (by omega)]; rfl), rfl⟩)
    · skip
      refine ga_aload_n (pc := 16) dX4_byNumber_16 rfl ?_
      refine ga_get (pc := 17) (C := RX4) (T := TX4) (N := 5) (v := .ref tb) in_X4 rfl hb 3 (by decide) q314 rfl rfl dX4_byNumber_17 ?_
      refine ga_goto (pc := 20) (tgt := 27) dX4_byNumber_20 rfl ?_
      refine ga_eq (pc := 27) (st1 := [va_rf (some tb)]) rfl rfl rfl ?_
      exact ga_aret hE (Or.inl ⟨_, rfl⟩) dX4_byNumber_27 (Nat.le_of_ble_eq_true rfl) (Nat.le_of_ble_eq_true rfl) (⟨by first | (rw [if_pos (by omega)]; rfl) | (rw [if_neg (by omega), if_pos (by omega)]; rfl) | (rw [if_neg (by omega), if_neg (by omega)]; rfl), rfl⟩)
  · skip
    refine ga_aload_n (pc := 4) dX4_byNumber_4 rfl ?_
    refine ga_get (pc := 5) (C := RX4) (T := TX4) (N := 5) (v := .ref ta) in_X4 rfl hb 2 (by decide) q310 rfl rfl dX4_byNumber_5 ?_
    refine ga_goto (pc := 8) (tgt := 27) dX4_byNumber_8 rfl ?_
    refine ga_eq (pc := 27) (st1 := [va_rf (some ta)]) rfl rfl rfl ?_
    exact ga_aret hE (Or.inl ⟨_, rfl⟩) dX4_byNumber_27 (Nat.le_of_ble_eq_true rfl) (Nat.le_of_ble_eq_true rfl) (⟨by first | (rw [if_pos (by omega)]; rfl) | (rw [if_neg (by omega), if_pos (by omega)]; rfl) | (rw [if_neg (by omega), if_neg (by omega)]; rfl), rfl⟩)
theorem k_X4_byNumber_X0 {X : ga_X} {R : Room} {nL : Nat} {cc : ByteArray} {h : ga_H} {k n pc : Nat} {L : List (Option Value)} {st : List Value} {b ta tb tc : Nat} {m w t : Int}  (hb : h b = some (oE 4 [.int (iI m), .int (iI w), .ref ta, .ref tb, .ref tc])) (hri : -2147483648 ≤ t ∧ t < 2147483648)  (hR : 0 + 1 ≤ R.frames ∧ 19 + 2 + 64 * 0 ≤ R.locals) (hk : k ≤ R.cells ∧ n ≤ R.slots) (hs : (st.map fun v => v.category).sum ≤ 8) (d : decode cc pc = .ok (.invokevirtual 160, 3)) (kk : G X R RX0 nL cc h k n (pc + 3) L (.ref (if t = 0 then ta else if t = 1 then tb else tc) :: st)) : G X R RX0 nL cc h k n pc L (.int (iI t) :: .ref b :: st) := by
  exact rm_run (C := RX4) (T := TX4) (N := 5) (m_X4_byNumber _ _ h b ta tb tc m w t hb hri) (lw_V q468 q469 q470 q109 q471) rfl (show ga_nn' yX4_byNumber 1 from (by unfold ga_nn'; decide +kernel)) hR hk hb rfl hs d rfl kk
theorem k_X4_byNumber_X4 {X : ga_X} {R : Room} {nL : Nat} {cc : ByteArray} {h : ga_H} {k n pc : Nat} {L : List (Option Value)} {st : List Value} {b ta tb tc : Nat} {m w t : Int}  (hb : h b = some (oE 4 [.int (iI m), .int (iI w), .ref ta, .ref tb, .ref tc])) (hri : -2147483648 ≤ t ∧ t < 2147483648)  (hR : 0 + 1 ≤ R.frames ∧ 19 + 2 + 64 * 0 ≤ R.locals) (hk : k ≤ R.cells ∧ n ≤ R.slots) (hs : (st.map fun v => v.category).sum ≤ 8) (d : decode cc pc = .ok (.invokevirtual 35, 3)) (kk : G X R RX4 nL cc h k n (pc + 3) L (.ref (if t = 0 then ta else if t = 1 then tb else tc) :: st)) : G X R RX4 nL cc h k n pc L (.int (iI t) :: .ref b :: st) := by
  exact rm_run (C := RX4) (T := TX4) (N := 5) (m_X4_byNumber _ _ h b ta tb tc m w t hb hri) (lw_V q575 q469 q470 q109 q471) rfl (show ga_nn' yX4_byNumber 1 from (by unfold ga_nn'; decide +kernel)) hR hk hb rfl hs d rfl kk
set_option maxHeartbeats 4000000 in
set_option maxRecDepth 100000 in
theorem m_X0_at (l : Launch) (D : ga_G) (ad : Nat → Nat) (J : Nat → Int) (B : Nat → Int → Int) (Q : Nat → Int → Option Nat) (Z : ga_H) (t i j : Int) (hm : (1 ≤ J 30 ∧ J 30 ≤ 3) ∧ 1 ≤ J 31 ∧ J 31 ≤ 3) (hri : (-2147483648 ≤ t ∧ t < 2147483648) ∧ (-2147483648 ≤ i ∧ i < 2147483648) ∧ (-2147483648 ≤ j ∧ j < 2147483648)) : cM l D yX0_at (ws_ yX0_at cX0_at 4 (some .int)) (gR 2) [.ref (ad 0), .int (iI t), .int (iI i), .int (iI j)] ad J B Q Z (mI (fun r J1 B1 => r = (if (0 ≤ t ∧ t ≤ 2) ∧ (0 ≤ i ∧ i < cRo J t) ∧ 0 ≤ j ∧ j < cCl J t then 100 + B t.toNat (cCl J t * i + j) else -1) ∧ J1 = J ∧ B1 = B)) := by
  refine cc_met (own := RX0) 0 (by decide) rfl (Nat.le_of_ble_eq_true rfl) (L0 := [some (.ref (ad 0)), some (.int (iI t)), some (.int (iI i)), some (.int (iI j))]) rfl (fun X h hc hE => ?_)
  have hro := cRo_r hm t
  refine ga_iload_n (pc := 0) dX0_at_0 rfl ?_
  refine k_X0_isTable (pc := 1) (a := t) (by omega) (rfl) ⟨Nat.le_of_ble_eq_true rfl, Nat.le_of_ble_eq_true rfl⟩ ⟨Nat.le_of_ble_eq_true rfl, Nat.le_of_ble_eq_true rfl⟩ (Nat.le_of_ble_eq_true rfl) dX0_at_1 ?_
  refine ga_ifb_eq (pc := 4) (tgt := 43) dX0_at_4 rfl (fun c4 => ?_) (fun c4 => ?_)
  · skip
    refine ga_iconst (pc := 43) dX0_at_43 ?_
    exact cc_iret hc hE dX0_at_44 (⟨_, rfl, by first | (rw [if_pos (by omega)]; done) | rw [if_neg (by omega)], rfl, rfl⟩)
  · skip
    have ht9 : 0 ≤ t ∧ t ≤ 2 := by omega
    refine ga_aload_n (pc := 7) dX0_at_7 rfl ?_
    refine cc_g_now (pc := 8) hc dX0_at_8 ?_
    refine ga_iload_n (pc := 11) dX0_at_11 rfl ?_
    refine k_X4_byNumber_X0 (pc := 12) (b := ad 4) (ta := ad 7) (tb := ad 8) (tc := ad 9) (m := J 30) (w := J 31) (t := t) (hc.1 4 (by decide)) (by omega) ⟨Nat.le_of_ble_eq_true rfl, Nat.le_of_ble_eq_true rfl⟩ ⟨Nat.le_of_ble_eq_true rfl, Nat.le_of_ble_eq_true rfl⟩ (Nat.le_of_ble_eq_true rfl) dX0_at_12 ?_
    refine ga_eq (pc := 15) (st1 := [.ref (ad (7 + t.toNat))]) rfl rfl (congrArg (fun x => Value.ref x :: []) (cTabE ht9)) ?_
    refine ga_iload_n (pc := 15) dX0_at_15 rfl ?_
    refine ga_iload_n (pc := 16) dX0_at_16 rfl ?_
    refine k_X5_has_X0 (pc := 17) (b := (ad (7 + t.toNat))) (e := (ad (16 + t.toNat))) (ro := (cRo J t)) (co := (cCl J t)) (i := i) (j := j) (f := (B t.toNat)) ((hc.tab ht9).1) ((hc.tab ht9).2) (by omega) (by omega) (rfl) ⟨Nat.le_of_ble_eq_true rfl, Nat.le_of_ble_eq_true rfl⟩ ⟨Nat.le_of_ble_eq_true rfl, Nat.le_of_ble_eq_true rfl⟩ (Nat.le_of_ble_eq_true rfl) dX0_at_17 ?_
    refine ga_ifb_eq (pc := 20) (tgt := 43) dX0_at_20 rfl (fun c20 => ?_) (fun c20 => ?_)
    · skip
      refine ga_iconst (pc := 43) dX0_at_43 ?_
      exact cc_iret hc hE dX0_at_44 (⟨_, rfl, by first | (rw [if_pos (by omega)]; done) | rw [if_neg (by omega)], rfl, rfl⟩)
    · skip
      refine ga_bipush (pc := 23) dX0_at_23 rfl ?_
      refine ga_aload_n (pc := 25) dX0_at_25 rfl ?_
      refine cc_g_now (pc := 26) hc dX0_at_26 ?_
      refine ga_iload_n (pc := 29) dX0_at_29 rfl ?_
      refine k_X4_byNumber_X0 (pc := 30) (b := ad 4) (ta := ad 7) (tb := ad 8) (tc := ad 9) (m := J 30) (w := J 31) (t := t) (hc.1 4 (by decide)) (by omega) ⟨Nat.le_of_ble_eq_true rfl, Nat.le_of_ble_eq_true rfl⟩ ⟨Nat.le_of_ble_eq_true rfl, Nat.le_of_ble_eq_true rfl⟩ (Nat.le_of_ble_eq_true rfl) dX0_at_30 ?_
      refine ga_eq (pc := 33) (st1 := [.ref (ad (7 + t.toNat)), .int (iI 100)]) rfl rfl (congrArg (fun x => Value.ref x :: [.int (iI 100)]) (cTabE ht9)) ?_
      refine ga_iload_n (pc := 33) dX0_at_33 rfl ?_
      refine ga_iload_n (pc := 34) dX0_at_34 rfl ?_
      refine k_X5_at_X0 (pc := 35) (b := (ad (7 + t.toNat))) (e := (ad (16 + t.toNat))) (ro := (cRo J t)) (co := (cCl J t)) (i := i) (j := j) (f := (B t.toNat)) ((hc.tab ht9).1) ((hc.tab ht9).2) (zIx hro.2 (by omega) (by omega) (by omega)) (rfl) ⟨Nat.le_of_ble_eq_true rfl, Nat.le_of_ble_eq_true rfl⟩ ⟨Nat.le_of_ble_eq_true rfl, Nat.le_of_ble_eq_true rfl⟩ (Nat.le_of_ble_eq_true rfl) dX0_at_35 ?_
      refine ga_l2i (pc := 38) dX0_at_38 ?_
      refine ga_iadd (pc := 39) dX0_at_39 ?_
      refine ga_goto (pc := 40) (tgt := 44) dX0_at_40 rfl ?_
      exact cc_iret hc hE dX0_at_44 (⟨_, rfl, by first | (rw [if_pos (by omega)]; done) | rw [if_neg (by omega)], rfl, rfl⟩)
set_option maxHeartbeats 4000000 in
set_option maxRecDepth 100000 in
theorem m_X5_set (l : Launch) (D : ga_G) (h : ga_H) (b e : Nat) (ro co i j v : Int) (f : Int → Int) (hb : h b = some (oE 5 [.int (iI ro), .int (iI co), .int (iI 9), .ref e])) (he : h e = some (aL 9 f)) (hij : 0 ≤ co * i + j ∧ co * i + j < 9) : ga_M l D yX5_set (ws_ yX5_set cX5_set 5 none) (gR 0) [.ref b, .int (iI i), .int (iI j), .long (lI v)] h (pV (fun h1 => h1 = ga_u h e (aL 9 (uZ f (co * i + j) v)))) pX0 0 0 := by
  refine ga_met (own := RX5) 0 (by decide) rfl (Nat.le_of_ble_eq_true rfl) (L0 := [some (.ref b), some (.int (iI i)), some (.int (iI j)), some (.long (lI v)), none]) rfl (fun X _ _ hE => ?_)
  refine ga_aload_n (pc := 0) dX5_set_0 rfl ?_
  refine ga_get (pc := 1) (C := RX5) (T := TX5) (N := 4) (v := .ref e) in_X5 rfl hb 3 (by decide) q293 rfl rfl dX5_set_1 ?_
  refine ga_aload_n (pc := 4) dX5_set_4 rfl ?_
  refine ga_get (pc := 5) (C := RX5) (T := TX5) (N := 4) (v := .int (iI co)) in_X5 rfl hb 1 (by decide) q290 rfl rfl dX5_set_5 ?_
  refine ga_iload_n (pc := 8) dX5_set_8 rfl ?_
  refine ga_imul (pc := 9) dX5_set_9 ?_
  refine ga_iload_n (pc := 10) dX5_set_10 rfl ?_
  refine ga_iadd (pc := 11) dX5_set_11 ?_
  refine ga_lload_n (pc := 12) dX5_set_12 rfl ?_
  refine ga_last (pc := 13) (N := 9) (f := f) he (by omega) (by decide) dX5_set_13 ?_
  exact ga_vret hE dX5_set_14 (Nat.le_of_ble_eq_true rfl) (Nat.le_of_ble_eq_true rfl) (⟨rfl, rfl⟩)
set_option maxHeartbeats 4000000 in
set_option maxRecDepth 100000 in
theorem m_X0_set (l : Launch) (D : ga_G) (ad : Nat → Nat) (J : Nat → Int) (B : Nat → Int → Int) (Q : Nat → Int → Option Nat) (Z : ga_H) (t i j v : Int) (hm : (1 ≤ J 30 ∧ J 30 ≤ 3) ∧ 1 ≤ J 31 ∧ J 31 ≤ 3) (hri : (-2147483648 ≤ t ∧ t < 2147483648) ∧ (-2147483648 ≤ i ∧ i < 2147483648) ∧ (-2147483648 ≤ j ∧ j < 2147483648) ∧ (-2147483648 ≤ v ∧ v < 2147483648)) : cM l D yX0_set (ws_ yX0_set cX0_set 6 (some .int)) (gR 2) [.ref (ad 0), .int (iI t), .int (iI i), .int (iI j), .int (iI v)] ad J B Q Z (mI (fun r J1 B1 => if ((0 ≤ t ∧ t ≤ 2) ∧ (0 ≤ i ∧ i < cRo J t) ∧ 0 ≤ j ∧ j < cCl J t) ∧ (if t < 2 then -5 ≤ v ∧ v ≤ 5 else -50 ≤ v ∧ v ≤ 50) then r = 100 + B t.toNat (cCl J t * i + j) ∧ J1 = J ∧ B1 = uN B t.toNat (uZ (B t.toNat) (cCl J t * i + j) v) else r = -1 ∧ J1 = J ∧ B1 = B)) := by
  refine cc_met (own := RX0) 1 (by decide) rfl (Nat.le_of_ble_eq_true rfl) (L0 := [some (.ref (ad 0)), some (.int (iI t)), some (.int (iI i)), some (.int (iI j)), some (.int (iI v)), none]) rfl (fun X h hc hE => ?_)
  have hro := cRo_r hm t
  refine ga_iload_n (pc := 0) dX0_set_0 rfl ?_
  refine k_X0_isTable (pc := 1) (a := t) (by omega) (rfl) ⟨Nat.le_of_ble_eq_true rfl, Nat.le_of_ble_eq_true rfl⟩ ⟨Nat.le_of_ble_eq_true rfl, Nat.le_of_ble_eq_true rfl⟩ (Nat.le_of_ble_eq_true rfl) dX0_set_1 ?_
  refine ga_ifb_eq (pc := 4) (tgt := 33) dX0_set_4 rfl (fun c4 => ?_) (fun c4 => ?_)
  · skip
    refine ga_iconst (pc := 33) dX0_set_33 ?_
    exact cc_iret hc hE dX0_set_34 (⟨_, rfl, by dsimp only; rw [if_neg (fun z => by have z2 := z.2; split at z2 <;> omega)]; exact ⟨rfl, rfl, rfl⟩⟩)
  · skip
    have ht9 : 0 ≤ t ∧ t ≤ 2 := by omega
    refine ga_aload_n (pc := 7) dX0_set_7 rfl ?_
    refine cc_g_now (pc := 8) hc dX0_set_8 ?_
    refine ga_iload_n (pc := 11) dX0_set_11 rfl ?_
    refine k_X4_byNumber_X0 (pc := 12) (b := ad 4) (ta := ad 7) (tb := ad 8) (tc := ad 9) (m := J 30) (w := J 31) (t := t) (hc.1 4 (by decide)) (by omega) ⟨Nat.le_of_ble_eq_true rfl, Nat.le_of_ble_eq_true rfl⟩ ⟨Nat.le_of_ble_eq_true rfl, Nat.le_of_ble_eq_true rfl⟩ (Nat.le_of_ble_eq_true rfl) dX0_set_12 ?_
    refine ga_eq (pc := 15) (st1 := [.ref (ad (7 + t.toNat))]) rfl rfl (congrArg (fun x => Value.ref x :: []) (cTabE ht9)) ?_
    refine ga_iload_n (pc := 15) dX0_set_15 rfl ?_
    refine ga_iload_n (pc := 16) dX0_set_16 rfl ?_
    refine k_X5_has_X0 (pc := 17) (b := (ad (7 + t.toNat))) (e := (ad (16 + t.toNat))) (ro := (cRo J t)) (co := (cCl J t)) (i := i) (j := j) (f := (B t.toNat)) ((hc.tab ht9).1) ((hc.tab ht9).2) (by omega) (by omega) (rfl) ⟨Nat.le_of_ble_eq_true rfl, Nat.le_of_ble_eq_true rfl⟩ ⟨Nat.le_of_ble_eq_true rfl, Nat.le_of_ble_eq_true rfl⟩ (Nat.le_of_ble_eq_true rfl) dX0_set_17 ?_
    refine ga_ifb_eq (pc := 20) (tgt := 33) dX0_set_20 rfl (fun c20 => ?_) (fun c20 => ?_)
    · skip
      refine ga_iconst (pc := 33) dX0_set_33 ?_
      exact cc_iret hc hE dX0_set_34 (⟨_, rfl, by dsimp only; rw [if_neg (fun z => by have z2 := z.2; split at z2 <;> omega)]; exact ⟨rfl, rfl, rfl⟩⟩)
    · skip
      refine ga_iload_n (pc := 23) dX0_set_23 rfl ?_
      refine ga_iload (pc := 24) dX0_set_24 rfl ?_
      refine ga_i2l (pc := 26) dX0_set_26 (by omega) ?_
      refine k_X0_mayBe (pc := 27) (t := t) (v := v) (by omega) (rfl) ⟨Nat.le_of_ble_eq_true rfl, Nat.le_of_ble_eq_true rfl⟩ ⟨Nat.le_of_ble_eq_true rfl, Nat.le_of_ble_eq_true rfl⟩ (Nat.le_of_ble_eq_true rfl) dX0_set_27 ?_
      refine ga_ifb_ne (pc := 30) (tgt := 35) dX0_set_30 rfl (fun c30 => ?_) (fun c30 => ?_)
      · skip
        refine ga_aload_n (pc := 35) dX0_set_35 rfl ?_
        refine cc_g_now (pc := 36) hc dX0_set_36 ?_
        refine ga_iload_n (pc := 39) dX0_set_39 rfl ?_
        refine k_X4_byNumber_X0 (pc := 40) (b := ad 4) (ta := ad 7) (tb := ad 8) (tc := ad 9) (m := J 30) (w := J 31) (t := t) (hc.1 4 (by decide)) (by omega) ⟨Nat.le_of_ble_eq_true rfl, Nat.le_of_ble_eq_true rfl⟩ ⟨Nat.le_of_ble_eq_true rfl, Nat.le_of_ble_eq_true rfl⟩ (Nat.le_of_ble_eq_true rfl) dX0_set_40 ?_
        refine ga_eq (pc := 43) (st1 := [.ref (ad (7 + t.toNat))]) rfl rfl (congrArg (fun x => Value.ref x :: []) (cTabE ht9)) ?_
        refine ga_iload_n (pc := 43) dX0_set_43 rfl ?_
        refine ga_iload_n (pc := 44) dX0_set_44 rfl ?_
        refine k_X5_at_X0 (pc := 45) (b := (ad (7 + t.toNat))) (e := (ad (16 + t.toNat))) (ro := (cRo J t)) (co := (cCl J t)) (i := i) (j := j) (f := (B t.toNat)) ((hc.tab ht9).1) ((hc.tab ht9).2) (zIx hro.2 (by omega) (by omega) (by omega)) (rfl) ⟨Nat.le_of_ble_eq_true rfl, Nat.le_of_ble_eq_true rfl⟩ ⟨Nat.le_of_ble_eq_true rfl, Nat.le_of_ble_eq_true rfl⟩ (Nat.le_of_ble_eq_true rfl) dX0_set_45 ?_
        refine ga_l2i (pc := 48) dX0_set_48 ?_
        refine ga_istore (pc := 49) (L1 := [some (.ref (ad 0)), some (.int (iI t)), some (.int (iI i)), some (.int (iI j)), some (.int (iI v)), some (.int (iI ((B t.toNat) ((cCl J t) * i + j))))]) dX0_set_49 rfl (by decide) rfl ?_
        refine ga_aload_n (pc := 51) dX0_set_51 rfl ?_
        refine cc_g_now (pc := 52) hc dX0_set_52 ?_
        refine ga_iload_n (pc := 55) dX0_set_55 rfl ?_
        refine k_X4_byNumber_X0 (pc := 56) (b := ad 4) (ta := ad 7) (tb := ad 8) (tc := ad 9) (m := J 30) (w := J 31) (t := t) (hc.1 4 (by decide)) (by omega) ⟨Nat.le_of_ble_eq_true rfl, Nat.le_of_ble_eq_true rfl⟩ ⟨Nat.le_of_ble_eq_true rfl, Nat.le_of_ble_eq_true rfl⟩ (Nat.le_of_ble_eq_true rfl) dX0_set_56 ?_
        refine ga_eq (pc := 59) (st1 := [.ref (ad (7 + t.toNat))]) rfl rfl (congrArg (fun x => Value.ref x :: []) (cTabE ht9)) ?_
        refine ga_iload_n (pc := 59) dX0_set_59 rfl ?_
        refine ga_iload_n (pc := 60) dX0_set_60 rfl ?_
        refine ga_iload (pc := 61) dX0_set_61 rfl ?_
        refine ga_i2l (pc := 63) dX0_set_63 (by omega) ?_
        refine ga_goV (pc := 64) (ga_runV (mc := 0) (ms := 0) (C := RX5) (T := TX5) (N := 4) (m_X5_set _ _ _ (ad (7 + t.toNat)) (ad (16 + t.toNat)) (cRo J t) (cCl J t) i j v (B t.toNat) ((hc.tab ht9).1) ((hc.tab ht9).2) (zIx hro.2 (by omega) (by omega) (by omega))) (lw_V q484 q485 q486 q110 q487) rfl (show ga_nn' yX5_set 3 from (by unfold ga_nn'; decide +kernel)) ⟨rfl, rfl⟩ ⟨by show 0 + 1 ≤ _; exact Nat.le_of_ble_eq_true rfl, by show 8 + (5 + 11) + 64 * 0 ≤ _; exact Nat.le_of_ble_eq_true rfl⟩ ⟨Nat.le_of_ble_eq_true rfl, Nat.le_of_ble_eq_true rfl⟩ ((hc.tab ht9).1) rfl (Nat.le_of_ble_eq_true rfl) dX0_set_64 rfl) (fun h1 hp1 => ?_)
        subst hp1
        replace hc := hc.cell (k := t.toNat) (by omega) (uZ (B t.toNat) (cCl J t * i + j) v)
        generalize ga_u h (ad (16 + t.toNat)) (aL 9 (uZ (B t.toNat) (cCl J t * i + j) v)) = h at hc ⊢
        refine ga_bipush (pc := 67) dX0_set_67 rfl ?_
        refine ga_iload (pc := 69) dX0_set_69 rfl ?_
        refine ga_iadd (pc := 71) dX0_set_71 ?_
        exact cc_iret hc hE dX0_set_72 (⟨_, rfl, by dsimp only; rw [if_pos (by refine ⟨by omega, ?_⟩; split <;> omega)]; exact ⟨rfl, rfl, rfl⟩⟩)
      · skip
        refine ga_iconst (pc := 33) dX0_set_33 ?_
        exact cc_iret hc hE dX0_set_34 (⟨_, rfl, by dsimp only; rw [if_neg (fun z => by have z2 := z.2; split at z2 <;> omega)]; exact ⟨rfl, rfl, rfl⟩⟩)
set_option maxHeartbeats 4000000 in
set_option maxRecDepth 100000 in
theorem m_X0_det (l : Launch) (D : ga_G) (ad : Nat → Nat) (J : Nat → Int) (B : Nat → Int → Int) (Q : Nat → Int → Option Nat) (Z : ga_H) (t : Int) (hm : (1 ≤ J 30 ∧ J 30 ≤ 3) ∧ 1 ≤ J 31 ∧ J 31 ≤ 3) (heB : ∀ t k : Int, 0 ≤ t → t ≤ 2 → -50 ≤ B t.toNat k ∧ B t.toNat k ≤ 50) (hri : (-2147483648 ≤ t ∧ t < 2147483648)) : kM l D yX0_det (ws_ yX0_det cX0_det 2 (some .long)) (gK 3 1 3) [.ref (ad 0), .int (iI t)] ad J B Q Z (kL (fun r ad1 J1 B1 Q1 Z1 => (ad1 = ad ∧ Q1 = Q ∧ Z1 = Z) ∧ r = (if 0 ≤ t ∧ t ≤ 1 then cDt (B t.toNat) (cRo J t) else -4000000000000000001) ∧ J1 = J ∧ B1 = B)) kX0 1 3 := by
  refine kc_met (own := RX0) 0 (by decide) rfl (Nat.le_of_ble_eq_true rfl) (L0 := [some (.ref (ad 0)), some (.int (iI t))]) rfl (fun X h hc hE => ?_)
  have hro := cRo_r hm t
  refine ga_iload_n (pc := 0) dX0_det_0 rfl ?_
  refine ga_iconst (pc := 1) dX0_det_1 ?_
  refine ga_iconst (pc := 2) dX0_det_2 ?_
  refine k_X0_isIn (pc := 3) (a := t) (b := 0) (e := 1) (by omega) (rfl) ⟨Nat.le_of_ble_eq_true rfl, Nat.le_of_ble_eq_true rfl⟩ ⟨Nat.le_of_ble_eq_true rfl, Nat.le_of_ble_eq_true rfl⟩ (Nat.le_of_ble_eq_true rfl) dX0_det_3 ?_
  refine ga_ifb_eq (pc := 6) (tgt := 23) dX0_det_6 rfl (fun c6 => ?_) (fun c6 => ?_)
  · skip
    refine ga_iconst (pc := 23) dX0_det_23 ?_
    refine k_X0_far (pc := 24) (a := (-1)) (by omega) (rfl) ⟨Nat.le_of_ble_eq_true rfl, Nat.le_of_ble_eq_true rfl⟩ ⟨Nat.le_of_ble_eq_true rfl, Nat.le_of_ble_eq_true rfl⟩ (Nat.le_of_ble_eq_true rfl) dX0_det_24 ?_
    exact kc_lret hc hE dX0_det_27 (by omega) (by omega) (⟨_, rfl, ⟨⟨rfl, rfl, rfl⟩, by (try dsimp only); exact ⟨by rw [if_neg (by omega)]; omega, rfl, rfl⟩⟩⟩)
  · skip
    have ht9 : 0 ≤ t ∧ t ≤ 2 := by omega
    have hsq : cCl J t = cRo J t := by unfold cRo cCl; (repeat' split) <;> omega
    refine ga_aload_n (pc := 9) dX0_det_9 rfl ?_
    refine cc_g_now (pc := 10) hc dX0_det_10 ?_
    refine ga_iload_n (pc := 13) dX0_det_13 rfl ?_
    refine k_X4_byNumber_X0 (pc := 14) (b := ad 4) (ta := ad 7) (tb := ad 8) (tc := ad 9) (m := J 30) (w := J 31) (t := t) (hc.1 4 (by decide)) (by omega) ⟨Nat.le_of_ble_eq_true rfl, Nat.le_of_ble_eq_true rfl⟩ ⟨Nat.le_of_ble_eq_true rfl, Nat.le_of_ble_eq_true rfl⟩ (Nat.le_of_ble_eq_true rfl) dX0_det_14 ?_
    refine ga_eq (pc := 17) (st1 := [.ref (ad (7 + t.toNat))]) rfl rfl (congrArg (fun x => Value.ref x :: []) (cTabE ht9)) ?_
    refine k_X0_determinant (pc := 17) (b := (ad (7 + t.toNat))) (e := (ad (16 + t.toNat))) (ro := (cRo J t)) (f := (B t.toNat)) ((hsq ▸ (hc.tab ht9).1)) ((hc.tab ht9).2) (by omega) (fun k => heB t k (by omega) (by omega)) (rfl) ⟨Nat.le_of_ble_eq_true rfl, Nat.le_of_ble_eq_true rfl⟩ ⟨Nat.le_of_ble_eq_true rfl, Nat.le_of_ble_eq_true rfl⟩ (Nat.le_of_ble_eq_true rfl) dX0_det_17 (fun h17 hfr17 => ?_)
    replace hc := hc.fr hfr17
    clear hfr17
    generalize h17 = h at hc ⊢
    refine ga_goto (pc := 20) (tgt := 27) dX0_det_20 rfl ?_
    exact kc_lret hc hE dX0_det_27 (by omega) (by omega) (⟨_, rfl, ⟨⟨rfl, rfl, rfl⟩, by (try dsimp only); exact ⟨by rw [if_pos (by omega)], rfl, rfl⟩⟩⟩)
