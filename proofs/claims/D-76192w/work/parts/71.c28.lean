/-! THE CLASS: a table becomes another one -/
set_option maxHeartbeats 4000000 in
set_option maxRecDepth 100000 in
theorem m_X5_become (l : Launch) (D : ga_G) (h : ga_H) (b o e e2 : Nat) (ro co ro2 co2 : Int) (f g : Int → Int) (hb : h b = some (oE 5 [.int (iI ro), .int (iI co), .int (iI 9), .ref e])) (ho : h o = some (oE 5 [.int (iI ro2), .int (iI co2), .int (iI 9), .ref e2])) (he : h e = some (aL 9 f)) (he2 : h e2 = some (aL 9 g)) : ga_M l D yX5_become (ws_ yX5_become cX5_become 2 none) (gR 1) [.ref b, .ref o] h (pV (fun h1 => h1 = ga_u h e (aL 9 (zcp g f 0 0 9)))) pX0 0 0 := by
  refine ga_met (own := RX5) 0 (by decide) rfl (Nat.le_of_ble_eq_true rfl) (L0 := [some (.ref b), some (.ref o)]) rfl (fun X _ _ hE => ?_)
  refine ga_aload_n (pc := 0) dX5_become_0 rfl ?_
  refine ga_get (pc := 1) (C := RX5) (T := TX5) (N := 4) (v := .ref e2) in_X5 rfl ho 3 (by decide) q293 rfl rfl dX5_become_1 ?_
  refine ga_iconst (pc := 4) dX5_become_4 ?_
  refine ga_aload_n (pc := 5) dX5_become_5 rfl ?_
  refine ga_get (pc := 6) (C := RX5) (T := TX5) (N := 4) (v := .ref e) in_X5 rfl hb 3 (by decide) q293 rfl rfl dX5_become_6 ?_
  refine ga_iconst (pc := 9) dX5_become_9 ?_
  refine ga_aload_n (pc := 10) dX5_become_10 rfl ?_
  refine ga_get (pc := 11) (C := RX5) (T := TX5) (N := 4) (v := .int (iI 9)) in_X5 rfl hb 2 (by decide) q292 rfl rfl dX5_become_11 ?_
  refine ga_copyL (pc := 14) (a0 := e2) (a := e) (n0 := 9) (n1 := 9) (f := g) (g := f) (zs := 0) (zd := 0) (zn := 9) he2 he (by omega) (by decide) q580 q582 q581 q116 (Nat.le_of_ble_eq_true rfl) (Nat.le_of_ble_eq_true rfl) dX5_become_14 ?_
  exact ga_vret hE dX5_become_17 (Nat.le_of_ble_eq_true rfl) (Nat.le_of_ble_eq_true rfl) (⟨rfl, rfl⟩)
theorem cTabG {ad : Nat → Nat} {t : Int} (c : Nat) (ht : 0 ≤ t ∧ t ≤ 2) : (if t = 0 then ad c else if t = 1 then ad (c + 1) else ad (c + 2)) = ad (c + t.toNat) := by
  rcases (by omega : t = 0 ∨ t = 1 ∨ t = 2) with rfl | rfl | rfl <;> rfl
def gRo (J : Nat → Int) (a : Nat) (t : Int) : Int := if t = 1 then J (31 + 2 * a) else J (30 + 2 * a)
def gCl (J : Nat → Int) (a : Nat) (t : Int) : Int := if t = 0 then J (30 + 2 * a) else J (31 + 2 * a)
theorem cOn.tabG {h : ga_H} {ad : Nat → Nat} {J : Nat → Int} {B : Nat → Int → Int} {Q : Nat → Int → Option Nat} {Z : ga_H} (hc : cOn h ad J B Q Z) (a : Nat) (ha : a < 3) {t : Int} (ht : 0 ≤ t ∧ t ≤ 2) : h (ad (7 + 3 * a + t.toNat)) = some (oE 5 [.int (iI (gRo J a t)), .int (iI (gCl J a t)), .int (iI 9), .ref (ad (16 + (3 * a + t.toNat)))]) ∧ h (ad (16 + (3 * a + t.toNat))) = some (aL 9 (B (3 * a + t.toNat))) := by
  rcases (by omega : a = 0 ∨ a = 1 ∨ a = 2) with rfl | rfl | rfl <;> rcases (by omega : t = 0 ∨ t = 1 ∨ t = 2) with rfl | rfl | rfl
  · exact ⟨hc.1 7 (by decide), hc.1 16 (by decide)⟩
  · exact ⟨hc.1 8 (by decide), hc.1 17 (by decide)⟩
  · exact ⟨hc.1 9 (by decide), hc.1 18 (by decide)⟩
  · exact ⟨hc.1 10 (by decide), hc.1 19 (by decide)⟩
  · exact ⟨hc.1 11 (by decide), hc.1 20 (by decide)⟩
  · exact ⟨hc.1 12 (by decide), hc.1 21 (by decide)⟩
  · exact ⟨hc.1 13 (by decide), hc.1 22 (by decide)⟩
  · exact ⟨hc.1 14 (by decide), hc.1 23 (by decide)⟩
  · exact ⟨hc.1 15 (by decide), hc.1 24 (by decide)⟩
/-- the first k tables of group b copied over those of group a -/
def cBk (B : Nat → Int → Int) (a b : Nat) (k : Int) : Nat → Int → Int := fun r => if 3 * a ≤ r ∧ (r : Int) < 3 * a + k then zcp (B (3 * b + (r - 3 * a))) (B r) 0 0 9 else B r
theorem cBk_0 (B : Nat → Int → Int) (a b : Nat) : B = cBk B a b 0 := by
  funext r
  unfold cBk
  rw [if_neg (by omega)]
theorem cBk_s {B : Nat → Int → Int} {a b : Nat} (hab : a ≠ b) {k : Int} (hk : 0 ≤ k ∧ k ≤ 2) : uN (cBk B a b k) (3 * a + k.toNat) (zcp (cBk B a b k (3 * b + k.toNat)) (cBk B a b k (3 * a + k.toNat)) 0 0 9) = cBk B a b (k + 1) := by
  have e1 : cBk B a b k (3 * b + k.toNat) = B (3 * b + k.toNat) := by unfold cBk; rw [if_neg (by omega)]
  have e2 : cBk B a b k (3 * a + k.toNat) = B (3 * a + k.toNat) := by unfold cBk; rw [if_neg (by omega)]
  rw [e1, e2]
  funext r
  by_cases h : r = 3 * a + k.toNat
  · rw [h, uN_s]
    unfold cBk
    rw [if_pos (by omega), show 3 * a + k.toNat - 3 * a = k.toNat by omega]
  · rw [uN_n _ _ h]
    unfold cBk
    by_cases h2 : 3 * a ≤ r ∧ (r : Int) < 3 * a + k
    · rw [if_pos h2, if_pos (by omega)]
    · rw [if_neg h2, if_neg (by omega)]
set_option maxHeartbeats 4000000 in
set_option maxRecDepth 100000 in
theorem m_X4_become_20 (l : Launch) (D : ga_G) (ad : Nat → Nat) (J : Nat → Int) (B : Nat → Int → Int) (Q : Nat → Int → Option Nat) (Z : ga_H) : cM l D yX4_become (ws_ yX4_become cX4_become 3 none) (gR 2) [.ref (ad 6), .ref (ad 4)] ad J B Q Z (mV (fun J1 B1 => J1 = J ∧ B1 = cBk B 2 0 3)) := by
  refine cc_met (own := RX4) 1 (by decide) rfl (Nat.le_of_ble_eq_true rfl) (L0 := [some (.ref (ad 6)), some (.ref (ad 4)), none]) rfl (fun X h hc hE => ?_)
  refine ga_iconst (pc := 0) dX4_become_0 ?_
  refine ga_istore_n (pc := 1) (L1 := [some (.ref (ad 6)), some (.ref (ad 4)), some (.int (iI 0))]) dX4_become_1 rfl (by decide) rfl ?_
  have lp2 : ∀ (N2 : Nat) (t : Int) (Bk : Nat → Int → Int), ∀ h : ga_H, cOn h ad J Bk Q Z → (0 ≤ t ∧ t ≤ 3) → (Bk = cBk B 2 0 t) → (3 - t).toNat < N2 → G X (gR 2) RX4 3 cX4_become h 0 0 2 [some (.ref (ad 6)), some (.ref (ad 4)), some (.int (iI t))] [] := by
    intro N2
    induction N2 with
    | zero => intro t Bk h hc ht hB hN2; exact absurd hN2 (Nat.not_lt_zero _)
    | succ N2 ih2 =>
      intro t Bk h hc ht hB hN2
      refine ga_iload_n (pc := 2) dX4_become_2 rfl ?_
      refine ga_iconst (pc := 3) dX4_become_3 ?_
      refine ga_icmp_ge (pc := 4) (tgt := 26) dX4_become_4 rfl (by omega) (by omega) (fun c4 => ?_) (fun c4 => ?_)
      · skip
        exact cc_vret hc hE dX4_become_26 (⟨rfl, by (try dsimp only); exact ⟨rfl, by rw [hB, show t = 3 by omega]⟩⟩)
      · skip
        have ht9 : 0 ≤ t ∧ t ≤ 2 := by omega
        refine ga_aload_n (pc := 7) dX4_become_7 rfl ?_
        refine ga_iload_n (pc := 8) dX4_become_8 rfl ?_
        refine k_X4_byNumber_X4 (pc := 9) (b := ad 6) (ta := ad 13) (tb := ad 14) (tc := ad 15) (m := J 34) (w := J 35) (t := t) (hc.1 6 (by decide)) (by omega) ⟨Nat.le_of_ble_eq_true rfl, Nat.le_of_ble_eq_true rfl⟩ ⟨Nat.le_of_ble_eq_true rfl, Nat.le_of_ble_eq_true rfl⟩ (Nat.le_of_ble_eq_true rfl) dX4_become_9 ?_
        refine ga_eq (pc := 12) (st1 := [.ref (ad (13 + t.toNat))]) rfl rfl (congrArg (fun x => Value.ref x :: []) (cTabG 13 ht9)) ?_
        refine ga_aload_n (pc := 12) dX4_become_12 rfl ?_
        refine ga_iload_n (pc := 13) dX4_become_13 rfl ?_
        refine k_X4_byNumber_X4 (pc := 14) (b := ad 4) (ta := ad 7) (tb := ad 8) (tc := ad 9) (m := J 30) (w := J 31) (t := t) (hc.1 4 (by decide)) (by omega) ⟨Nat.le_of_ble_eq_true rfl, Nat.le_of_ble_eq_true rfl⟩ ⟨Nat.le_of_ble_eq_true rfl, Nat.le_of_ble_eq_true rfl⟩ (Nat.le_of_ble_eq_true rfl) dX4_become_14 ?_
        refine ga_eq (pc := 17) (st1 := [.ref (ad (7 + t.toNat)), .ref (ad (13 + t.toNat))]) rfl rfl (congrArg (fun x => Value.ref x :: [.ref (ad (13 + t.toNat))]) (cTabG 7 ht9)) ?_
        refine ga_goV (pc := 17) (ga_runV (mc := 0) (ms := 0) (C := RX5) (T := TX5) (N := 4) (m_X5_become _ _ _ (ad (13 + t.toNat)) (ad (7 + t.toNat)) (ad (16 + (6 + t.toNat))) (ad (16 + (0 + t.toNat))) _ _ _ _ (Bk (6 + t.toNat)) (Bk (0 + t.toNat)) ((hc.tabG 2 (by decide) ht9).1) ((hc.tabG 0 (by decide) ht9).1) ((hc.tabG 2 (by decide) ht9).2) ((hc.tabG 0 (by decide) ht9).2)) (lw_V q576 q577 q578 q110 q579) rfl (show ga_nn' yX5_become 1 from (by unfold ga_nn'; decide +kernel)) ⟨rfl, rfl⟩ ⟨by show 1 + 1 ≤ _; exact Nat.le_of_ble_eq_true rfl, by show 8 + (2 + 11) + 64 * 1 ≤ _; exact Nat.le_of_ble_eq_true rfl⟩ ⟨Nat.le_of_ble_eq_true rfl, Nat.le_of_ble_eq_true rfl⟩ ((hc.tabG 2 (by decide) ht9).1) rfl (Nat.le_of_ble_eq_true rfl) dX4_become_17 rfl) (fun h1 hp1 => ?_)
        subst hp1
        replace hc := hc.cell (k := 6 + t.toNat) (by omega) (zcp (Bk (0 + t.toNat)) (Bk (6 + t.toNat)) 0 0 9)
        generalize ga_u h (ad (16 + (6 + t.toNat))) (aL 9 (zcp (Bk (0 + t.toNat)) (Bk (6 + t.toNat)) 0 0 9)) = h at hc ⊢
        refine ga_iinc (pc := 20) (L1 := [some (.ref (ad 6)), some (.ref (ad 4)), some (.int (iI (t + 1)))]) dX4_become_20 rfl rfl (by decide) rfl ?_
        refine ga_goto (pc := 23) (tgt := 2) dX4_become_23 rfl ?_
        exact ih2 (t + 1) (uN Bk (6 + t.toNat) (zcp (Bk (0 + t.toNat)) (Bk (6 + t.toNat)) 0 0 9)) h hc (by omega) (by rw [hB]; exact cBk_s (by decide) ht9) (by omega)
  exact lp2 _ 0 B h hc (by omega) (cBk_0 B 2 0) (Nat.lt_succ_self _)
theorem k_X4_become_20 {X : ga_X} {R : Room} {nL : Nat} {cc : ByteArray} {h : ga_H} {ad : Nat → Nat} {J : Nat → Int} {B : Nat → Int → Int} {Q : Nat → Int → Option Nat} {Z : ga_H} {k n pc : Nat} {L : List (Option Value)} {st : List Value} (hc : cOn h ad J B Q Z) (hR : 2 + 1 ≤ R.frames ∧ 19 + 3 + 64 * 2 ≤ R.locals) (hk : k ≤ R.cells ∧ n ≤ R.slots) (hs : (st.map fun v => v.category).sum ≤ 8) (dd : decode cc pc = .ok (.invokevirtual 276, 3)) (kk : ∀ (J1 : Nat → Int) (B1 : Nat → Int → Int), (J1 = J ∧ B1 = cBk B 2 0 3) → ∀ h : ga_H, cOn h ad J1 B1 Q Z → G X R RX0 nL cc h k n (pc + 3) L st) : G X R RX0 nL cc h k n pc L (.ref (ad 4) :: .ref (ad 6) :: st) := by
  refine ga_go (ga_runV (mc := 0) (ms := 0) (C := RX4) (T := TX4) (N := 5) (m_X4_become_20 _ _ ad J B Q Z h hc) (lw_V q571 q572 q573 q109 q574) rfl (show ga_nn' yX4_become 1 from (by unfold ga_nn'; decide +kernel)) ⟨rfl, rfl⟩ ⟨hR.1, by show 8 + (3 + 11) + 64 * 2 ≤ _; omega⟩ hk (hc.1 6 (by decide)) rfl hs dd rfl) (fun _ _ _ z => z.elim) (fun v h1 hp => ?_)
  obtain ⟨J1, B1, hc1, rfl, hp⟩ := hp
  exact kk J1 B1 hp h1 hc1
set_option maxHeartbeats 4000000 in
set_option maxRecDepth 100000 in
theorem m_X4_become_02 (l : Launch) (D : ga_G) (ad : Nat → Nat) (J : Nat → Int) (B : Nat → Int → Int) (Q : Nat → Int → Option Nat) (Z : ga_H) : cM l D yX4_become (ws_ yX4_become cX4_become 3 none) (gR 2) [.ref (ad 4), .ref (ad 6)] ad J B Q Z (mV (fun J1 B1 => J1 = J ∧ B1 = cBk B 0 2 3)) := by
  refine cc_met (own := RX4) 1 (by decide) rfl (Nat.le_of_ble_eq_true rfl) (L0 := [some (.ref (ad 4)), some (.ref (ad 6)), none]) rfl (fun X h hc hE => ?_)
  refine ga_iconst (pc := 0) dX4_become_0 ?_
  refine ga_istore_n (pc := 1) (L1 := [some (.ref (ad 4)), some (.ref (ad 6)), some (.int (iI 0))]) dX4_become_1 rfl (by decide) rfl ?_
  have lp2 : ∀ (N2 : Nat) (t : Int) (Bk : Nat → Int → Int), ∀ h : ga_H, cOn h ad J Bk Q Z → (0 ≤ t ∧ t ≤ 3) → (Bk = cBk B 0 2 t) → (3 - t).toNat < N2 → G X (gR 2) RX4 3 cX4_become h 0 0 2 [some (.ref (ad 4)), some (.ref (ad 6)), some (.int (iI t))] [] := by
    intro N2
    induction N2 with
    | zero => intro t Bk h hc ht hB hN2; exact absurd hN2 (Nat.not_lt_zero _)
    | succ N2 ih2 =>
      intro t Bk h hc ht hB hN2
      refine ga_iload_n (pc := 2) dX4_become_2 rfl ?_
      refine ga_iconst (pc := 3) dX4_become_3 ?_
      refine ga_icmp_ge (pc := 4) (tgt := 26) dX4_become_4 rfl (by omega) (by omega) (fun c4 => ?_) (fun c4 => ?_)
      · skip
        exact cc_vret hc hE dX4_become_26 (⟨rfl, by (try dsimp only); exact ⟨rfl, by rw [hB, show t = 3 by omega]⟩⟩)
      · skip
        have ht9 : 0 ≤ t ∧ t ≤ 2 := by omega
        refine ga_aload_n (pc := 7) dX4_become_7 rfl ?_
        refine ga_iload_n (pc := 8) dX4_become_8 rfl ?_
        refine k_X4_byNumber_X4 (pc := 9) (b := ad 4) (ta := ad 7) (tb := ad 8) (tc := ad 9) (m := J 30) (w := J 31) (t := t) (hc.1 4 (by decide)) (by omega) ⟨Nat.le_of_ble_eq_true rfl, Nat.le_of_ble_eq_true rfl⟩ ⟨Nat.le_of_ble_eq_true rfl, Nat.le_of_ble_eq_true rfl⟩ (Nat.le_of_ble_eq_true rfl) dX4_become_9 ?_
        refine ga_eq (pc := 12) (st1 := [.ref (ad (7 + t.toNat))]) rfl rfl (congrArg (fun x => Value.ref x :: []) (cTabG 7 ht9)) ?_
        refine ga_aload_n (pc := 12) dX4_become_12 rfl ?_
        refine ga_iload_n (pc := 13) dX4_become_13 rfl ?_
        refine k_X4_byNumber_X4 (pc := 14) (b := ad 6) (ta := ad 13) (tb := ad 14) (tc := ad 15) (m := J 34) (w := J 35) (t := t) (hc.1 6 (by decide)) (by omega) ⟨Nat.le_of_ble_eq_true rfl, Nat.le_of_ble_eq_true rfl⟩ ⟨Nat.le_of_ble_eq_true rfl, Nat.le_of_ble_eq_true rfl⟩ (Nat.le_of_ble_eq_true rfl) dX4_become_14 ?_
        refine ga_eq (pc := 17) (st1 := [.ref (ad (13 + t.toNat)), .ref (ad (7 + t.toNat))]) rfl rfl (congrArg (fun x => Value.ref x :: [.ref (ad (7 + t.toNat))]) (cTabG 13 ht9)) ?_
        refine ga_goV (pc := 17) (ga_runV (mc := 0) (ms := 0) (C := RX5) (T := TX5) (N := 4) (m_X5_become _ _ _ (ad (7 + t.toNat)) (ad (13 + t.toNat)) (ad (16 + (0 + t.toNat))) (ad (16 + (6 + t.toNat))) _ _ _ _ (Bk (0 + t.toNat)) (Bk (6 + t.toNat)) ((hc.tabG 0 (by decide) ht9).1) ((hc.tabG 2 (by decide) ht9).1) ((hc.tabG 0 (by decide) ht9).2) ((hc.tabG 2 (by decide) ht9).2)) (lw_V q576 q577 q578 q110 q579) rfl (show ga_nn' yX5_become 1 from (by unfold ga_nn'; decide +kernel)) ⟨rfl, rfl⟩ ⟨by show 1 + 1 ≤ _; exact Nat.le_of_ble_eq_true rfl, by show 8 + (2 + 11) + 64 * 1 ≤ _; exact Nat.le_of_ble_eq_true rfl⟩ ⟨Nat.le_of_ble_eq_true rfl, Nat.le_of_ble_eq_true rfl⟩ ((hc.tabG 0 (by decide) ht9).1) rfl (Nat.le_of_ble_eq_true rfl) dX4_become_17 rfl) (fun h1 hp1 => ?_)
        subst hp1
        replace hc := hc.cell (k := 0 + t.toNat) (by omega) (zcp (Bk (6 + t.toNat)) (Bk (0 + t.toNat)) 0 0 9)
        generalize ga_u h (ad (16 + (0 + t.toNat))) (aL 9 (zcp (Bk (6 + t.toNat)) (Bk (0 + t.toNat)) 0 0 9)) = h at hc ⊢
        refine ga_iinc (pc := 20) (L1 := [some (.ref (ad 4)), some (.ref (ad 6)), some (.int (iI (t + 1)))]) dX4_become_20 rfl rfl (by decide) rfl ?_
        refine ga_goto (pc := 23) (tgt := 2) dX4_become_23 rfl ?_
        exact ih2 (t + 1) (uN Bk (0 + t.toNat) (zcp (Bk (6 + t.toNat)) (Bk (0 + t.toNat)) 0 0 9)) h hc (by omega) (by rw [hB]; exact cBk_s (by decide) ht9) (by omega)
  exact lp2 _ 0 B h hc (by omega) (cBk_0 B 0 2) (Nat.lt_succ_self _)
theorem k_X4_become_02 {X : ga_X} {R : Room} {nL : Nat} {cc : ByteArray} {h : ga_H} {ad : Nat → Nat} {J : Nat → Int} {B : Nat → Int → Int} {Q : Nat → Int → Option Nat} {Z : ga_H} {k n pc : Nat} {L : List (Option Value)} {st : List Value} (hc : cOn h ad J B Q Z) (hR : 2 + 1 ≤ R.frames ∧ 19 + 3 + 64 * 2 ≤ R.locals) (hk : k ≤ R.cells ∧ n ≤ R.slots) (hs : (st.map fun v => v.category).sum ≤ 8) (dd : decode cc pc = .ok (.invokevirtual 276, 3)) (kk : ∀ (J1 : Nat → Int) (B1 : Nat → Int → Int), (J1 = J ∧ B1 = cBk B 0 2 3) → ∀ h : ga_H, cOn h ad J1 B1 Q Z → G X R RX0 nL cc h k n (pc + 3) L st) : G X R RX0 nL cc h k n pc L (.ref (ad 6) :: .ref (ad 4) :: st) := by
  refine ga_go (ga_runV (mc := 0) (ms := 0) (C := RX4) (T := TX4) (N := 5) (m_X4_become_02 _ _ ad J B Q Z h hc) (lw_V q571 q572 q573 q109 q574) rfl (show ga_nn' yX4_become 1 from (by unfold ga_nn'; decide +kernel)) ⟨rfl, rfl⟩ ⟨hR.1, by show 8 + (3 + 11) + 64 * 2 ≤ _; omega⟩ hk (hc.1 4 (by decide)) rfl hs dd rfl) (fun _ _ _ z => z.elim) (fun v h1 hp => ?_)
  obtain ⟨J1, B1, hc1, rfl, hp⟩ := hp
  exact kk J1 B1 hp h1 hc1
set_option maxHeartbeats 4000000 in
set_option maxRecDepth 100000 in
theorem m_X4_become_10 (l : Launch) (D : ga_G) (ad : Nat → Nat) (J : Nat → Int) (B : Nat → Int → Int) (Q : Nat → Int → Option Nat) (Z : ga_H) : cM l D yX4_become (ws_ yX4_become cX4_become 3 none) (gR 2) [.ref (ad 5), .ref (ad 4)] ad J B Q Z (mV (fun J1 B1 => J1 = J ∧ B1 = cBk B 1 0 3)) := by
  refine cc_met (own := RX4) 1 (by decide) rfl (Nat.le_of_ble_eq_true rfl) (L0 := [some (.ref (ad 5)), some (.ref (ad 4)), none]) rfl (fun X h hc hE => ?_)
  refine ga_iconst (pc := 0) dX4_become_0 ?_
  refine ga_istore_n (pc := 1) (L1 := [some (.ref (ad 5)), some (.ref (ad 4)), some (.int (iI 0))]) dX4_become_1 rfl (by decide) rfl ?_
  have lp2 : ∀ (N2 : Nat) (t : Int) (Bk : Nat → Int → Int), ∀ h : ga_H, cOn h ad J Bk Q Z → (0 ≤ t ∧ t ≤ 3) → (Bk = cBk B 1 0 t) → (3 - t).toNat < N2 → G X (gR 2) RX4 3 cX4_become h 0 0 2 [some (.ref (ad 5)), some (.ref (ad 4)), some (.int (iI t))] [] := by
    intro N2
    induction N2 with
    | zero => intro t Bk h hc ht hB hN2; exact absurd hN2 (Nat.not_lt_zero _)
    | succ N2 ih2 =>
      intro t Bk h hc ht hB hN2
      refine ga_iload_n (pc := 2) dX4_become_2 rfl ?_
      refine ga_iconst (pc := 3) dX4_become_3 ?_
      refine ga_icmp_ge (pc := 4) (tgt := 26) dX4_become_4 rfl (by omega) (by omega) (fun c4 => ?_) (fun c4 => ?_)
      · skip
        exact cc_vret hc hE dX4_become_26 (⟨rfl, by (try dsimp only); exact ⟨rfl, by rw [hB, show t = 3 by omega]⟩⟩)
      · skip
        have ht9 : 0 ≤ t ∧ t ≤ 2 := by omega
        refine ga_aload_n (pc := 7) dX4_become_7 rfl ?_
        refine ga_iload_n (pc := 8) dX4_become_8 rfl ?_
        refine k_X4_byNumber_X4 (pc := 9) (b := ad 5) (ta := ad 10) (tb := ad 11) (tc := ad 12) (m := J 32) (w := J 33) (t := t) (hc.1 5 (by decide)) (by omega) ⟨Nat.le_of_ble_eq_true rfl, Nat.le_of_ble_eq_true rfl⟩ ⟨Nat.le_of_ble_eq_true rfl, Nat.le_of_ble_eq_true rfl⟩ (Nat.le_of_ble_eq_true rfl) dX4_become_9 ?_
        refine ga_eq (pc := 12) (st1 := [.ref (ad (10 + t.toNat))]) rfl rfl (congrArg (fun x => Value.ref x :: []) (cTabG 10 ht9)) ?_
        refine ga_aload_n (pc := 12) dX4_become_12 rfl ?_
        refine ga_iload_n (pc := 13) dX4_become_13 rfl ?_
        refine k_X4_byNumber_X4 (pc := 14) (b := ad 4) (ta := ad 7) (tb := ad 8) (tc := ad 9) (m := J 30) (w := J 31) (t := t) (hc.1 4 (by decide)) (by omega) ⟨Nat.le_of_ble_eq_true rfl, Nat.le_of_ble_eq_true rfl⟩ ⟨Nat.le_of_ble_eq_true rfl, Nat.le_of_ble_eq_true rfl⟩ (Nat.le_of_ble_eq_true rfl) dX4_become_14 ?_
        refine ga_eq (pc := 17) (st1 := [.ref (ad (7 + t.toNat)), .ref (ad (10 + t.toNat))]) rfl rfl (congrArg (fun x => Value.ref x :: [.ref (ad (10 + t.toNat))]) (cTabG 7 ht9)) ?_
        refine ga_goV (pc := 17) (ga_runV (mc := 0) (ms := 0) (C := RX5) (T := TX5) (N := 4) (m_X5_become _ _ _ (ad (10 + t.toNat)) (ad (7 + t.toNat)) (ad (16 + (3 + t.toNat))) (ad (16 + (0 + t.toNat))) _ _ _ _ (Bk (3 + t.toNat)) (Bk (0 + t.toNat)) ((hc.tabG 1 (by decide) ht9).1) ((hc.tabG 0 (by decide) ht9).1) ((hc.tabG 1 (by decide) ht9).2) ((hc.tabG 0 (by decide) ht9).2)) (lw_V q576 q577 q578 q110 q579) rfl (show ga_nn' yX5_become 1 from (by unfold ga_nn'; decide +kernel)) ⟨rfl, rfl⟩ ⟨by show 1 + 1 ≤ _; exact Nat.le_of_ble_eq_true rfl, by show 8 + (2 + 11) + 64 * 1 ≤ _; exact Nat.le_of_ble_eq_true rfl⟩ ⟨Nat.le_of_ble_eq_true rfl, Nat.le_of_ble_eq_true rfl⟩ ((hc.tabG 1 (by decide) ht9).1) rfl (Nat.le_of_ble_eq_true rfl) dX4_become_17 rfl) (fun h1 hp1 => ?_)
        subst hp1
        replace hc := hc.cell (k := 3 + t.toNat) (by omega) (zcp (Bk (0 + t.toNat)) (Bk (3 + t.toNat)) 0 0 9)
        generalize ga_u h (ad (16 + (3 + t.toNat))) (aL 9 (zcp (Bk (0 + t.toNat)) (Bk (3 + t.toNat)) 0 0 9)) = h at hc ⊢
        refine ga_iinc (pc := 20) (L1 := [some (.ref (ad 5)), some (.ref (ad 4)), some (.int (iI (t + 1)))]) dX4_become_20 rfl rfl (by decide) rfl ?_
        refine ga_goto (pc := 23) (tgt := 2) dX4_become_23 rfl ?_
        exact ih2 (t + 1) (uN Bk (3 + t.toNat) (zcp (Bk (0 + t.toNat)) (Bk (3 + t.toNat)) 0 0 9)) h hc (by omega) (by rw [hB]; exact cBk_s (by decide) ht9) (by omega)
  exact lp2 _ 0 B h hc (by omega) (cBk_0 B 1 0) (Nat.lt_succ_self _)
theorem k_X4_become_10 {X : ga_X} {R : Room} {nL : Nat} {cc : ByteArray} {h : ga_H} {ad : Nat → Nat} {J : Nat → Int} {B : Nat → Int → Int} {Q : Nat → Int → Option Nat} {Z : ga_H} {k n pc : Nat} {L : List (Option Value)} {st : List Value} (hc : cOn h ad J B Q Z) (hR : 2 + 1 ≤ R.frames ∧ 19 + 3 + 64 * 2 ≤ R.locals) (hk : k ≤ R.cells ∧ n ≤ R.slots) (hs : (st.map fun v => v.category).sum ≤ 8) (dd : decode cc pc = .ok (.invokevirtual 276, 3)) (kk : ∀ (J1 : Nat → Int) (B1 : Nat → Int → Int), (J1 = J ∧ B1 = cBk B 1 0 3) → ∀ h : ga_H, cOn h ad J1 B1 Q Z → G X R RX0 nL cc h k n (pc + 3) L st) : G X R RX0 nL cc h k n pc L (.ref (ad 4) :: .ref (ad 5) :: st) := by
  refine ga_go (ga_runV (mc := 0) (ms := 0) (C := RX4) (T := TX4) (N := 5) (m_X4_become_10 _ _ ad J B Q Z h hc) (lw_V q571 q572 q573 q109 q574) rfl (show ga_nn' yX4_become 1 from (by unfold ga_nn'; decide +kernel)) ⟨rfl, rfl⟩ ⟨hR.1, by show 8 + (3 + 11) + 64 * 2 ≤ _; omega⟩ hk (hc.1 5 (by decide)) rfl hs dd rfl) (fun _ _ _ z => z.elim) (fun v h1 hp => ?_)
  obtain ⟨J1, B1, hc1, rfl, hp⟩ := hp
  exact kk J1 B1 hp h1 hc1
set_option maxHeartbeats 4000000 in
set_option maxRecDepth 100000 in
theorem m_X4_become_01 (l : Launch) (D : ga_G) (ad : Nat → Nat) (J : Nat → Int) (B : Nat → Int → Int) (Q : Nat → Int → Option Nat) (Z : ga_H) : cM l D yX4_become (ws_ yX4_become cX4_become 3 none) (gR 2) [.ref (ad 4), .ref (ad 5)] ad J B Q Z (mV (fun J1 B1 => J1 = J ∧ B1 = cBk B 0 1 3)) := by
  refine cc_met (own := RX4) 1 (by decide) rfl (Nat.le_of_ble_eq_true rfl) (L0 := [some (.ref (ad 4)), some (.ref (ad 5)), none]) rfl (fun X h hc hE => ?_)
  refine ga_iconst (pc := 0) dX4_become_0 ?_
  refine ga_istore_n (pc := 1) (L1 := [some (.ref (ad 4)), some (.ref (ad 5)), some (.int (iI 0))]) dX4_become_1 rfl (by decide) rfl ?_
  have lp2 : ∀ (N2 : Nat) (t : Int) (Bk : Nat → Int → Int), ∀ h : ga_H, cOn h ad J Bk Q Z → (0 ≤ t ∧ t ≤ 3) → (Bk = cBk B 0 1 t) → (3 - t).toNat < N2 → G X (gR 2) RX4 3 cX4_become h 0 0 2 [some (.ref (ad 4)), some (.ref (ad 5)), some (.int (iI t))] [] := by
    intro N2
    induction N2 with
    | zero => intro t Bk h hc ht hB hN2; exact absurd hN2 (Nat.not_lt_zero _)
    | succ N2 ih2 =>
      intro t Bk h hc ht hB hN2
      refine ga_iload_n (pc := 2) dX4_become_2 rfl ?_
      refine ga_iconst (pc := 3) dX4_become_3 ?_
      refine ga_icmp_ge (pc := 4) (tgt := 26) dX4_become_4 rfl (by omega) (by omega) (fun c4 => ?_) (fun c4 => ?_)
      · skip
        exact cc_vret hc hE dX4_become_26 (⟨rfl, by (try dsimp only); exact ⟨rfl, by rw [hB, show t = 3 by omega]⟩⟩)
      · skip
        have ht9 : 0 ≤ t ∧ t ≤ 2 := by omega
        refine ga_aload_n (pc := 7) dX4_become_7 rfl ?_
        refine ga_iload_n (pc := 8) dX4_become_8 rfl ?_
        refine k_X4_byNumber_X4 (pc := 9) (b := ad 4) (ta := ad 7) (tb := ad 8) (tc := ad 9) (m := J 30) (w := J 31) (t := t) (hc.1 4 (by decide)) (by omega) ⟨Nat.le_of_ble_eq_true rfl, Nat.le_of_ble_eq_true rfl⟩ ⟨Nat.le_of_ble_eq_true rfl, Nat.le_of_ble_eq_true rfl⟩ (Nat.le_of_ble_eq_true rfl) dX4_become_9 ?_
        refine ga_eq (pc := 12) (st1 := [.ref (ad (7 + t.toNat))]) rfl rfl (congrArg (fun x => Value.ref x :: []) (cTabG 7 ht9)) ?_
        refine ga_aload_n (pc := 12) dX4_become_12 rfl ?_
        refine ga_iload_n (pc := 13) dX4_become_13 rfl ?_
        refine k_X4_byNumber_X4 (pc := 14) (b := ad 5) (ta := ad 10) (tb := ad 11) (tc := ad 12) (m := J 32) (w := J 33) (t := t) (hc.1 5 (by decide)) (by omega) ⟨Nat.le_of_ble_eq_true rfl, Nat.le_of_ble_eq_true rfl⟩ ⟨Nat.le_of_ble_eq_true rfl, Nat.le_of_ble_eq_true rfl⟩ (Nat.le_of_ble_eq_true rfl) dX4_become_14 ?_
        refine ga_eq (pc := 17) (st1 := [.ref (ad (10 + t.toNat)), .ref (ad (7 + t.toNat))]) rfl rfl (congrArg (fun x => Value.ref x :: [.ref (ad (7 + t.toNat))]) (cTabG 10 ht9)) ?_
        refine ga_goV (pc := 17) (ga_runV (mc := 0) (ms := 0) (C := RX5) (T := TX5) (N := 4) (m_X5_become _ _ _ (ad (7 + t.toNat)) (ad (10 + t.toNat)) (ad (16 + (0 + t.toNat))) (ad (16 + (3 + t.toNat))) _ _ _ _ (Bk (0 + t.toNat)) (Bk (3 + t.toNat)) ((hc.tabG 0 (by decide) ht9).1) ((hc.tabG 1 (by decide) ht9).1) ((hc.tabG 0 (by decide) ht9).2) ((hc.tabG 1 (by decide) ht9).2)) (lw_V q576 q577 q578 q110 q579) rfl (show ga_nn' yX5_become 1 from (by unfold ga_nn'; decide +kernel)) ⟨rfl, rfl⟩ ⟨by show 1 + 1 ≤ _; exact Nat.le_of_ble_eq_true rfl, by show 8 + (2 + 11) + 64 * 1 ≤ _; exact Nat.le_of_ble_eq_true rfl⟩ ⟨Nat.le_of_ble_eq_true rfl, Nat.le_of_ble_eq_true rfl⟩ ((hc.tabG 0 (by decide) ht9).1) rfl (Nat.le_of_ble_eq_true rfl) dX4_become_17 rfl) (fun h1 hp1 => ?_)
        subst hp1
        replace hc := hc.cell (k := 0 + t.toNat) (by omega) (zcp (Bk (3 + t.toNat)) (Bk (0 + t.toNat)) 0 0 9)
        generalize ga_u h (ad (16 + (0 + t.toNat))) (aL 9 (zcp (Bk (3 + t.toNat)) (Bk (0 + t.toNat)) 0 0 9)) = h at hc ⊢
        refine ga_iinc (pc := 20) (L1 := [some (.ref (ad 4)), some (.ref (ad 5)), some (.int (iI (t + 1)))]) dX4_become_20 rfl rfl (by decide) rfl ?_
        refine ga_goto (pc := 23) (tgt := 2) dX4_become_23 rfl ?_
        exact ih2 (t + 1) (uN Bk (0 + t.toNat) (zcp (Bk (3 + t.toNat)) (Bk (0 + t.toNat)) 0 0 9)) h hc (by omega) (by rw [hB]; exact cBk_s (by decide) ht9) (by omega)
  exact lp2 _ 0 B h hc (by omega) (cBk_0 B 0 1) (Nat.lt_succ_self _)
theorem k_X4_become_01 {X : ga_X} {R : Room} {nL : Nat} {cc : ByteArray} {h : ga_H} {ad : Nat → Nat} {J : Nat → Int} {B : Nat → Int → Int} {Q : Nat → Int → Option Nat} {Z : ga_H} {k n pc : Nat} {L : List (Option Value)} {st : List Value} (hc : cOn h ad J B Q Z) (hR : 2 + 1 ≤ R.frames ∧ 19 + 3 + 64 * 2 ≤ R.locals) (hk : k ≤ R.cells ∧ n ≤ R.slots) (hs : (st.map fun v => v.category).sum ≤ 8) (dd : decode cc pc = .ok (.invokevirtual 276, 3)) (kk : ∀ (J1 : Nat → Int) (B1 : Nat → Int → Int), (J1 = J ∧ B1 = cBk B 0 1 3) → ∀ h : ga_H, cOn h ad J1 B1 Q Z → G X R RX0 nL cc h k n (pc + 3) L st) : G X R RX0 nL cc h k n pc L (.ref (ad 5) :: .ref (ad 4) :: st) := by
  refine ga_go (ga_runV (mc := 0) (ms := 0) (C := RX4) (T := TX4) (N := 5) (m_X4_become_01 _ _ ad J B Q Z h hc) (lw_V q571 q572 q573 q109 q574) rfl (show ga_nn' yX4_become 1 from (by unfold ga_nn'; decide +kernel)) ⟨rfl, rfl⟩ ⟨hR.1, by show 8 + (3 + 11) + 64 * 2 ≤ _; omega⟩ hk (hc.1 4 (by decide)) rfl hs dd rfl) (fun _ _ _ z => z.elim) (fun v h1 hp => ?_)
  obtain ⟨J1, B1, hc1, rfl, hp⟩ := hp
  exact kk J1 B1 hp h1 hc1
