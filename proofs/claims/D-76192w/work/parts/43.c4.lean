/-! THE CLASS: the grid's elimination -/
abbrev zSg (ch : Int) : Int := if ch.tmod 2 = 1 then -1 else 1
theorem zSg_s {ch : Int} (h : 0 ≤ ch) : zSg (ch + 1) = -zSg ch := by
  have h1 : ch.tmod 2 = ch % 2 := Int.tmod_eq_emod_of_nonneg h
  have h2 : (ch + 1).tmod 2 = (ch + 1) % 2 := Int.tmod_eq_emod_of_nonneg (by omega)
  unfold zSg
  rw [h1, h2]
  (repeat' split) <;> omega
theorem eSw_on {H W a b : Int} {f g : Int → Int} {T : Int → Int → Int} (hW : W ≤ 9) (hH : H ≤ 10) (ha : 0 ≤ a ∧ a < H) (hb : 0 ≤ b ∧ b < H) (hT : eOn H W 10 f T) (hg : ∀ p q : Int, 0 ≤ p → p < 10 → 0 ≤ q → q ≤ 9 → g (10 * p + q) = eSw (fun p q => f (10 * p + q)) a b p q) : eOn H W 10 g (eSw T a b) := by
  intro p q p0 p1 q0 q1
  rw [hg p q p0 (by omega) q0 (by omega)]
  unfold eSw
  (repeat' split)
  · exact hT b q hb.1 hb.2 q0 q1
  · exact hT a q ha.1 ha.2 q0 q1
  · exact hT p q p0 p1 q0 q1
set_option maxHeartbeats 4000000 in
set_option maxRecDepth 100000 in
theorem m_X0_clear (l : Launch) (D : ga_G) (ad : Nat → Nat) (J : Nat → Int) (B : Nat → Int → Int) (Q : Nat → Int → Option Nat) (Z : ga_H) (a b : Int)  : cM l D yX0_clear (ws_ yX0_clear cX0_clear 4 none) (gR 0) [.ref (ad 0), .int (iI a), .int (iI b)] ad J B Q Z (mV (fun J1 B1 => J1 = (uN (uN J 20 a) 21 b) ∧ B1 = (uN B 10 (mSz (B 10) 0 100)))) := by
  refine cc_met (own := RX0) 1 (by decide) rfl (Nat.le_of_ble_eq_true rfl) (L0 := [some (.ref (ad 0)), some (.int (iI a)), some (.int (iI b)), none]) rfl (fun X h hc hE => ?_)
  refine ga_aload_n (pc := 0) dX0_clear_0 rfl ?_
  refine ga_iload_n (pc := 1) dX0_clear_1 rfl ?_
  refine cc_p_gridRows (pc := 2) (J1 := (uN J 20 a)) hc (rfl) dX0_clear_2 (fun h hc => ?_)
  refine ga_aload_n (pc := 5) dX0_clear_5 rfl ?_
  refine ga_iload_n (pc := 6) dX0_clear_6 rfl ?_
  refine cc_p_gridUnknowns (pc := 7) (J1 := (uN (uN J 20 a) 21 b)) hc (rfl) dX0_clear_7 (fun h hc => ?_)
  refine ga_iconst (pc := 10) dX0_clear_10 ?_
  refine ga_istore_n (pc := 11) (L1 := [some (.ref (ad 0)), some (.int (iI a)), some (.int (iI b)), some (.int (iI 0))]) dX0_clear_11 rfl (by decide) rfl ?_
  replace hc : cOn h ad (uN (uN J 20 a) 21 b) (uN B 10 (mSz (B 10) 0 0)) Q Z := hc.eq (rfl) (by funext j; by_cases e0 : j = 10; (subst e0; exact (show (B 10) = (mSz (B 10) 0 0) from (mSz_0 _ _).symm)); simp only [uN, if_neg e0]) rfl
  have lp12 : ∀ (N12 : Nat) (k : Int), ∀ h : ga_H, cOn h ad (uN (uN J 20 a) 21 b) (uN B 10 (mSz (B 10) 0 k)) Q Z → (0 ≤ k ∧ k ≤ 100) → (100 - k).toNat < N12 → G X (gR 0) RX0 4 cX0_clear h 0 0 12 [some (.ref (ad 0)), some (.int (iI a)), some (.int (iI b)), some (.int (iI k))] [] := by
    intro N12
    induction N12 with
    | zero => intro k h hc hk hN12; exact absurd hN12 (Nat.not_lt_zero _)
    | succ N12 ih12 =>
      intro k h hc hk hN12
      refine ga_iload_n (pc := 12) dX0_clear_12 rfl ?_
      refine ga_aload_n (pc := 13) dX0_clear_13 rfl ?_
      refine cc_g_grid (pc := 14) hc dX0_clear_14 ?_
      refine ga_alen (pc := 17) (z := 100) (hc.1 29 (by decide)) rfl dX0_clear_17 ?_
      refine ga_icmp_ge (pc := 18) (tgt := 34) dX0_clear_18 rfl (by omega) (by omega) (fun c18 => ?_) (fun c18 => ?_)
      · skip
        obtain rfl : k = 100 := by omega
        exact cc_vret hc hE dX0_clear_34 (⟨rfl, rfl, by funext j; by_cases e0 : j = 10; (subst e0; rfl); simp only [uN, if_neg e0]⟩)
      · skip
        refine ga_aload_n (pc := 21) dX0_clear_21 rfl ?_
        refine cc_g_grid (pc := 22) hc dX0_clear_22 ?_
        refine ga_iload_n (pc := 25) dX0_clear_25 rfl ?_
        refine ga_lconst (pc := 26) 0 dX0_clear_26 rfl ?_
        refine cc_ast10 (pc := 27) (B1 := (uN B 10 (uZ (mSz (B 10) 0 k) k 0))) hc (by omega) (by funext j; by_cases e0 : j = 10; (subst e0; rfl); simp only [uN, if_neg e0]) dX0_clear_27 (fun h hc => ?_)
        refine ga_iinc (pc := 28) (L1 := [some (.ref (ad 0)), some (.int (iI a)), some (.int (iI b)), some (.int (iI (k + 1)))]) dX0_clear_28 rfl rfl (by decide) rfl ?_
        refine ga_goto (pc := 31) (tgt := 12) dX0_clear_31 rfl ?_
        replace hc : cOn h ad (uN (uN J 20 a) 21 b) (uN B 10 (mSz (B 10) 0 (k + 1))) Q Z := hc.eq (rfl) (by funext j; by_cases e0 : j = 10; (subst e0; exact (show (uZ (mSz (B 10) 0 k) k 0) = (mSz (B 10) 0 (k + 1)) from by have z := mSz_s (B 10) (a := 0) hk.1; rw [Int.zero_add] at z; exact z)); simp only [uN, if_neg e0]) rfl
        exact ih12 (k + 1) h hc (by omega) (by omega)
  exact lp12 _ 0 h hc (by omega) (Nat.lt_succ_self _)
theorem k_X0_clear {X : ga_X} {R : Room} {nL : Nat} {cc : ByteArray} {h : ga_H} {ad : Nat → Nat} {J : Nat → Int} {B : Nat → Int → Int} {Q : Nat → Int → Option Nat} {Z : ga_H} {k n pc : Nat} {L : List (Option Value)} {st : List Value} {a b : Int}  {J2 : Nat → Int} {B2 : Nat → Int → Int} (hc : cOn h ad J B Q Z)   (hJ2 : (uN (uN J 20 a) 21 b) = J2) (hB2 : (uN B 10 (mSz (B 10) 0 100)) = B2) (hR : 0 + 1 ≤ R.frames ∧ 19 + 4 + 64 * 0 ≤ R.locals) (hk : k ≤ R.cells ∧ n ≤ R.slots) (hs : (st.map fun v => v.category).sum ≤ 8) (dd : decode cc pc = .ok (.invokevirtual 316, 3)) (kk : ∀ h : ga_H, cOn h ad J2 B2 Q Z → G X R RX0 nL cc h k n (pc + 3) L st) : G X R RX0 nL cc h k n pc L (.int (iI b) :: .int (iI a) :: .ref (ad 0) :: st) :=
  cc_run hc (m_X0_clear _ _ ad J B Q Z a b ) (lw_V q898 q900 qs18 q102 q901) rfl (show ga_nn' yX0_clear 2 from (by unfold ga_nn'; decide +kernel)) hR hk hs dd rfl (fun v hX J1 B1 hcX hp => by
    obtain ⟨rfl, hp⟩ := hp
    obtain ⟨rfl, rfl⟩ := hp
    subst hJ2
    subst hB2
    exact kk hX hcX)
set_option maxHeartbeats 4000000 in
set_option maxRecDepth 100000 in
theorem m_X0_exchange (l : Launch) (D : ga_G) (ad : Nat → Nat) (J : Nat → Int) (B : Nat → Int → Int) (Q : Nat → Int → Option Nat) (Z : ga_H) (a b : Int) (h1 : (0 ≤ a ∧ a < 10) ∧ 0 ≤ b ∧ b < 10) : cM l D yX0_exchange (ws_ yX0_exchange cX0_exchange 6 none) (gR 0) [.ref (ad 0), .int (iI a), .int (iI b)] ad J B Q Z (mV (fun J1 B1 => J1 = uN J 23 (if a = b then J 23 else -J 23) ∧ ∃ f, B1 = uN B 10 f ∧ ∀ p q : Int, 0 ≤ p → p < 10 → 0 ≤ q → q ≤ 9 → f (10 * p + q) = eSw (fun p q => B 10 (10 * p + q)) a b p q)) := by
  refine cc_met (own := RX0) 3 (by decide) rfl (Nat.le_of_ble_eq_true rfl) (L0 := [some (.ref (ad 0)), some (.int (iI a)), some (.int (iI b)), none, none, none]) rfl (fun X h hc hE => ?_)
  refine ga_iconst (pc := 0) dX0_exchange_0 ?_
  refine ga_istore_n (pc := 1) (L1 := [some (.ref (ad 0)), some (.int (iI a)), some (.int (iI b)), some (.int (iI 0)), none, none]) dX0_exchange_1 rfl (by decide) rfl ?_
  replace hc : cOn h ad J (uN B 10 (B 10)) Q Z := hc.eq (rfl) (by funext j; by_cases e0 : j = 10; (subst e0; exact (show (B 10) = (B 10) from rfl)); simp only [uN, if_neg e0]) rfl
  have lp2 : ∀ (N2 : Nat) (k : Int) (f : Int → Int), ∀ h : ga_H, cOn h ad J (uN B 10 f) Q Z → (0 ≤ k ∧ k ≤ 10) → (eOn 10 9 10 f (fun p q => if q < k then eSw (fun p q => B 10 (10 * p + q)) a b p q else (fun p q => B 10 (10 * p + q)) p q)) → (10 - k).toNat < N2 → G X (gR 0) RX0 6 cX0_exchange h 0 0 2 [some (.ref (ad 0)), some (.int (iI a)), some (.int (iI b)), some (.int (iI k)), none, none] [] := by
    intro N2
    induction N2 with
    | zero => intro k f h hc hk hf hN2; exact absurd hN2 (Nat.not_lt_zero _)
    | succ N2 ih2 =>
      intro k f h hc hk hf hN2
      refine ga_iload_n (pc := 2) dX0_exchange_2 rfl ?_
      refine ga_bipush (pc := 3) dX0_exchange_3 rfl ?_
      refine ga_icmp_ge (pc := 5) (tgt := 62) dX0_exchange_5 rfl (by omega) (by omega) (fun c5 => ?_) (fun c5 => ?_)
      · skip
        have jn80 : ∀ (x : Int), ∀ h : ga_H, cOn h ad J (uN B 10 f) Q Z → (x = if a = b then J 23 else -J 23) → G X (gR 0) RX0 6 cX0_exchange h 0 0 80 [some (.ref (ad 0)), some (.int (iI a)), some (.int (iI b)), none, none, none] [.int (iI x), .ref (ad 0)] := by
          intro x h hc hx
          refine cc_p_sign (pc := 80) (J1 := (uN J 23 x)) hc (rfl) dX0_exchange_80 (fun h hc => ?_)
          exact cc_vret hc hE dX0_exchange_83 (⟨rfl, by dsimp only; (obtain rfl : k = 10 := by omega); exact ⟨by rw [hx], f, rfl, fun p q p0 p1 q0 q1 => (hf p q p0 p1 q0 q1).trans (by dsimp only; rw [if_pos (by omega)])⟩⟩)
        refine ga_aload_n (pc := 62) dX0_exchange_62 rfl ?_
        refine ga_iload_n (pc := 63) dX0_exchange_63 rfl ?_
        refine ga_iload_n (pc := 64) dX0_exchange_64 rfl ?_
        refine ga_icmp_ne (pc := 65) (tgt := 75) dX0_exchange_65 rfl (by omega) (by omega) (fun c65 => ?_) (fun c65 => ?_)
        · skip
          refine ga_aload_n (pc := 75) dX0_exchange_75 rfl ?_
          refine cc_g_sign (pc := 76) (z := J 23) hc rfl dX0_exchange_76 ?_
          refine ga_ineg (pc := 79) dX0_exchange_79 ?_
          refine ga_kill (pc := 80) 3 (L1 := [some (.ref (ad 0)), some (.int (iI a)), some (.int (iI b)), none, none, none]) rfl ?_
          exact jn80 (-(J 23)) h hc (by first | (rw [if_pos (by omega)]; done) | rw [if_neg (by omega)])
        · skip
          refine ga_aload_n (pc := 68) dX0_exchange_68 rfl ?_
          refine cc_g_sign (pc := 69) (z := J 23) hc rfl dX0_exchange_69 ?_
          refine ga_goto (pc := 72) (tgt := 80) dX0_exchange_72 rfl ?_
          refine ga_kill (pc := 80) 3 (L1 := [some (.ref (ad 0)), some (.int (iI a)), some (.int (iI b)), none, none, none]) rfl ?_
          exact jn80 (J 23) h hc (by first | (rw [if_pos (by omega)]; done) | rw [if_neg (by omega)])
      · skip
        refine ga_aload_n (pc := 8) dX0_exchange_8 rfl ?_
        refine cc_g_grid (pc := 9) hc dX0_exchange_9 ?_
        refine ga_bipush (pc := 12) dX0_exchange_12 rfl ?_
        refine ga_iload_n (pc := 14) dX0_exchange_14 rfl ?_
        refine ga_imul (pc := 15) dX0_exchange_15 ?_
        refine ga_iload_n (pc := 16) dX0_exchange_16 rfl ?_
        refine ga_iadd (pc := 17) dX0_exchange_17 ?_
        refine cc_ald10 (pc := 18) (x := f ((10 * a) + k)) hc (by omega) (rfl) dX0_exchange_18 ?_
        refine ga_lstore (pc := 19) (L1 := [some (.ref (ad 0)), some (.int (iI a)), some (.int (iI b)), some (.int (iI k)), some (.long (lI (f ((10 * a) + k)))), none]) dX0_exchange_19 rfl (by decide) rfl ?_
        refine ga_aload_n (pc := 21) dX0_exchange_21 rfl ?_
        refine cc_g_grid (pc := 22) hc dX0_exchange_22 ?_
        refine ga_bipush (pc := 25) dX0_exchange_25 rfl ?_
        refine ga_iload_n (pc := 27) dX0_exchange_27 rfl ?_
        refine ga_imul (pc := 28) dX0_exchange_28 ?_
        refine ga_iload_n (pc := 29) dX0_exchange_29 rfl ?_
        refine ga_iadd (pc := 30) dX0_exchange_30 ?_
        refine ga_aload_n (pc := 31) dX0_exchange_31 rfl ?_
        refine cc_g_grid (pc := 32) hc dX0_exchange_32 ?_
        refine ga_bipush (pc := 35) dX0_exchange_35 rfl ?_
        refine ga_iload_n (pc := 37) dX0_exchange_37 rfl ?_
        refine ga_imul (pc := 38) dX0_exchange_38 ?_
        refine ga_iload_n (pc := 39) dX0_exchange_39 rfl ?_
        refine ga_iadd (pc := 40) dX0_exchange_40 ?_
        refine cc_ald10 (pc := 41) (x := f ((10 * b) + k)) hc (by omega) (rfl) dX0_exchange_41 ?_
        refine cc_ast10 (pc := 42) (B1 := (uN B 10 (uZ f ((10 * a) + k) (f ((10 * b) + k))))) hc (by omega) (by funext j; by_cases e0 : j = 10; (subst e0; rfl); simp only [uN, if_neg e0]) dX0_exchange_42 (fun h hc => ?_)
        refine ga_aload_n (pc := 43) dX0_exchange_43 rfl ?_
        refine cc_g_grid (pc := 44) hc dX0_exchange_44 ?_
        refine ga_bipush (pc := 47) dX0_exchange_47 rfl ?_
        refine ga_iload_n (pc := 49) dX0_exchange_49 rfl ?_
        refine ga_imul (pc := 50) dX0_exchange_50 ?_
        refine ga_iload_n (pc := 51) dX0_exchange_51 rfl ?_
        refine ga_iadd (pc := 52) dX0_exchange_52 ?_
        refine ga_lload (pc := 53) dX0_exchange_53 rfl ?_
        refine cc_ast10 (pc := 55) (B1 := (uN B 10 (uZ (uZ f ((10 * a) + k) (f ((10 * b) + k))) ((10 * b) + k) (f ((10 * a) + k))))) hc (by omega) (by funext j; by_cases e0 : j = 10; (subst e0; rfl); simp only [uN, if_neg e0]) dX0_exchange_55 (fun h hc => ?_)
        refine ga_iinc (pc := 56) (L1 := [some (.ref (ad 0)), some (.int (iI a)), some (.int (iI b)), some (.int (iI (k + 1))), some (.long (lI (f ((10 * a) + k)))), none]) dX0_exchange_56 rfl rfl (by decide) rfl ?_
        refine ga_goto (pc := 59) (tgt := 2) dX0_exchange_59 rfl ?_
        refine ga_kill (pc := 2) 4 (L1 := [some (.ref (ad 0)), some (.int (iI a)), some (.int (iI b)), some (.int (iI (k + 1))), none, none]) rfl ?_
        exact ih2 (k + 1) (uZ (uZ f ((10 * a) + k) (f ((10 * b) + k))) ((10 * b) + k) (f ((10 * a) + k))) h hc (by omega) (eSw_s (w := 10) (T := (fun p q => B 10 (10 * p + q))) (Or.inr (Or.inl rfl)) (by omega) h1.1 h1.2 (by omega) hf) (by omega)
  exact lp2 _ 0 (B 10) h hc (by omega) (fun p q p0 p1 q0 q1 => (if_neg (by omega)).symm) (Nat.lt_succ_self _)
theorem k_X0_exchange {X : ga_X} {R : Room} {nL : Nat} {cc : ByteArray} {h : ga_H} {ad : Nat → Nat} {J : Nat → Int} {B : Nat → Int → Int} {Q : Nat → Int → Option Nat} {Z : ga_H} {k n pc : Nat} {L : List (Option Value)} {st : List Value} {a b : Int}  (hc : cOn h ad J B Q Z) (h1 : (0 ≤ a ∧ a < 10) ∧ 0 ≤ b ∧ b < 10)  (hR : 0 + 1 ≤ R.frames ∧ 19 + 6 + 64 * 0 ≤ R.locals) (hk : k ≤ R.cells ∧ n ≤ R.slots) (hs : (st.map fun v => v.category).sum ≤ 8) (dd : decode cc pc = .ok (.invokevirtual 348, 3)) (kk : ∀ (J1 : Nat → Int) (B1 : Nat → Int → Int), (J1 = uN J 23 (if a = b then J 23 else -J 23) ∧ ∃ f, B1 = uN B 10 f ∧ ∀ p q : Int, 0 ≤ p → p < 10 → 0 ≤ q → q ≤ 9 → f (10 * p + q) = eSw (fun p q => B 10 (10 * p + q)) a b p q) → ∀ h : ga_H, cOn h ad J1 B1 Q Z → G X R RX0 nL cc h k n (pc + 3) L st) : G X R RX0 nL cc h k n pc L (.int (iI b) :: .int (iI a) :: .ref (ad 0) :: st) :=
  cc_run hc (m_X0_exchange _ _ ad J B Q Z a b h1) (lw_V q975 q977 qs23 q102 q978) rfl (show ga_nn' yX0_exchange 2 from (by unfold ga_nn'; decide +kernel)) hR hk hs dd rfl (fun v hX J1 B1 hcX hp => by
    obtain ⟨rfl, hp⟩ := hp
    exact kk J1 B1 hp hX hcX)
set_option maxHeartbeats 4000000 in
set_option maxRecDepth 100000 in
theorem m_X0_frees (l : Launch) (D : ga_G) (ad : Nat → Nat) (J : Nat → Int) (B : Nat → Int → Int) (Q : Nat → Int → Option Nat) (Z : ga_H) (ro c : Int) (T : Int → Int → Int) (hsz : (0 ≤ J 20 ∧ J 20 ≤ 10) ∧ 0 ≤ J 21 ∧ J 21 ≤ 9) (h1 : (0 ≤ ro ∧ ro < J 20) ∧ 0 ≤ c ∧ c ≤ J 21) (hd : J 24 ≠ 0 ∧ z40 (J 24)) (hT : eOn (J 20) (J 21) 10 (B 10) T) (hen : ∀ p q : Int, 0 ≤ p → p < J 20 → 0 ≤ q → q ≤ J 21 → z40 (T p q)) (hpr : ∀ p q : Int, 0 ≤ p → p < J 20 → p ≠ ro → 0 ≤ q → q ≤ J 21 → z62 (T ro c * T p q) ∧ z62 (T p c * T ro q)) : cM l D yX0_frees (ws_ yX0_frees cX0_frees 11 none) (gR 2) [.ref (ad 0), .int (iI ro), .int (iI c)] ad J B Q Z (mV (fun J1 B1 => J1 = uN J 24 (T ro c) ∧ ∃ f, B1 = uN B 10 f ∧ eOn (J 20) (J 21) 10 f (eCl T ro c (J 24)))) := by
  refine cc_met (own := RX0) 8 (by decide) rfl (Nat.le_of_ble_eq_true rfl) (L0 := [some (.ref (ad 0)), some (.int (iI ro)), some (.int (iI c)), none, none, none, none, none, none, none, none]) rfl (fun X h hc hE => ?_)
  refine ga_aload_n (pc := 0) dX0_frees_0 rfl ?_
  refine ga_iload_n (pc := 1) dX0_frees_1 rfl ?_
  refine ga_iload_n (pc := 2) dX0_frees_2 rfl ?_
  refine k_X0_cell (pc := 3) (i := ro) (j := c) (z := T ro c) hc (by omega) (hT ro c (by omega) (by omega) (by omega) (by omega)) ⟨Nat.le_of_ble_eq_true rfl, Nat.le_of_ble_eq_true rfl⟩ ⟨Nat.le_of_ble_eq_true rfl, Nat.le_of_ble_eq_true rfl⟩ (Nat.le_of_ble_eq_true rfl) dX0_frees_3 (fun h hc => ?_)
  refine ga_lstore_n (pc := 6) (L1 := [some (.ref (ad 0)), some (.int (iI ro)), some (.int (iI c)), some (.long (lI (T ro c))), none, none, none, none, none, none, none]) dX0_frees_6 rfl (by decide) rfl ?_
  refine ga_iconst (pc := 7) dX0_frees_7 ?_
  refine ga_istore (pc := 8) (L1 := [some (.ref (ad 0)), some (.int (iI ro)), some (.int (iI c)), some (.long (lI (T ro c))), none, some (.int (iI 0)), none, none, none, none, none]) dX0_frees_8 rfl (by decide) rfl ?_
  replace hc : cOn h ad J (uN B 10 (B 10)) Q Z := hc.eq (rfl) (by funext j; by_cases e0 : j = 10; (subst e0; exact (show (B 10) = (B 10) from rfl)); simp only [uN, if_neg e0]) rfl
  have lp10 : ∀ (N10 : Nat) (i : Int) (f : Int → Int), ∀ h : ga_H, cOn h ad J (uN B 10 f) Q Z → (0 ≤ i ∧ i ≤ J 20) → (eOn (J 20) (J 21) 10 f (fun p q => if p < i then eCl T ro c (J 24) p q else T p q)) → (J 20 - i).toNat < N10 → G X (gR 2) RX0 11 cX0_frees h 0 0 10 [some (.ref (ad 0)), some (.int (iI ro)), some (.int (iI c)), some (.long (lI (T ro c))), none, some (.int (iI i)), none, none, none, none, none] [] := by
    intro N10
    induction N10 with
    | zero => intro i f h hc hi hf hN10; exact absurd hN10 (Nat.not_lt_zero _)
    | succ N10 ih10 =>
      intro i f h hc hi hf hN10
      refine ga_iload (pc := 10) dX0_frees_10 rfl ?_
      refine ga_aload_n (pc := 12) dX0_frees_12 rfl ?_
      refine cc_g_gridRows (pc := 13) (z := J 20) hc rfl dX0_frees_13 ?_
      refine ga_icmp_ge (pc := 16) (tgt := 110) dX0_frees_16 rfl (by omega) (by omega) (fun c16 => ?_) (fun c16 => ?_)
      · skip
        refine ga_aload_n (pc := 110) dX0_frees_110 rfl ?_
        refine ga_lload_n (pc := 111) dX0_frees_111 rfl ?_
        refine cc_p_pivot (pc := 112) (J1 := (uN J 24 (T ro c))) hc (rfl) dX0_frees_112 (fun h hc => ?_)
        exact cc_vret hc hE dX0_frees_115 (⟨rfl, by dsimp only; (obtain rfl : i = J 20 := by omega); exact ⟨rfl, f, rfl, fun p q p0 p1 q0 q1 => (hf p q p0 p1 q0 q1).trans (by dsimp only; rw [if_pos (by omega)])⟩⟩)
      · skip
        have jn104 : ∀ (f2 : Int → Int), ∀ h : ga_H, cOn h ad J (uN B 10 f2) Q Z → (eOn (J 20) (J 21) 10 f2 (fun p q => if p < i + 1 then eCl T ro c (J 24) p q else T p q)) → G X (gR 2) RX0 11 cX0_frees h 0 0 104 [some (.ref (ad 0)), some (.int (iI ro)), some (.int (iI c)), some (.long (lI (T ro c))), none, some (.int (iI i)), none, none, none, none, none] [] := by
          intro f2 h hc hf2
          refine ga_iinc (pc := 104) (L1 := [some (.ref (ad 0)), some (.int (iI ro)), some (.int (iI c)), some (.long (lI (T ro c))), none, some (.int (iI (i + 1))), none, none, none, none, none]) dX0_frees_104 rfl rfl (by decide) rfl ?_
          refine ga_goto (pc := 107) (tgt := 10) dX0_frees_107 rfl ?_
          exact ih10 (i + 1) f2 h hc (by omega) (by omega) (by omega)
        refine ga_iload (pc := 19) dX0_frees_19 rfl ?_
        refine ga_iload_n (pc := 21) dX0_frees_21 rfl ?_
        refine ga_icmp_ne (pc := 22) (tgt := 28) dX0_frees_22 rfl (by omega) (by omega) (fun c22 => ?_) (fun c22 => ?_)
        · skip
          refine ga_aload_n (pc := 28) dX0_frees_28 rfl ?_
          refine ga_iload (pc := 29) dX0_frees_29 rfl ?_
          refine ga_iload_n (pc := 31) dX0_frees_31 rfl ?_
          refine k_X0_cell (pc := 32) (i := i) (j := c) (z := T i c) hc (show 0 ≤ 10 * i + c ∧ 10 * i + c < 100 from by omega) ((hf i c (by omega) (by omega) (by omega) (by omega)).trans (by dsimp only; rw [if_neg (by omega)])) ⟨Nat.le_of_ble_eq_true rfl, Nat.le_of_ble_eq_true rfl⟩ ⟨Nat.le_of_ble_eq_true rfl, Nat.le_of_ble_eq_true rfl⟩ (Nat.le_of_ble_eq_true rfl) dX0_frees_32 (fun h hc => ?_)
          refine ga_lstore (pc := 35) (L1 := [some (.ref (ad 0)), some (.int (iI ro)), some (.int (iI c)), some (.long (lI (T ro c))), none, some (.int (iI i)), some (.long (lI (T i c))), none, none, none, none]) dX0_frees_35 rfl (by decide) rfl ?_
          refine ga_iconst (pc := 37) dX0_frees_37 ?_
          refine ga_istore (pc := 38) (L1 := [some (.ref (ad 0)), some (.int (iI ro)), some (.int (iI c)), some (.long (lI (T ro c))), none, some (.int (iI i)), some (.long (lI (T i c))), none, some (.int (iI 0)), none, none]) dX0_frees_38 rfl (by decide) rfl ?_
          have lp40 : ∀ (N40 : Nat) (k : Int) (g : Int → Int), ∀ h : ga_H, cOn h ad J (uN B 10 g) Q Z → (0 ≤ k ∧ k ≤ J 21 + 1) → (eOn (J 20) (J 21) 10 g (fun p q => if p < i ∨ (p = i ∧ q < k) then eCl T ro c (J 24) p q else T p q)) → (J 21 + 1 - k).toNat < N40 → G X (gR 2) RX0 11 cX0_frees h 0 0 40 [some (.ref (ad 0)), some (.int (iI ro)), some (.int (iI c)), some (.long (lI (T ro c))), none, some (.int (iI i)), some (.long (lI (T i c))), none, some (.int (iI k)), none, none] [] := by
            intro N40
            induction N40 with
            | zero => intro k g h hc hk hg hN40; exact absurd hN40 (Nat.not_lt_zero _)
            | succ N40 ih40 =>
              intro k g h hc hk hg hN40
              refine ga_iload (pc := 40) dX0_frees_40 rfl ?_
              refine ga_aload_n (pc := 42) dX0_frees_42 rfl ?_
              refine cc_g_gridUnknowns (pc := 43) (z := J 21) hc rfl dX0_frees_43 ?_
              refine ga_icmp_gt (pc := 46) (tgt := 104) dX0_frees_46 rfl (by omega) (by omega) (fun c46 => ?_) (fun c46 => ?_)
              · skip
                refine ga_kill (pc := 104) 6 (L1 := [some (.ref (ad 0)), some (.int (iI ro)), some (.int (iI c)), some (.long (lI (T ro c))), none, some (.int (iI i)), none, none, some (.int (iI k)), none, none]) rfl ?_
                refine ga_kill (pc := 104) 8 (L1 := [some (.ref (ad 0)), some (.int (iI ro)), some (.int (iI c)), some (.long (lI (T ro c))), none, some (.int (iI i)), none, none, none, none, none]) rfl ?_
                exact jn104 g h hc (fun p q p0 p1 q0 q1 => (hg p q p0 p1 q0 q1).trans (by dsimp only; by_cases e : p < i + 1; (rw [if_pos e, if_pos (by omega)]); rw [if_neg e, if_neg (by omega)]))
              · skip
                have hs1 := hpr i k (by omega) (by omega) (by omega) (by omega) (by omega)
                have he1 := hen ro c (by omega) (by omega) (by omega) (by omega)
                have he2 := hen i k (by omega) (by omega) (by omega) (by omega)
                have he3 := hen i c (by omega) (by omega) (by omega) (by omega)
                have he4 := hen ro k (by omega) (by omega) (by omega) (by omega)
                refine ga_lload_n (pc := 49) dX0_frees_49 rfl ?_
                refine ga_aload_n (pc := 50) dX0_frees_50 rfl ?_
                refine ga_iload (pc := 51) dX0_frees_51 rfl ?_
                refine ga_iload (pc := 53) dX0_frees_53 rfl ?_
                refine k_X0_cell (pc := 55) (i := i) (j := k) (z := T i k) hc (show 0 ≤ 10 * i + k ∧ 10 * i + k < 100 from by omega) ((hg i k (by omega) (by omega) (by omega) (by omega)).trans (by dsimp only; rw [if_neg (by omega)])) ⟨Nat.le_of_ble_eq_true rfl, Nat.le_of_ble_eq_true rfl⟩ ⟨Nat.le_of_ble_eq_true rfl, Nat.le_of_ble_eq_true rfl⟩ (Nat.le_of_ble_eq_true rfl) dX0_frees_55 (fun h hc => ?_)
                refine k_J3_multiplyExact_X0 (pc := 58) (a := (T ro c)) (b := (T i k)) (by omega) (by omega) (rfl) ⟨Nat.le_of_ble_eq_true rfl, Nat.le_of_ble_eq_true rfl⟩ ⟨Nat.le_of_ble_eq_true rfl, Nat.le_of_ble_eq_true rfl⟩ (Nat.le_of_ble_eq_true rfl) dX0_frees_58 ?_
                refine ga_lload (pc := 61) dX0_frees_61 rfl ?_
                refine ga_aload_n (pc := 63) dX0_frees_63 rfl ?_
                refine ga_iload_n (pc := 64) dX0_frees_64 rfl ?_
                refine ga_iload (pc := 65) dX0_frees_65 rfl ?_
                refine k_X0_cell (pc := 67) (i := ro) (j := k) (z := T ro k) hc (show 0 ≤ 10 * ro + k ∧ 10 * ro + k < 100 from by omega) ((hg ro k (by omega) (by omega) (by omega) (by omega)).trans (by dsimp only; split; (unfold eCl; rw [if_pos rfl]); rfl)) ⟨Nat.le_of_ble_eq_true rfl, Nat.le_of_ble_eq_true rfl⟩ ⟨Nat.le_of_ble_eq_true rfl, Nat.le_of_ble_eq_true rfl⟩ (Nat.le_of_ble_eq_true rfl) dX0_frees_67 (fun h hc => ?_)
                refine k_J3_multiplyExact_X0 (pc := 70) (a := (T i c)) (b := (T ro k)) (by omega) (by omega) (rfl) ⟨Nat.le_of_ble_eq_true rfl, Nat.le_of_ble_eq_true rfl⟩ ⟨Nat.le_of_ble_eq_true rfl, Nat.le_of_ble_eq_true rfl⟩ (Nat.le_of_ble_eq_true rfl) dX0_frees_70 ?_
                refine k_J3_subtractExact_X0 (pc := 73) (a := ((T ro c) * (T i k))) (b := ((T i c) * (T ro k))) (by omega) (by omega) (rfl) ⟨Nat.le_of_ble_eq_true rfl, Nat.le_of_ble_eq_true rfl⟩ ⟨Nat.le_of_ble_eq_true rfl, Nat.le_of_ble_eq_true rfl⟩ (Nat.le_of_ble_eq_true rfl) dX0_frees_73 ?_
                refine ga_lstore (pc := 76) (L1 := [some (.ref (ad 0)), some (.int (iI ro)), some (.int (iI c)), some (.long (lI (T ro c))), none, some (.int (iI i)), some (.long (lI (T i c))), none, some (.int (iI k)), some (.long (lI (((T ro c) * (T i k)) - ((T i c) * (T ro k))))), none]) dX0_frees_76 rfl (by decide) rfl ?_
                refine ga_aload_n (pc := 78) dX0_frees_78 rfl ?_
                refine cc_g_grid (pc := 79) hc dX0_frees_79 ?_
                refine ga_bipush (pc := 82) dX0_frees_82 rfl ?_
                refine ga_iload (pc := 84) dX0_frees_84 rfl ?_
                refine ga_imul (pc := 86) dX0_frees_86 ?_
                refine ga_iload (pc := 87) dX0_frees_87 rfl ?_
                refine ga_iadd (pc := 89) dX0_frees_89 ?_
                refine ga_lload (pc := 90) dX0_frees_90 rfl ?_
                refine ga_aload_n (pc := 92) dX0_frees_92 rfl ?_
                refine cc_g_pivot (pc := 93) (z := J 24) hc rfl dX0_frees_93 ?_
                refine ga_ldiv (pc := 96) dX0_frees_96 (by omega) (by omega) (by omega) ?_
                refine cc_ast10 (pc := 97) (B1 := (uN B 10 (uZ g ((10 * i) + k) ((((T ro c) * (T i k)) - ((T i c) * (T ro k))).tdiv (J 24))))) hc (by omega) (by funext j; by_cases e0 : j = 10; (subst e0; rfl); simp only [uN, if_neg e0]) dX0_frees_97 (fun h hc => ?_)
                refine ga_iinc (pc := 98) (L1 := [some (.ref (ad 0)), some (.int (iI ro)), some (.int (iI c)), some (.long (lI (T ro c))), none, some (.int (iI i)), some (.long (lI (T i c))), none, some (.int (iI (k + 1))), some (.long (lI (((T ro c) * (T i k)) - ((T i c) * (T ro k))))), none]) dX0_frees_98 rfl rfl (by decide) rfl ?_
                refine ga_goto (pc := 101) (tgt := 40) dX0_frees_101 rfl ?_
                refine ga_kill (pc := 40) 9 (L1 := [some (.ref (ad 0)), some (.int (iI ro)), some (.int (iI c)), some (.long (lI (T ro c))), none, some (.int (iI i)), some (.long (lI (T i c))), none, some (.int (iI (k + 1))), none, none]) rfl ?_
                exact ih40 (k + 1) (uZ g ((10 * i) + k) ((((T ro c) * (T i k)) - ((T i c) * (T ro k))).tdiv (J 24))) h hc (by omega) (eCl_s (w := 10) (Or.inr (Or.inl rfl)) (by omega) (by omega) (by omega) hg) (by omega)
          exact lp40 _ 0 f h hc (by omega) (fun p q p0 p1 q0 q1 => (hf p q p0 p1 q0 q1).trans (by dsimp only; by_cases e : p < i; (rw [if_pos e, if_pos (Or.inl e)]); rw [if_neg e, if_neg (by omega)])) (Nat.lt_succ_self _)
        · skip
          refine ga_goto (pc := 25) (tgt := 104) dX0_frees_25 rfl ?_
          exact jn104 f h hc (fun p q p0 p1 q0 q1 => (hf p q p0 p1 q0 q1).trans (by dsimp only; by_cases e : p < i; (rw [if_pos e, if_pos (by omega)]); rw [if_neg e]; by_cases e2 : p = i; (rw [if_pos (by omega)]; unfold eCl; rw [if_pos (by omega), show p = ro by omega]); rw [if_neg (by omega)]))
  exact lp10 _ 0 (B 10) h hc (by omega) (fun p q p0 p1 q0 q1 => (hT p q p0 p1 q0 q1).trans (by dsimp only; rw [if_neg (by omega)])) (Nat.lt_succ_self _)
theorem k_X0_frees {X : ga_X} {R : Room} {nL : Nat} {cc : ByteArray} {h : ga_H} {ad : Nat → Nat} {J : Nat → Int} {B : Nat → Int → Int} {Q : Nat → Int → Option Nat} {Z : ga_H} {k n pc : Nat} {L : List (Option Value)} {st : List Value} {ro c : Int} {T : Int → Int → Int}  (hc : cOn h ad J B Q Z) (hsz : (0 ≤ J 20 ∧ J 20 ≤ 10) ∧ 0 ≤ J 21 ∧ J 21 ≤ 9) (h1 : (0 ≤ ro ∧ ro < J 20) ∧ 0 ≤ c ∧ c ≤ J 21) (hd : J 24 ≠ 0 ∧ z40 (J 24)) (hT : eOn (J 20) (J 21) 10 (B 10) T) (hen : ∀ p q : Int, 0 ≤ p → p < J 20 → 0 ≤ q → q ≤ J 21 → z40 (T p q)) (hpr : ∀ p q : Int, 0 ≤ p → p < J 20 → p ≠ ro → 0 ≤ q → q ≤ J 21 → z62 (T ro c * T p q) ∧ z62 (T p c * T ro q))  (hR : 2 + 1 ≤ R.frames ∧ 19 + 11 + 64 * 2 ≤ R.locals) (hk : k ≤ R.cells ∧ n ≤ R.slots) (hs : (st.map fun v => v.category).sum ≤ 8) (dd : decode cc pc = .ok (.invokevirtual 351, 3)) (kk : ∀ (J1 : Nat → Int) (B1 : Nat → Int → Int), (J1 = uN J 24 (T ro c) ∧ ∃ f, B1 = uN B 10 f ∧ eOn (J 20) (J 21) 10 f (eCl T ro c (J 24))) → ∀ h : ga_H, cOn h ad J1 B1 Q Z → G X R RX0 nL cc h k n (pc + 3) L st) : G X R RX0 nL cc h k n pc L (.int (iI c) :: .int (iI ro) :: .ref (ad 0) :: st) :=
  cc_run hc (m_X0_frees _ _ ad J B Q Z ro c T hsz h1 hd hT hen hpr) (lw_V q979 q981 qs24 q102 q982) rfl (show ga_nn' yX0_frees 2 from (by unfold ga_nn'; decide +kernel)) hR hk hs dd rfl (fun v hX J1 B1 hcX hp => by
    obtain ⟨rfl, hp⟩ := hp
    exact kk J1 B1 hp hX hcX)
