/-! THE CLASS: an equation of any shape: similar, whole, lower -/
set_option maxHeartbeats 4000000 in
set_option maxRecDepth 100000 in
theorem m_X0_isLoose (l : Launch) (D : ga_G) (ad : Nat → Nat) (J : Nat → Int) (B : Nat → Int → Int) (Q : Nat → Int → Option Nat) (Z : ga_H) (e ro : Int) (p : Nat) (kd y sh : Int) (hm : (1 ≤ J 30 ∧ J 30 ≤ 3) ∧ 1 ≤ J 31 ∧ J 31 ≤ 3) (hp : Z p = some (oE (9 + kd.toNat) [.int (iI y), .int (iI sh)])) (hkd : 0 ≤ kd ∧ kd ≤ 6) (hqe : Q 0 e = some p) (he6 : 0 ≤ e ∧ e < 6) (hri : -1000 ≤ ro ∧ ro ≤ 1000) : cM l D yX0_isLoose (ws_ yX0_isLoose cX0_isLoose 3 (some .boolean)) (gR 5) [.ref (ad 0), .int (iI e), .int (iI ro)] ad J B Q Z (mI (fun r J1 B1 => r = (bI ((J 30 = J 31 ∨ kd < 2) ∧ ro * J 31 ≤ 6)) ∧ J1 = J ∧ B1 = B)) := by
  refine cc_met (own := RX0) 0 (by decide) rfl (Nat.le_of_ble_eq_true rfl) (L0 := [some (.ref (ad 0)), some (.int (iI e)), some (.int (iI ro))]) rfl (fun X h hc hE => ?_)
  refine ga_aload_n (pc := 0) dX0_isLoose_0 rfl ?_
  refine ga_aload_n (pc := 1) dX0_isLoose_1 rfl ?_
  refine cc_g_equations (pc := 2) hc dX0_isLoose_2 ?_
  refine ga_iload_n (pc := 5) dX0_isLoose_5 rfl ?_
  refine ga_aald (pc := 6) (N := 6) (f := Q 0) (hc.1 25 (by decide)) (by omega) (by decide) dX0_isLoose_6 ?_
  refine ga_eq (pc := 7) (st1 := [.ref p, .ref (ad 0)]) rfl rfl (congrArg (fun x => va_rf x :: [.ref (ad 0)]) (hqe)) ?_
  refine k_X0_mayStand (pc := 7) (p := p) hc (by first | exact hm | omega) (by first | exact hp | omega) (by first | exact hkd | omega) (rfl) ⟨Nat.le_of_ble_eq_true rfl, Nat.le_of_ble_eq_true rfl⟩ ⟨Nat.le_of_ble_eq_true rfl, Nat.le_of_ble_eq_true rfl⟩ (Nat.le_of_ble_eq_true rfl) dX0_isLoose_7 (fun h hc => ?_)
  refine ga_ifb_eq (pc := 10) (tgt := 31) dX0_isLoose_10 rfl (fun c10 => ?_) (fun c10 => ?_)
  · skip
    refine ga_iconst (pc := 31) dX0_isLoose_31 ?_
    exact cc_zret hc hE dX0_isLoose_32 (by first | exact Or.inl rfl | exact Or.inr rfl) (⟨_, rfl, (bI_f (by omega)).symm, rfl, rfl⟩)
  · skip
    refine ga_iload_n (pc := 13) dX0_isLoose_13 rfl ?_
    refine ga_aload_n (pc := 14) dX0_isLoose_14 rfl ?_
    refine cc_g_now (pc := 15) hc dX0_isLoose_15 ?_
    refine ga_getN (pc := 18) (C := RX4) (T := TX4) (N := 5) (v := .int (iI (J 31))) in_X4 rfl (hc.1 4 (by decide)) 1 (by decide) (ga_nt q309 rfl) rfl rfl dX0_isLoose_18 ?_
    have hmu : -3000 ≤ ro * J 31 ∧ ro * J 31 ≤ 3000 := by { rcases (by omega : J 31 = 1 ∨ J 31 = 2 ∨ J 31 = 3) with z | z | z <;> (rw [z]; omega) }
    refine ga_imul (pc := 21) dX0_isLoose_21 ?_
    refine ga_bipush (pc := 22) dX0_isLoose_22 rfl ?_
    refine ga_icmp_gt (pc := 24) (tgt := 31) dX0_isLoose_24 rfl (by omega) (by omega) (fun c24 => ?_) (fun c24 => ?_)
    · skip
      refine ga_iconst (pc := 31) dX0_isLoose_31 ?_
      exact cc_zret hc hE dX0_isLoose_32 (by first | exact Or.inl rfl | exact Or.inr rfl) (⟨_, rfl, (bI_f (by omega)).symm, rfl, rfl⟩)
    · skip
      refine ga_iconst (pc := 27) dX0_isLoose_27 ?_
      refine ga_goto (pc := 28) (tgt := 32) dX0_isLoose_28 rfl ?_
      exact cc_zret hc hE dX0_isLoose_32 (by first | exact Or.inl rfl | exact Or.inr rfl) (⟨_, rfl, (bI_t (by omega)).symm, rfl, rfl⟩)
theorem k_X0_isLoose {X : ga_X} {R : Room} {nL : Nat} {cc : ByteArray} {h : ga_H} {ad : Nat → Nat} {J : Nat → Int} {B : Nat → Int → Int} {Q : Nat → Int → Option Nat} {Z : ga_H} {k n pc : Nat} {L : List (Option Value)} {st : List Value} {e ro : Int} {p : Nat} {kd y sh : Int} {z : Int} (hc : cOn h ad J B Q Z) (hm : (1 ≤ J 30 ∧ J 30 ≤ 3) ∧ 1 ≤ J 31 ∧ J 31 ≤ 3) (hp : Z p = some (oE (9 + kd.toNat) [.int (iI y), .int (iI sh)])) (hkd : 0 ≤ kd ∧ kd ≤ 6) (hqe : Q 0 e = some p) (he6 : 0 ≤ e ∧ e < 6) (hri : -1000 ≤ ro ∧ ro ≤ 1000) (hz : (bI ((J 30 = J 31 ∨ kd < 2) ∧ ro * J 31 ≤ 6)) = z) (hR : 5 + 1 ≤ R.frames ∧ 19 + 3 + 64 * 5 ≤ R.locals) (hk : k ≤ R.cells ∧ n ≤ R.slots) (hs : (st.map fun v => v.category).sum ≤ 8) (dd : decode cc pc = .ok (.invokevirtual 434, 3)) (kk : ∀ h : ga_H, cOn h ad J B Q Z → G X R RX0 nL cc h k n (pc + 3) L (.int (iI z) :: st)) : G X R RX0 nL cc h k n pc L (.int (iI ro) :: .int (iI e) :: .ref (ad 0) :: st) :=
  cc_run hc (m_X0_isLoose _ _ ad J B Q Z e ro p kd y sh hm hp hkd hqe he6 hri) (lw_V q1043 q1045 qs30 q102 q1046) rfl (show ga_nn' yX0_isLoose 2 from (by unfold ga_nn'; decide +kernel)) hR hk hs dd rfl (fun v hX J1 B1 hcX hp => by
    obtain ⟨r, rfl, hp⟩ := hp
    obtain ⟨e1, rfl, rfl⟩ := hp
    subst hz
    rw [e1]
    exact kk hX hcX)
theorem zSg_r (ch : Int) : -1 ≤ zSg ch ∧ zSg ch ≤ 1 := by unfold zSg; split <;> decide
theorem eqL {m n kd sh fr kx : Int} {B E : Nat → Int → Int} (hm : (1 ≤ m ∧ m ≤ 3) ∧ 1 ≤ n ∧ n ≤ 3) (hk : 0 ≤ kd ∧ kd ≤ 6) (hl : m = n ∨ kd < 2) (hx : (kx = 7 ∧ fr = 0) ∨ (kx = 8 ∧ 1 ≤ fr)) (hfr : fr < m) (hu : (m - fr) * n ≤ 6) (hR : tRel m n B E) (hE : tEn (E 0)) (hs : -2 ≤ sh ∧ sh ≤ 2) :
    xUn kx fr m n = (m - fr) * n ∧ (1 ≤ (m - fr) * n ∧ (m - fr) * n ≤ 6) ∧ (∀ p q : Int, 0 ≤ p → p < (m - fr) * n → 0 ≤ q → q ≤ xUn kx fr m n → cTs kx kd fr sh m n (xUn kx fr m n) fr (B 0) (B 1) (B 2) p q = mSys E m n kd 0 sh fr p q) ∧ eSafe ((m - fr) * n) (xUn kx fr m n) (mSys E m n kd 0 sh fr) ∧ eRed ((m - fr) * n) (mSys E m n kd 0 sh fr) (xUn kx fr m n).toNat = zSy m n E kd 0 sh fr ∧ zH m n fr = (m - fr) * n ∧ zW 0 m n fr = (m - fr) * n := by
  have hlk : zLike m n kd := by unfold zLike; omega
  have hxo : xOk kx kd fr := ⟨hk, Or.inr hx⟩
  have e7 : 7 ≤ kx := by omega
  have hy := xSys (sh := sh) hxo hm hlk hR ⟨by omega, hfr⟩
  rw [show xShp kx kd = 0 from if_pos e7] at hy
  have e0 : (if fr = 0 then 0 else fr * n) = fr * n := by split; (rename_i h; rw [h]; omega); rfl
  have eW : zW 0 m n fr = (m - fr) * n := by unfold zW; rw [w_cnt0 hm, e0, Int.sub_mul]
  have eH : zH m n fr = (m - fr) * n := by unfold zH; rw [Int.sub_mul]
  have hr := mn_r (m := m - fr) (n := n) ⟨by omega, hm.2⟩
  have hsf := w_safe hm hE kd 0 sh fr hk (Or.inr rfl) hlk hs ⟨by omega, hfr⟩ (fun _ => rfl) (by rw [eW]; exact hu)
  have eS : zSy m n E kd 0 sh fr = eRed ((m - fr) * n) (mSys E m n kd 0 sh fr) ((m - fr) * n).toNat := by unfold zSy; rw [eH, eW]
  rw [eW, eH] at hy hsf
  exact ⟨hy.1, ⟨hr.1, hu⟩, hy.2, by rw [hy.1]; exact hsf, by rw [hy.1, eS], eH, eW⟩
set_option maxHeartbeats 4000000 in
set_option maxRecDepth 100000 in
theorem m_X0_similar (l : Launch) (D : ga_G) (ad : Nat → Nat) (J : Nat → Int) (B : Nat → Int → Int) (Q : Nat → Int → Option Nat) (Z : ga_H) (e : Int) (p : Nat) (kd y sh : Int) (E : Nat → Int → Int) (hm : (1 ≤ J 30 ∧ J 30 ≤ 3) ∧ 1 ≤ J 31 ∧ J 31 ≤ 3) (h8 : 0 ≤ J 8 ∧ J 8 ≤ 6) (hq : 0 ≤ e → e < J 8 → Q 0 e = some p ∧ Z p = some (oE (9 + kd.toNat) [.int (iI y), .int (iI sh)]) ∧ (0 ≤ kd ∧ kd ≤ 6) ∧ -2 ≤ sh ∧ sh ≤ 2) (he0 : ∀ k : Int, -50 ≤ B 0 k ∧ B 0 k ≤ 50) (he1 : ∀ k : Int, -50 ≤ B 1 k ∧ B 1 k ≤ 50) (he2 : ∀ k : Int, -50 ≤ B 2 k ∧ B 2 k ≤ 50) (hRl : tRel (J 30) (J 31) B E) (hTE : tEn (E 0)) (hri : (-2147483648 ≤ e ∧ e < 2147483648)) : kM l D yX0_similar (ws_ yX0_similar cX0_similar 2 (some .int)) (gK 10 1 3) [.ref (ad 0), .int (iI e)] ad J B Q Z (kI (fun r ad1 J1 B1 Q1 Z1 => (ad1 = ad ∧ Q1 = Q ∧ Z1 = Z) ∧ r = (if 0 ≤ e ∧ e < J 8 then (if ((J 30 = J 31 ∨ kd < 2) ∧ J 30 * J 31 ≤ 6) then eSlv (J 30 * J 31) (J 30 * J 31) (zSy (J 30) (J 31) E kd 0 sh 0) else -4) else -1) ∧ cSam J B J1 B1)) kX0 1 3 := by
  refine kc_met (own := RX0) 0 (by decide) rfl (Nat.le_of_ble_eq_true rfl) (L0 := [some (.ref (ad 0)), some (.int (iI e))]) rfl (fun X h hc hE => ?_)
  refine ga_aload_n (pc := 0) dX0_similar_0 rfl ?_
  refine ga_iload_n (pc := 1) dX0_similar_1 rfl ?_
  refine k_X0_isEquation (pc := 2) (e := e) hc (by first | exact hq | omega) (by first | exact h1 | omega) (rfl) ⟨Nat.le_of_ble_eq_true rfl, Nat.le_of_ble_eq_true rfl⟩ ⟨Nat.le_of_ble_eq_true rfl, Nat.le_of_ble_eq_true rfl⟩ (Nat.le_of_ble_eq_true rfl) dX0_similar_2 (fun h hc => ?_)
  refine ga_ifb_ne (pc := 5) (tgt := 10) dX0_similar_5 rfl (fun c5 => ?_) (fun c5 => ?_)
  · skip
    obtain ⟨hqe, hp, hkd, hsh⟩ := hq (by omega) (by omega)
    have hpo := pOn.of hkd hp
    refine ga_aload_n (pc := 10) dX0_similar_10 rfl ?_
    refine ga_iload_n (pc := 11) dX0_similar_11 rfl ?_
    refine ga_aload_n (pc := 12) dX0_similar_12 rfl ?_
    refine cc_g_now (pc := 13) hc dX0_similar_13 ?_
    refine ga_getN (pc := 16) (C := RX4) (T := TX4) (N := 5) (v := .int (iI (J 30))) in_X4 rfl (hc.1 4 (by decide)) 0 (by decide) (ga_nt q307 rfl) rfl rfl dX0_similar_16 ?_
    refine k_X0_isLoose (pc := 19) (e := e) (ro := (J 30)) (p := p) (kd := kd) (y := y) (sh := sh) hc (by first | exact hm | omega) (by first | exact hp | omega) (by first | exact hkd | omega) (by first | exact hqe | omega) (by first | exact he6 | omega) (by first | exact hri | omega) (rfl) ⟨Nat.le_of_ble_eq_true rfl, Nat.le_of_ble_eq_true rfl⟩ ⟨Nat.le_of_ble_eq_true rfl, Nat.le_of_ble_eq_true rfl⟩ (Nat.le_of_ble_eq_true rfl) dX0_similar_19 (fun h hc => ?_)
    refine ga_ifb_ne (pc := 22) (tgt := 28) dX0_similar_22 rfl (fun c22 => ?_) (fun c22 => ?_)
    · skip
      have hmn := mn_r hm
      have hfl : (J 30 = J 31 ∨ kd < 2) ∧ J 30 * J 31 ≤ 6 := by omega
      refine ga_aload_n (pc := 28) dX0_similar_28 rfl ?_
      refine ga_new (pc := 29) (ci := 16) (fs := [.int (iI 0), .int (iI 0), .null]) in_X16 tyX16_ok rfl q1047 q1048 q129 (fun j hj => by rcases j with _ | _ | _ | j <;> first | rfl | omega) (by decide) (by decide) dX0_similar_29 (fun b hab => ?_)
      have hZb : Z b = none := (hc.n (e := (oE 16 [.int (iI 0), .int (iI 0), .null])) hab).2
      replace hc := (hc.n (e := (oE 16 [.int (iI 0), .int (iI 0), .null])) hab).1
      generalize ga_u h b (oE 16 [.int (iI 0), .int (iI 0), .null]) = h at hc ⊢
      refine ga_dup (pc := 32) dX0_similar_32 rfl ?_
      refine ga_aload_n (pc := 33) dX0_similar_33 rfl ?_
      refine cc_g_equations (pc := 34) hc dX0_similar_34 ?_
      refine ga_iload_n (pc := 37) dX0_similar_37 rfl ?_
      refine ga_aald (pc := 38) (N := 6) (f := Q 0) (hc.1 25 (by decide)) (by omega) (by decide) dX0_similar_38 ?_
      refine ga_eq (pc := 39) (st1 := [.ref p, .ref b, .ref b, .ref (ad 0)]) rfl rfl (congrArg (fun x => va_rf x :: [.ref b, .ref b, .ref (ad 0)]) (hqe)) ?_
      refine ga_goV (pc := 39) (ga_runI (mc := 0) (ms := 0) (m_X16_init_16 _ _ _ b _ _ _ p kd y sh (hc.2.2 b _ (ga_us _ _ _)).1 (hc.2.2 p _ (by rw [ga_un (fun q => by rw [q, hZb] at hp; cases hp)]; exact hp)).1 hkd) (lw_meth q1051) q129 q1049 q1050 rfl (show ga_nn' yX16_init 1 from (by unfold ga_nn'; decide +kernel)) ⟨rfl, rfl⟩ ⟨by show 2 + 1 ≤ _; exact Nat.le_of_ble_eq_true rfl, by show 8 + (2 + 11) + 64 * 2 ≤ _; exact Nat.le_of_ble_eq_true rfl⟩ ⟨Nat.le_of_ble_eq_true rfl, Nat.le_of_ble_eq_true rfl⟩ (Nat.le_of_ble_eq_true rfl) dX0_similar_39 rfl) (fun h1 hp => ?_)
      subst hp
      replace hc := hc.z (e := (oE 16 [.int (iI y), .int (iI sh), .ref p])) (ga_us _ _ _)
      rw [ga_uu] at hc
      generalize ga_u h b (oE 16 [.int (iI y), .int (iI sh), .ref p]) = h at hc ⊢
      have hZs : ∀ a e, Z a = some e → (ga_u Z b (oE 16 [.int (iI y), .int (iI sh), .ref p])) a = some e := fun a e z => by rw [ga_un (fun q => by rw [q, hZb] at z; cases z)]; exact z
      have hpo : pOn (ga_u Z b (oE 16 [.int (iI y), .int (iI sh), .ref p])) b 7 kd y sh p 0 := ⟨by omega, hkd, fun z => by omega, fun _ => ga_us _ _ _, fun z => by omega, fun _ => ⟨y, sh, (by rw [ga_un (fun q => by rw [q, hZb] at hp; cases hp)]; exact hp)⟩⟩
      have hD := eqL (kx := 7) (fr := 0) hm hkd hfl.1 (by omega) (by omega) (by rw [Int.sub_zero]; exact hfl.2) hRl hTE hsh
      refine k_X0_isSolvable (pc := 42) (p := b) (q := p) (kx := 7) (kd := kd) (y := y) (sh := sh) (fr := 0) (T := (mSys E (J 30) (J 31) kd 0 sh 0)) hc (hm) (hpo) (by omega) (he0) (he1) (he2) (hsh) (by omega) (by rw [hD.1]; omega) (fun a b a0 a1 => hD.2.2.1 a b a0 (by rw [Int.sub_zero]; exact a1)) (by have z := hD.2.2.2.1; rw [Int.sub_zero] at z; exact z) ⟨Nat.le_of_ble_eq_true rfl, Nat.le_of_ble_eq_true rfl⟩ ⟨Nat.le_of_ble_eq_true rfl, Nat.le_of_ble_eq_true rfl⟩ (Nat.le_of_ble_eq_true rfl) dX0_similar_42  (fun r42 J42 B42 hp42 h hc => ?_)
      refine ga_if_eq (pc := 45) (tgt := 52) dX0_similar_45 rfl (by omega) (fun c45 => ?_) (fun c45 => ?_)
      · skip
        refine ga_iconst (pc := 52) dX0_similar_52 ?_
        exact kc_iret (hc.sub hZs) hE dX0_similar_53 (by omega) (by omega) (⟨_, rfl, ⟨⟨rfl, rfl, rfl⟩, by (try dsimp only); refine ⟨?_, hp42.1.sam⟩; have h9 := hp42.2; have hz := hD.2.2.2.2.1; rw [Int.sub_zero] at hz; rw [hz, hD.1, Int.sub_zero] at h9; rw [if_pos (by omega), if_pos hfl]; have h0 := eSlv_o (by rw [← hz]; exact (eRed_r _ _ (by omega) _).1.2.2) h9; have h8 : r42 = 1 ∨ r42 = 0 := (by rcases h9 with z | z; exact Or.inl z.1; exact Or.inr z.1); omega⟩⟩)
      · skip
        refine ga_iconst (pc := 48) dX0_similar_48 ?_
        refine ga_goto (pc := 49) (tgt := 53) dX0_similar_49 rfl ?_
        exact kc_iret (hc.sub hZs) hE dX0_similar_53 (by omega) (by omega) (⟨_, rfl, ⟨⟨rfl, rfl, rfl⟩, by (try dsimp only); refine ⟨?_, hp42.1.sam⟩; have h9 := hp42.2; have hz := hD.2.2.2.2.1; rw [Int.sub_zero] at hz; rw [hz, hD.1, Int.sub_zero] at h9; rw [if_pos (by omega), if_pos hfl]; have h0 := eSlv_o (by rw [← hz]; exact (eRed_r _ _ (by omega) _).1.2.2) h9; have h8 : r42 = 1 ∨ r42 = 0 := (by rcases h9 with z | z; exact Or.inl z.1; exact Or.inr z.1); omega⟩⟩)
    · skip
      refine ga_bipush (pc := 25) dX0_similar_25 rfl ?_
      exact kc_iret hc hE dX0_similar_27 (by omega) (by omega) (⟨_, rfl, ⟨⟨rfl, rfl, rfl⟩, by (try dsimp only); exact ⟨by rw [if_pos (by omega), if_neg (by omega)], cSam.refl _ _⟩⟩⟩)
  · skip
    refine ga_iconst (pc := 8) dX0_similar_8 ?_
    exact kc_iret hc hE dX0_similar_9 (by omega) (by omega) (⟨_, rfl, ⟨⟨rfl, rfl, rfl⟩, by (try dsimp only); exact ⟨by rw [if_neg (by omega)], cSam.refl _ _⟩⟩⟩)
set_option maxHeartbeats 4000000 in
set_option maxRecDepth 100000 in
theorem m_X0_whole (l : Launch) (D : ga_G) (ad : Nat → Nat) (J : Nat → Int) (B : Nat → Int → Int) (Q : Nat → Int → Option Nat) (Z : ga_H) (e : Int) (p : Nat) (kd y sh : Int) (E : Nat → Int → Int) (hm : (1 ≤ J 30 ∧ J 30 ≤ 3) ∧ 1 ≤ J 31 ∧ J 31 ≤ 3) (h8 : 0 ≤ J 8 ∧ J 8 ≤ 6) (hq : 0 ≤ e → e < J 8 → Q 0 e = some p ∧ Z p = some (oE (9 + kd.toNat) [.int (iI y), .int (iI sh)]) ∧ (0 ≤ kd ∧ kd ≤ 6) ∧ -2 ≤ sh ∧ sh ≤ 2) (he0 : ∀ k : Int, -50 ≤ B 0 k ∧ B 0 k ≤ 50) (he1 : ∀ k : Int, -50 ≤ B 1 k ∧ B 1 k ≤ 50) (he2 : ∀ k : Int, -50 ≤ B 2 k ∧ B 2 k ≤ 50) (hRl : tRel (J 30) (J 31) B E) (hTE : tEn (E 0)) (hri : (-2147483648 ≤ e ∧ e < 2147483648)) : kM l D yX0_whole (ws_ yX0_whole cX0_whole 2 (some .long)) (gK 8 1 3) [.ref (ad 0), .int (iI e)] ad J B Q Z (kL (fun r ad1 J1 B1 Q1 Z1 => (ad1 = ad ∧ Q1 = Q ∧ Z1 = Z) ∧ r = (if 0 ≤ e ∧ e < J 8 then (if ((J 30 = J 31 ∨ kd < 2) ∧ J 30 * J 31 ≤ 6) then (if (zSy (J 30) (J 31) E kd 0 sh 0).2.1 < J 30 * J 31 then 0 else zSg (zSy (J 30) (J 31) E kd 0 sh 0).2.2.1 * (zSy (J 30) (J 31) E kd 0 sh 0).2.2.2.1) else -4000000000000000004) else -4000000000000000001) ∧ cSam J B J1 B1)) kX0 1 3 := by
  refine kc_met (own := RX0) 0 (by decide) rfl (Nat.le_of_ble_eq_true rfl) (L0 := [some (.ref (ad 0)), some (.int (iI e))]) rfl (fun X h hc hE => ?_)
  refine ga_aload_n (pc := 0) dX0_whole_0 rfl ?_
  refine ga_iload_n (pc := 1) dX0_whole_1 rfl ?_
  refine k_X0_isEquation (pc := 2) (e := e) hc (by first | exact hq | omega) (by first | exact h1 | omega) (rfl) ⟨Nat.le_of_ble_eq_true rfl, Nat.le_of_ble_eq_true rfl⟩ ⟨Nat.le_of_ble_eq_true rfl, Nat.le_of_ble_eq_true rfl⟩ (Nat.le_of_ble_eq_true rfl) dX0_whole_2 (fun h hc => ?_)
  refine ga_ifb_ne (pc := 5) (tgt := 13) dX0_whole_5 rfl (fun c5 => ?_) (fun c5 => ?_)
  · skip
    obtain ⟨hqe, hp, hkd, hsh⟩ := hq (by omega) (by omega)
    have hpo := pOn.of hkd hp
    refine ga_aload_n (pc := 13) dX0_whole_13 rfl ?_
    refine ga_iload_n (pc := 14) dX0_whole_14 rfl ?_
    refine ga_aload_n (pc := 15) dX0_whole_15 rfl ?_
    refine cc_g_now (pc := 16) hc dX0_whole_16 ?_
    refine ga_getN (pc := 19) (C := RX4) (T := TX4) (N := 5) (v := .int (iI (J 30))) in_X4 rfl (hc.1 4 (by decide)) 0 (by decide) (ga_nt q307 rfl) rfl rfl dX0_whole_19 ?_
    refine k_X0_isLoose (pc := 22) (e := e) (ro := (J 30)) (p := p) (kd := kd) (y := y) (sh := sh) hc (by first | exact hm | omega) (by first | exact hp | omega) (by first | exact hkd | omega) (by first | exact hqe | omega) (by first | exact he6 | omega) (by first | exact hri | omega) (rfl) ⟨Nat.le_of_ble_eq_true rfl, Nat.le_of_ble_eq_true rfl⟩ ⟨Nat.le_of_ble_eq_true rfl, Nat.le_of_ble_eq_true rfl⟩ (Nat.le_of_ble_eq_true rfl) dX0_whole_22 (fun h hc => ?_)
    refine ga_ifb_ne (pc := 25) (tgt := 34) dX0_whole_25 rfl (fun c25 => ?_) (fun c25 => ?_)
    · skip
      have hmn := mn_r hm
      have hfl : (J 30 = J 31 ∨ kd < 2) ∧ J 30 * J 31 ≤ 6 := by omega
      refine ga_aload_n (pc := 34) dX0_whole_34 rfl ?_
      refine ga_new (pc := 35) (ci := 16) (fs := [.int (iI 0), .int (iI 0), .null]) in_X16 tyX16_ok rfl q1047 q1048 q129 (fun j hj => by rcases j with _ | _ | _ | j <;> first | rfl | omega) (by decide) (by decide) dX0_whole_35 (fun b hab => ?_)
      have hZb : Z b = none := (hc.n (e := (oE 16 [.int (iI 0), .int (iI 0), .null])) hab).2
      replace hc := (hc.n (e := (oE 16 [.int (iI 0), .int (iI 0), .null])) hab).1
      generalize ga_u h b (oE 16 [.int (iI 0), .int (iI 0), .null]) = h at hc ⊢
      refine ga_dup (pc := 38) dX0_whole_38 rfl ?_
      refine ga_aload_n (pc := 39) dX0_whole_39 rfl ?_
      refine cc_g_equations (pc := 40) hc dX0_whole_40 ?_
      refine ga_iload_n (pc := 43) dX0_whole_43 rfl ?_
      refine ga_aald (pc := 44) (N := 6) (f := Q 0) (hc.1 25 (by decide)) (by omega) (by decide) dX0_whole_44 ?_
      refine ga_eq (pc := 45) (st1 := [.ref p, .ref b, .ref b, .ref (ad 0)]) rfl rfl (congrArg (fun x => va_rf x :: [.ref b, .ref b, .ref (ad 0)]) (hqe)) ?_
      refine ga_goV (pc := 45) (ga_runI (mc := 0) (ms := 0) (m_X16_init_16 _ _ _ b _ _ _ p kd y sh (hc.2.2 b _ (ga_us _ _ _)).1 (hc.2.2 p _ (by rw [ga_un (fun q => by rw [q, hZb] at hp; cases hp)]; exact hp)).1 hkd) (lw_meth q1051) q129 q1049 q1050 rfl (show ga_nn' yX16_init 1 from (by unfold ga_nn'; decide +kernel)) ⟨rfl, rfl⟩ ⟨by show 2 + 1 ≤ _; exact Nat.le_of_ble_eq_true rfl, by show 8 + (2 + 11) + 64 * 2 ≤ _; exact Nat.le_of_ble_eq_true rfl⟩ ⟨Nat.le_of_ble_eq_true rfl, Nat.le_of_ble_eq_true rfl⟩ (Nat.le_of_ble_eq_true rfl) dX0_whole_45 rfl) (fun h1 hp => ?_)
      subst hp
      replace hc := hc.z (e := (oE 16 [.int (iI y), .int (iI sh), .ref p])) (ga_us _ _ _)
      rw [ga_uu] at hc
      generalize ga_u h b (oE 16 [.int (iI y), .int (iI sh), .ref p]) = h at hc ⊢
      have hZs : ∀ a e, Z a = some e → (ga_u Z b (oE 16 [.int (iI y), .int (iI sh), .ref p])) a = some e := fun a e z => by rw [ga_un (fun q => by rw [q, hZb] at z; cases z)]; exact z
      have hpo : pOn (ga_u Z b (oE 16 [.int (iI y), .int (iI sh), .ref p])) b 7 kd y sh p 0 := ⟨by omega, hkd, fun z => by omega, fun _ => ga_us _ _ _, fun z => by omega, fun _ => ⟨y, sh, (by rw [ga_un (fun q => by rw [q, hZb] at hp; cases hp)]; exact hp)⟩⟩
      have hD := eqL (kx := 7) (fr := 0) hm hkd hfl.1 (by omega) (by omega) (by rw [Int.sub_zero]; exact hfl.2) hRl hTE hsh
      have hz := hD.2.2.2.2.1
      rw [Int.sub_zero] at hz
      refine k_X0_laysOut (pc := 48) (p := b) (q := p) (kx := 7) (kd := kd) (y := y) (sh := sh) (fr := 0) hc (hm) (hpo) (by omega) (he0) (he1) (he2) (hsh) (by omega) (by rw [hD.1]; omega) ⟨Nat.le_of_ble_eq_true rfl, Nat.le_of_ble_eq_true rfl⟩ ⟨Nat.le_of_ble_eq_true rfl, Nat.le_of_ble_eq_true rfl⟩ (Nat.le_of_ble_eq_true rfl) dX0_whole_48 (fun J48 B48 hp48 h hc => ?_)
      obtain ⟨eJ2, g2, eB2, hg2⟩ := hp48
      subst eJ2
      subst eB2
      have hon : eOn (J 30 * J 31) (xUn 7 0 (J 30) (J 31)) 10 g2 (mSys E (J 30) (J 31) kd 0 sh 0) := cGr_on ⟨by rw [Int.mul_comm]; exact Int.le_refl _, by omega, by rw [hD.1, Int.sub_zero]; omega⟩ hg2 (fun a b a0 a1 => hD.2.2.1 a b a0 (by rw [Int.sub_zero]; exact a1))
      replace hc : cOn h ad (uN (uN J 20 (J 30 * J 31)) 21 (xUn 7 0 (J 30) (J 31))) (uN B 10 g2) Q (ga_u Z b (oE 16 [.int (iI y), .int (iI sh), .ref p])) := hc
      refine ga_aload_n (pc := 51) dX0_whole_51 rfl ?_
      refine k_X0_reduce (pc := 52) (T := (mSys E (J 30) (J 31) kd 0 sh 0)) hc (show (0 ≤ (J 30 * J 31) ∧ (J 30 * J 31) ≤ 10) ∧ 0 ≤ (xUn 7 0 (J 30) (J 31)) ∧ (xUn 7 0 (J 30) (J 31)) ≤ 9 from by rw [hD.1, Int.sub_zero]; omega) (show eOn ((J 30 * J 31)) ((xUn 7 0 (J 30) (J 31))) 10 (g2) (mSys E (J 30) (J 31) kd 0 sh 0) from hon) (show eSafe ((J 30 * J 31)) ((xUn 7 0 (J 30) (J 31))) (mSys E (J 30) (J 31) kd 0 sh 0) from by have z := hD.2.2.2.1; rw [Int.sub_zero] at z; exact z) ⟨Nat.le_of_ble_eq_true rfl, Nat.le_of_ble_eq_true rfl⟩ ⟨Nat.le_of_ble_eq_true rfl, Nat.le_of_ble_eq_true rfl⟩ (Nat.le_of_ble_eq_true rfl) dX0_whole_52 (fun J52 B52 hp52 h hc => ?_)
      obtain ⟨eJ6, f6, g6, eB6, hf6, hg6⟩ := hp52
      subst eJ6
      subst eB6
      have hrr := eRed_r (J 30 * J 31) (mSys E (J 30) (J 31) kd 0 sh 0) (by omega) (xUn 7 0 (J 30) (J 31)).toNat
      have hs9 := hD.2.2.2.1 (xUn 7 0 (J 30) (J 31)) (by rw [hD.1, Int.sub_zero]; omega) (Int.le_refl _)
      rw [Int.sub_zero] at hs9
      have hsg := zSg_r (eRed (J 30 * J 31) (mSys E (J 30) (J 31) kd 0 sh 0) (xUn 7 0 (J 30) (J 31)).toNat).2.2.1
      replace hc : cOn h ad (uN (uN (uN (uN (uN J 20 (J 30 * J 31)) 21 (xUn 7 0 (J 30) (J 31))) 22 ((eRed (J 30 * J 31) (mSys E (J 30) (J 31) kd 0 sh 0) (xUn 7 0 (J 30) (J 31)).toNat).2.1)) 23 (zSg (eRed (J 30 * J 31) (mSys E (J 30) (J 31) kd 0 sh 0) (xUn 7 0 (J 30) (J 31)).toNat).2.2.1)) 24 ((eRed (J 30 * J 31) (mSys E (J 30) (J 31) kd 0 sh 0) (xUn 7 0 (J 30) (J 31)).toNat).2.2.2.1)) (uN (uN B 10 f6) 11 g6) Q (ga_u Z b (oE 16 [.int (iI y), .int (iI sh), .ref p])) := hc
      refine ga_aload_n (pc := 55) dX0_whole_55 rfl ?_
      refine cc_g_rank (pc := 56) (z := (eRed (J 30 * J 31) (mSys E (J 30) (J 31) kd 0 sh 0) (xUn 7 0 (J 30) (J 31)).toNat).2.1) hc rfl dX0_whole_56 ?_
      refine ga_aload_n (pc := 59) dX0_whole_59 rfl ?_
      refine cc_g_gridUnknowns (pc := 60) (z := xUn 7 0 (J 30) (J 31)) hc rfl dX0_whole_60 ?_
      refine ga_icmp_ge (pc := 63) (tgt := 70) dX0_whole_63 rfl (by omega) (by omega) (fun c63 => ?_) (fun c63 => ?_)
      · skip
        refine ga_aload_n (pc := 70) dX0_whole_70 rfl ?_
        refine cc_g_sign (pc := 71) (z := zSg (eRed (J 30 * J 31) (mSys E (J 30) (J 31) kd 0 sh 0) (xUn 7 0 (J 30) (J 31)).toNat).2.2.1) hc rfl dX0_whole_71 ?_
        refine ga_i2l (pc := 74) dX0_whole_74 (by omega) ?_
        refine ga_aload_n (pc := 75) dX0_whole_75 rfl ?_
        refine cc_g_pivot (pc := 76) (z := (eRed (J 30 * J 31) (mSys E (J 30) (J 31) kd 0 sh 0) (xUn 7 0 (J 30) (J 31)).toNat).2.2.2.1) hc rfl dX0_whole_76 ?_
        refine ga_lmul (pc := 79) dX0_whole_79 ?_
        exact kc_lret (hc.sub hZs) hE dX0_whole_80 (by omega) (by omega) (⟨_, rfl, ⟨⟨rfl, rfl, rfl⟩, by (try dsimp only); refine ⟨?_, ((((((cSam.refl J B).uJ (by decide)).uJ (by decide)).uJ (by decide)).uJ (by decide)).uJ (by decide)).uB (by decide) |>.uB (by decide)⟩; rw [hz] at c63; rw [hD.1, Int.sub_zero] at c63; rw [if_pos (by omega), if_pos hfl]; rw [if_neg (by omega), hz]⟩⟩)
      · skip
        refine ga_lconst (pc := 66) 0 dX0_whole_66 rfl ?_
        refine ga_goto (pc := 67) (tgt := 80) dX0_whole_67 rfl ?_
        exact kc_lret (hc.sub hZs) hE dX0_whole_80 (by omega) (by omega) (⟨_, rfl, ⟨⟨rfl, rfl, rfl⟩, by (try dsimp only); refine ⟨?_, ((((((cSam.refl J B).uJ (by decide)).uJ (by decide)).uJ (by decide)).uJ (by decide)).uJ (by decide)).uB (by decide) |>.uB (by decide)⟩; rw [hz] at c63; rw [hD.1, Int.sub_zero] at c63; rw [if_pos (by omega), if_pos hfl]; rw [if_pos (by omega)]⟩⟩)
    · skip
      refine ga_bipush (pc := 28) dX0_whole_28 rfl ?_
      refine k_X0_far (pc := 30) (a := (-4)) (by omega) (rfl) ⟨Nat.le_of_ble_eq_true rfl, Nat.le_of_ble_eq_true rfl⟩ ⟨Nat.le_of_ble_eq_true rfl, Nat.le_of_ble_eq_true rfl⟩ (Nat.le_of_ble_eq_true rfl) dX0_whole_30 ?_
      exact kc_lret hc hE dX0_whole_33 (by omega) (by omega) (⟨_, rfl, ⟨⟨rfl, rfl, rfl⟩, by (try dsimp only); exact ⟨by rw [if_pos (by omega), if_neg (by omega)]; omega, cSam.refl _ _⟩⟩⟩)
  · skip
    refine ga_iconst (pc := 8) dX0_whole_8 ?_
    refine k_X0_far (pc := 9) (a := (-1)) (by omega) (rfl) ⟨Nat.le_of_ble_eq_true rfl, Nat.le_of_ble_eq_true rfl⟩ ⟨Nat.le_of_ble_eq_true rfl, Nat.le_of_ble_eq_true rfl⟩ (Nat.le_of_ble_eq_true rfl) dX0_whole_9 ?_
    exact kc_lret hc hE dX0_whole_12 (by omega) (by omega) (⟨_, rfl, ⟨⟨rfl, rfl, rfl⟩, by (try dsimp only); exact ⟨by rw [if_neg (by omega)]; omega, cSam.refl _ _⟩⟩⟩)
