/-! THE REFERENCE: what is asked of an equation -/
def eSl (S : eS) (W : Int) : Nat → Int → Int
  | 0, _ => 1
  | f + 1, i => if S.1 i W = 0 then eSl S W f (i + 1) else 0
def eSlv (H W : Int) (S : eS) : Int := eSl S W (H - S.2.1).toNat S.2.1
theorem eSl_t (S : eS) (W : Int) : ∀ (f : Nat) (i : Int), (∀ k : Int, i ≤ k → k < i + f → S.1 k W = 0) → eSl S W f i = 1 := by
  intro f
  induction f with
  | zero => intro i _; rfl
  | succ f ih =>
    intro i h
    unfold eSl
    rw [if_pos (h i (Int.le_refl _) (by omega))]
    exact ih (i + 1) (fun k k0 k1 => h k (by omega) (by omega))
theorem eSl_f (S : eS) (W : Int) : ∀ (f : Nat) (i : Int), ¬ (∀ k : Int, i ≤ k → k < i + f → S.1 k W = 0) → eSl S W f i = 0 := by
  intro f
  induction f with
  | zero => intro i h; exact absurd (fun k k0 k1 => by omega) h
  | succ f ih =>
    intro i h
    unfold eSl
    by_cases e : S.1 i W = 0
    · rw [if_pos e]
      refine ih (i + 1) (fun g => h (fun k k0 k1 => ?_))
      by_cases ek : k = i
      · rw [ek]; exact e
      · exact g k (by omega) (by omega)
    · rw [if_neg e]
theorem eSlv_o {H W r : Int} {S : eS} (h0 : S.2.1 ≤ H) (h : (r = 1 ∧ eSol H W S) ∨ (r = 0 ∧ ¬ eSol H W S)) : r = eSlv H W S := by
  unfold eSlv
  rcases h with ⟨rfl, h⟩ | ⟨rfl, h⟩
  · exact (eSl_t S W _ _ (fun k k0 k1 => h k k0 (by omega))).symm
  · exact (eSl_f S W _ _ (fun g => h (fun k k0 k1 => g k k0 (by omega)))).symm
def zH (m n first : Int) : Int := m * n - first * n
def zW (shape m n first : Int) : Int := tCnt shape m n - (if first = 0 then 0 else first * n)
theorem zH_0 (m n : Int) : zH m n 0 = m * n := by unfold zH; omega
theorem zW_0 (shape m n : Int) : zW shape m n 0 = tCnt shape m n := by unfold zW; rw [if_pos rfl]; omega
/-- the system worked out -/
def zSy (m n : Int) (E : Nat → Int → Int) (kind shape shift first : Int) : eS := eRed (zH m n first) (mSys E m n kind shape shift first) (zW shape m n first).toNat
def mSafe (m n : Int) (E : Nat → Int → Int) : Prop := ∀ kind shape shift first : Int, (0 ≤ kind ∧ kind ≤ 6) → (shape = kind ∨ shape = 0) → zLike m n kind → (-2 ≤ shift ∧ shift ≤ 2) → (0 ≤ first ∧ first < m) → (first ≠ 0 → shape = 0) → zW shape m n first ≤ 6 → eSafe (zH m n first) (zW shape m n first) (mSys E m n kind shape shift first)
abbrev zFit (m n kind : Int) : Prop := zLike m n kind ∧ tCnt kind m n ≤ 6
abbrev mKd (I : Nat → Int) (A : Nat → Int → Int) (e : Int) : eS := zSy (I 3) (I 4) A (A 11 e) (A 11 e) (A 12 e) 0
/-- an equation's entry in the solution, times what all is parted by; in the base of a free unknown -/
def zShs (m n kind : Int) (S : eS) (W i j c : Int) : Int := zsum (fun u => zSh kind i j ((tPlc kind m n u).tdiv n) ((tPlc kind m n u).tmod n) * (if S.2.2.2.2 u < 0 then (if u = c then S.2.2.2.1 else 0) else if c < 0 then S.1 (S.2.2.2.2 u) W else -S.1 (S.2.2.2.2 u) c)) W.toNat
def mOf (I : Nat → Int) (A : Nat → Int → Int) (e what : Int) : Int := if (0 ≤ e ∧ e < I 5) ∧ 0 ≤ what ∧ what ≤ 6 then (if what = 0 then A 11 e else if what = 1 then 10 + A 12 e else if what = 2 then (if zFit (I 3) (I 4) (A 11 e) then 1 else 0) else if what = 3 then (if zLike (I 3) (I 4) (A 11 e) then tCnt (A 11 e) (I 3) (I 4) else -4) else if ¬ zFit (I 3) (I 4) (A 11 e) then -4 else if what = 4 then (mKd I A e).2.1 else if what = 5 then zFr (mKd I A e).2.2.2.2 (tCnt (A 11 e) (I 3) (I 4)).toNat else eSlv (I 3 * I 4) (tCnt (A 11 e) (I 3) (I 4)) (mKd I A e)) else -1
def mRgt (I : Nat → Int) (A : Nat → Int → Int) (e i j : Int) : Int := if (0 ≤ e ∧ e < I 5) ∧ (0 ≤ i ∧ i < I 4) ∧ 0 ≤ j ∧ j < I 4 then (if zLike (I 3) (I 4) (A 11 e) then mRight A (A 11 e) i j else -4000000000000000004) else -4000000000000000001
abbrev mPrt (I : Nat → Int) (e i j part : Int) : Prop := (0 ≤ e ∧ e < I 5) ∧ (0 ≤ i ∧ i < I 3) ∧ (0 ≤ j ∧ j < I 4) ∧ 0 ≤ part ∧ part ≤ 1
def mSol (I : Nat → Int) (A : Nat → Int → Int) (e i j part : Int) : Int := if mPrt I e i j part then (if zFit (I 3) (I 4) (A 11 e) then (if eSlv (I 3 * I 4) (tCnt (A 11 e) (I 3) (I 4)) (mKd I A e) = 1 then zPart (zShs (I 3) (I 4) (A 11 e) (mKd I A e) (tCnt (A 11 e) (I 3) (I 4)) i j (-1)) (mKd I A e).2.2.2.1 part else -4000000000000000003) else -4000000000000000004) else -4000000000000000001
def mBas (I : Nat → Int) (A : Nat → Int → Int) (e u i j part : Int) : Int := if mPrt I e i j part ∧ 0 ≤ u ∧ u ≤ 8 then (if zFit (I 3) (I 4) (A 11 e) then (if u < tCnt (A 11 e) (I 3) (I 4) ∧ (mKd I A e).2.2.2.2 u < 0 then zPart (zShs (I 3) (I 4) (A 11 e) (mKd I A e) (tCnt (A 11 e) (I 3) (I 4)) i j u) (mKd I A e).2.2.2.1 part else -4000000000000000003) else -4000000000000000004) else -4000000000000000001
/-- what is known of a system that was worked out -/
theorem zSy_r {m n : Int} {E : Nat → Int → Int} {kind shape shift first : Int} (h : eSafe (zH m n first) (zW shape m n first) (mSys E m n kind shape shift first)) (hH : 0 ≤ zH m n first) (hW : 0 ≤ zW shape m n first) : (0 ≤ (zSy m n E kind shape shift first).2.1 ∧ (zSy m n E kind shape shift first).2.1 ≤ zW shape m n first ∧ (zSy m n E kind shape shift first).2.1 ≤ zH m n first) ∧ (0 ≤ (zSy m n E kind shape shift first).2.2.1 ∧ (zSy m n E kind shape shift first).2.2.1 ≤ zW shape m n first) ∧ (∀ k : Int, -1 ≤ (zSy m n E kind shape shift first).2.2.2.2 k ∧ (zSy m n E kind shape shift first).2.2.2.2 k < (zSy m n E kind shape shift first).2.1) ∧ eEnt (zH m n first) (zW shape m n first) (zSy m n E kind shape shift first) ∧ (zSy m n E kind shape shift first).2.2.2.1 ≠ 0 ∧ z40 (zSy m n E kind shape shift first).2.2.2.1 := by
  have h1 := eRed_r (zH m n first) (mSys E m n kind shape shift first) hH (zW shape m n first).toNat
  have h2 := h (zW shape m n first) hW (Int.le_refl _)
  rw [show (((zW shape m n first).toNat : Nat) : Int) = zW shape m n first by omega] at h1
  exact ⟨h1.1, h1.2.1, h1.2.2, h2.1, h2.2.1⟩
theorem zShs_r {m n kind W i j c H : Int} {S : eS} (hW : 0 ≤ W ∧ W ≤ 7) (he : eEnt H W S) (hd : z40 S.2.2.2.1) (hl : ∀ k : Int, -1 ≤ S.2.2.2.2 k ∧ S.2.2.2.2 k < H) (hc : c ≤ W) : -7696581394432 ≤ zShs m n kind S W i j c ∧ zShs m n kind S W i j c ≤ 7696581394432 := by
  have := zsum_r (f := fun u => zSh kind i j ((tPlc kind m n u).tdiv n) ((tPlc kind m n u).tmod n) * (if S.2.2.2.2 u < 0 then (if u = c then S.2.2.2.1 else 0) else if c < 0 then S.1 (S.2.2.2.2 u) W else -S.1 (S.2.2.2.2 u) c)) (B := 1099511627776) (fun u => zs_p (zSh_r _ _ _ _ _) (by
    have h1 := hl u
    split
    · split <;> omega
    · split
      · have := he (S.2.2.2.2 u) W (by omega) (by omega) (by omega) (by omega); omega
      · have := he (S.2.2.2.2 u) c (by omega) (by omega) (by omega) (by omega); omega)) W.toNat
  unfold zShs
  omega
set_option maxHeartbeats 4000000 in
set_option maxRecDepth 100000 in
theorem m_X8_setsUp (l : Launch) (D : ga_G) (mo : Nat) (ad : Nat → Nat) (I : Nat → Int) (A : Nat → Int → Int) (e : Int) (hm : (1 ≤ I 3 ∧ I 3 ≤ 3) ∧ 1 ≤ I 4 ∧ I 4 ≤ 3) (he5 : tEn (A 0)) (heq : mEq I A) (hsf : mSafe (I 3) (I 4) A) (h1 : 0 ≤ e ∧ e < I 5) (hft : zFit (I 3) (I 4) (A 11 e)) : mM l D yX8_setsUp (ws_ yX8_setsUp cX8_setsUp 2 none) (gR 5) [.int (iI e)] mo ad I A (mV (fun I1 A1 => mSam I A I1 A1 ∧ mSt I1 A1 (I 3 * I 4) (tCnt (A 11 e) (I 3) (I 4)) (mKd I A e) ∧ ∀ u : Int, 0 ≤ u → u < (tCnt (A 11 e) (I 3) (I 4)) → A1 22 u = tPlc (A 11 e) (I 3) (I 4) u)) := by
  refine mm_met 0 rfl (Nat.le_of_ble_eq_true rfl) (L0 := [some (.ref mo), some (.int (iI e))]) rfl (fun X ok hE => ?_)
  have hmn := mn_r hm
  have hke := heq.2 e h1.1 h1.2
  have hcr := tCnt_r (kind := A 11 e) hmn
  have hsy := hsf (A 11 e) (A 11 e) (A 12 e) 0 hke.1 (Or.inl rfl) hft.1 hke.2 (by omega) (fun z => absurd rfl z) (by rw [zW_0]; exact hft.2)
  refine ga_aload_n (pc := 0) dX8_setsUp_0 rfl ?_
  refine ga_aload_n (pc := 1) dX8_setsUp_1 rfl ?_
  refine mm_g11 (pc := 2) dX8_setsUp_2 ?_
  refine ga_iload_n (pc := 5) dX8_setsUp_5 rfl ?_
  refine mm_ald11 (pc := 6) (x := A 11 e) ok (by omega) (rfl) dX8_setsUp_6 ?_
  refine ga_aload_n (pc := 7) dX8_setsUp_7 rfl ?_
  refine mm_g11 (pc := 8) dX8_setsUp_8 ?_
  refine ga_iload_n (pc := 11) dX8_setsUp_11 rfl ?_
  refine mm_ald11 (pc := 12) (x := A 11 e) ok (by omega) (rfl) dX8_setsUp_12 ?_
  refine ga_aload_n (pc := 13) dX8_setsUp_13 rfl ?_
  refine mm_g12 (pc := 14) dX8_setsUp_14 ?_
  refine ga_iload_n (pc := 17) dX8_setsUp_17 rfl ?_
  refine mm_ald12 (pc := 18) (x := A 12 e) ok (by omega) (rfl) dX8_setsUp_18 ?_
  refine ga_iconst (pc := 19) dX8_setsUp_19 ?_
  refine k_X8_sets (pc := 20) (kind := (A 11 e)) (shape := (A 11 e)) (shift := (A 12 e)) (first := 0) (H := (I 3 * I 4)) (W := (tCnt (A 11 e) (I 3) (I 4))) (T := (mSys A (I 3) (I 4) (A 11 e) (A 11 e) (A 12 e) 0)) ok (by first | exact hm | omega) (by first | exact he5 | omega) (by first | exact h1 | omega) (by omega) (by rw [tCnt_e, if_pos rfl]; omega) (fun p q p0 p1 q0 => ⟨fun q1 => by unfold mSys; rw [if_pos rfl, if_pos (by omega)]; congr 1; exact (tPlc_e _ _ _ _ (by omega) (by omega)).symm, fun q1 => by unfold mSys; rw [if_pos rfl, if_neg (by omega)]⟩) (by rw [zH_0, zW_0] at hsy; exact hsy) ⟨Nat.le_of_ble_eq_true rfl, Nat.le_of_ble_eq_true rfl⟩ (Nat.le_of_ble_eq_true rfl) dX8_setsUp_20 (fun I20 A20 hp20 => ?_)
  exact mm_vret hE dX8_setsUp_23 (⟨rfl, by dsimp only; refine ⟨hp20.1, ?_, fun u u0 u1 => by rw [hp20.2.2]; exact tPlc_e _ _ _ _ u0 u1⟩; have z := hp20.2.1; unfold mKd zSy; rw [zH_0, zW_0]; exact z⟩)
theorem k_X8_setsUp {X : ga_X} {nL : Nat} {cc : ByteArray} {mo : Nat} {ad : Nat → Nat} {I : Nat → Int} {A : Nat → Int → Int} {d pc : Nat} {L : List (Option Value)} {st : List Value} {e : Int}  (ok : mOk mo ad) (hm : (1 ≤ I 3 ∧ I 3 ≤ 3) ∧ 1 ≤ I 4 ∧ I 4 ≤ 3) (he5 : tEn (A 0)) (heq : mEq I A) (hsf : mSafe (I 3) (I 4) A) (h1 : 0 ≤ e ∧ e < I 5) (hft : zFit (I 3) (I 4) (A 11 e))  (hR : 5 + 1 ≤ d ∧ 19 + 2 + 64 * 5 ≤ 64 * d) (hs : (st.map fun v => v.category).sum ≤ 8) (dd : decode cc pc = .ok (.invokevirtual 262, 3)) (kk : ∀ (I1 : Nat → Int) (A1 : Nat → Int → Int), (mSam I A I1 A1 ∧ mSt I1 A1 (I 3 * I 4) (tCnt (A 11 e) (I 3) (I 4)) (mKd I A e) ∧ ∀ u : Int, 0 ≤ u → u < (tCnt (A 11 e) (I 3) (I 4)) → A1 22 u = tPlc (A 11 e) (I 3) (I 4) u) → G X (gR d) RX8 nL cc (mH mo ad I1 A1) 0 0 (pc + 3) L st) : G X (gR d) RX8 nL cc (mH mo ad I A) 0 0 pc L (.int (iI e) :: .ref mo :: st) :=
  mm_run ok (m_X8_setsUp _ _ mo ad I A e hm he5 heq hsf h1 hft) (lw_V q1874 q1876 qs65 q113 q1877) rfl (show ga_nn' yX8_setsUp 1 from (by unfold ga_nn'; decide +kernel)) hR hs dd rfl (fun v I1 A1 hp => by
    obtain ⟨rfl, hp⟩ := hp
    exact kk I1 A1 hp)
set_option maxHeartbeats 4000000 in
set_option maxRecDepth 100000 in
theorem m_X8_isPart (l : Launch) (D : ga_G) (mo : Nat) (ad : Nat → Nat) (I : Nat → Int) (A : Nat → Int → Int) (e i j part : Int) (hm : (1 ≤ I 3 ∧ I 3 ≤ 3) ∧ 1 ≤ I 4 ∧ I 4 ≤ 3) (hq : 0 ≤ I 5 ∧ I 5 ≤ 6) (h1 : (-2147483648 ≤ e ∧ e < 2147483648) ∧ (-2147483648 ≤ i ∧ i < 2147483648) ∧ (-2147483648 ≤ j ∧ j < 2147483648) ∧ (-2147483648 ≤ part ∧ part < 2147483648)) : mM l D yX8_isPart (ws_ yX8_isPart cX8_isPart 5 (some .boolean)) (gR 2) [.int (iI e), .int (iI i), .int (iI j), .int (iI part)] mo ad I A (mI (fun r I1 A1 => r = (bI (mPrt I e i j part)) ∧ I1 = I ∧ A1 = A)) := by
  refine mm_met 0 rfl (Nat.le_of_ble_eq_true rfl) (L0 := [some (.ref mo), some (.int (iI e)), some (.int (iI i)), some (.int (iI j)), some (.int (iI part))]) rfl (fun X ok hE => ?_)
  refine ga_aload_n (pc := 0) dX8_isPart_0 rfl ?_
  refine ga_iload_n (pc := 1) dX8_isPart_1 rfl ?_
  refine k_X8_isEquation (pc := 2) (e := e) ok (by first | exact hq | omega) (by first | exact h1 | omega) (rfl) ⟨Nat.le_of_ble_eq_true rfl, Nat.le_of_ble_eq_true rfl⟩ (Nat.le_of_ble_eq_true rfl) dX8_isPart_2 ?_
  refine ga_ifb_eq (pc := 5) (tgt := 55) dX8_isPart_5 rfl (fun c5 => ?_) (fun c5 => ?_)
  · skip
    refine ga_iconst (pc := 55) dX8_isPart_55 ?_
    exact mm_zret hE dX8_isPart_56 (by first | exact Or.inl rfl | exact Or.inr rfl) (⟨_, rfl, (bI_f (by omega)).symm, rfl, rfl⟩)
  · skip
    refine ga_iload_n (pc := 8) dX8_isPart_8 rfl ?_
    refine ga_i2l (pc := 9) dX8_isPart_9 (by omega) ?_
    refine ga_lconst (pc := 10) 0 dX8_isPart_10 rfl ?_
    refine ga_aload_n (pc := 11) dX8_isPart_11 rfl ?_
    refine mm_g3 (pc := 12) (z := I 3) rfl dX8_isPart_12 ?_
    refine ga_iconst (pc := 15) dX8_isPart_15 ?_
    refine ga_isub (pc := 16) dX8_isPart_16 ?_
    refine ga_i2l (pc := 17) dX8_isPart_17 (by omega) ?_
    refine k_X8_in (pc := 18) (a := i) (b := 0) (c := ((I 3) - 1)) (by omega) (rfl) ⟨Nat.le_of_ble_eq_true rfl, Nat.le_of_ble_eq_true rfl⟩ ⟨Nat.le_of_ble_eq_true rfl, Nat.le_of_ble_eq_true rfl⟩ (Nat.le_of_ble_eq_true rfl) dX8_isPart_18 ?_
    refine ga_ifb_eq (pc := 21) (tgt := 55) dX8_isPart_21 rfl (fun c21 => ?_) (fun c21 => ?_)
    · skip
      refine ga_iconst (pc := 55) dX8_isPart_55 ?_
      exact mm_zret hE dX8_isPart_56 (by first | exact Or.inl rfl | exact Or.inr rfl) (⟨_, rfl, (bI_f (by omega)).symm, rfl, rfl⟩)
    · skip
      refine ga_iload_n (pc := 24) dX8_isPart_24 rfl ?_
      refine ga_i2l (pc := 25) dX8_isPart_25 (by omega) ?_
      refine ga_lconst (pc := 26) 0 dX8_isPart_26 rfl ?_
      refine ga_aload_n (pc := 27) dX8_isPart_27 rfl ?_
      refine mm_g4 (pc := 28) (z := I 4) rfl dX8_isPart_28 ?_
      refine ga_iconst (pc := 31) dX8_isPart_31 ?_
      refine ga_isub (pc := 32) dX8_isPart_32 ?_
      refine ga_i2l (pc := 33) dX8_isPart_33 (by omega) ?_
      refine k_X8_in (pc := 34) (a := j) (b := 0) (c := ((I 4) - 1)) (by omega) (rfl) ⟨Nat.le_of_ble_eq_true rfl, Nat.le_of_ble_eq_true rfl⟩ ⟨Nat.le_of_ble_eq_true rfl, Nat.le_of_ble_eq_true rfl⟩ (Nat.le_of_ble_eq_true rfl) dX8_isPart_34 ?_
      refine ga_ifb_eq (pc := 37) (tgt := 55) dX8_isPart_37 rfl (fun c37 => ?_) (fun c37 => ?_)
      · skip
        refine ga_iconst (pc := 55) dX8_isPart_55 ?_
        exact mm_zret hE dX8_isPart_56 (by first | exact Or.inl rfl | exact Or.inr rfl) (⟨_, rfl, (bI_f (by omega)).symm, rfl, rfl⟩)
      · skip
        refine ga_iload (pc := 40) dX8_isPart_40 rfl ?_
        refine ga_i2l (pc := 42) dX8_isPart_42 (by omega) ?_
        refine ga_lconst (pc := 43) 0 dX8_isPart_43 rfl ?_
        refine ga_lconst (pc := 44) 1 dX8_isPart_44 rfl ?_
        refine k_X8_in (pc := 45) (a := part) (b := 0) (c := 1) (by omega) (rfl) ⟨Nat.le_of_ble_eq_true rfl, Nat.le_of_ble_eq_true rfl⟩ ⟨Nat.le_of_ble_eq_true rfl, Nat.le_of_ble_eq_true rfl⟩ (Nat.le_of_ble_eq_true rfl) dX8_isPart_45 ?_
        refine ga_ifb_eq (pc := 48) (tgt := 55) dX8_isPart_48 rfl (fun c48 => ?_) (fun c48 => ?_)
        · skip
          refine ga_iconst (pc := 55) dX8_isPart_55 ?_
          exact mm_zret hE dX8_isPart_56 (by first | exact Or.inl rfl | exact Or.inr rfl) (⟨_, rfl, (bI_f (by omega)).symm, rfl, rfl⟩)
        · skip
          refine ga_iconst (pc := 51) dX8_isPart_51 ?_
          refine ga_goto (pc := 52) (tgt := 56) dX8_isPart_52 rfl ?_
          exact mm_zret hE dX8_isPart_56 (by first | exact Or.inl rfl | exact Or.inr rfl) (⟨_, rfl, (bI_t (by omega)).symm, rfl, rfl⟩)
theorem k_X8_isPart {X : ga_X} {nL : Nat} {cc : ByteArray} {mo : Nat} {ad : Nat → Nat} {I : Nat → Int} {A : Nat → Int → Int} {d pc : Nat} {L : List (Option Value)} {st : List Value} {e i j part : Int} {z : Int} (ok : mOk mo ad) (hm : (1 ≤ I 3 ∧ I 3 ≤ 3) ∧ 1 ≤ I 4 ∧ I 4 ≤ 3) (hq : 0 ≤ I 5 ∧ I 5 ≤ 6) (h1 : (-2147483648 ≤ e ∧ e < 2147483648) ∧ (-2147483648 ≤ i ∧ i < 2147483648) ∧ (-2147483648 ≤ j ∧ j < 2147483648) ∧ (-2147483648 ≤ part ∧ part < 2147483648)) (hz : (bI (mPrt I e i j part)) = z) (hR : 2 + 1 ≤ d ∧ 19 + 5 + 64 * 2 ≤ 64 * d) (hs : (st.map fun v => v.category).sum ≤ 8) (dd : decode cc pc = .ok (.invokevirtual 274, 3)) (kk : G X (gR d) RX8 nL cc (mH mo ad I A) 0 0 (pc + 3) L (.int (iI z) :: st)) : G X (gR d) RX8 nL cc (mH mo ad I A) 0 0 pc L (.int (iI part) :: .int (iI j) :: .int (iI i) :: .int (iI e) :: .ref mo :: st) :=
  mm_run ok (m_X8_isPart _ _ mo ad I A e i j part hm hq h1) (lw_V q1925 q1927 qs75 q113 q1928) rfl (show ga_nn' yX8_isPart 4 from (by unfold ga_nn'; decide +kernel)) hR hs dd rfl (fun v I1 A1 hp => by
    obtain ⟨r, rfl, hp⟩ := hp
    obtain ⟨e1, rfl, rfl⟩ := hp
    subst hz
    rw [e1]
    exact kk)
set_option maxHeartbeats 4000000 in
set_option maxRecDepth 100000 in
theorem m_X8_right (l : Launch) (D : ga_G) (mo : Nat) (ad : Nat → Nat) (I : Nat → Int) (A : Nat → Int → Int) (e i j : Int) (hm : (1 ≤ I 3 ∧ I 3 ≤ 3) ∧ 1 ≤ I 4 ∧ I 4 ≤ 3) (he5 : tEn (A 0)) (heq : mEq I A) (h1 : (-2147483648 ≤ e ∧ e < 2147483648) ∧ (-2147483648 ≤ i ∧ i < 2147483648) ∧ (-2147483648 ≤ j ∧ j < 2147483648)) : mM l D yX8_right (ws_ yX8_right cX8_right 4 (some .long)) (gR 2) [.int (iI e), .int (iI i), .int (iI j)] mo ad I A (mL (fun r I1 A1 => r = (mRgt I A e i j) ∧ I1 = I ∧ A1 = A)) := by
  refine mm_met 0 rfl (Nat.le_of_ble_eq_true rfl) (L0 := [some (.ref mo), some (.int (iI e)), some (.int (iI i)), some (.int (iI j))]) rfl (fun X ok hE => ?_)
  refine ga_aload_n (pc := 0) dX8_right_0 rfl ?_
  refine ga_iload_n (pc := 1) dX8_right_1 rfl ?_
  refine k_X8_isEquation (pc := 2) (e := e) ok (by first | exact hq | omega) (by first | exact h1 | omega) (rfl) ⟨Nat.le_of_ble_eq_true rfl, Nat.le_of_ble_eq_true rfl⟩ (Nat.le_of_ble_eq_true rfl) dX8_right_2 ?_
  refine ga_ifb_eq (pc := 5) (tgt := 40) dX8_right_5 rfl (fun c5 => ?_) (fun c5 => ?_)
  · skip
    refine ga_iconst (pc := 40) dX8_right_40 ?_
    refine k_X8_told (pc := 41) (a := (-1)) (by omega) (rfl) ⟨Nat.le_of_ble_eq_true rfl, Nat.le_of_ble_eq_true rfl⟩ ⟨Nat.le_of_ble_eq_true rfl, Nat.le_of_ble_eq_true rfl⟩ (Nat.le_of_ble_eq_true rfl) dX8_right_41 ?_
    exact mm_lret hE dX8_right_44 (⟨_, rfl, by unfold mRgt; rw [if_neg (by omega)]; rfl, rfl, rfl⟩)
  · skip
    refine ga_iload_n (pc := 8) dX8_right_8 rfl ?_
    refine ga_i2l (pc := 9) dX8_right_9 (by omega) ?_
    refine ga_lconst (pc := 10) 0 dX8_right_10 rfl ?_
    refine ga_aload_n (pc := 11) dX8_right_11 rfl ?_
    refine mm_g4 (pc := 12) (z := I 4) rfl dX8_right_12 ?_
    refine ga_iconst (pc := 15) dX8_right_15 ?_
    refine ga_isub (pc := 16) dX8_right_16 ?_
    refine ga_i2l (pc := 17) dX8_right_17 (by omega) ?_
    refine k_X8_in (pc := 18) (a := i) (b := 0) (c := ((I 4) - 1)) (by omega) (rfl) ⟨Nat.le_of_ble_eq_true rfl, Nat.le_of_ble_eq_true rfl⟩ ⟨Nat.le_of_ble_eq_true rfl, Nat.le_of_ble_eq_true rfl⟩ (Nat.le_of_ble_eq_true rfl) dX8_right_18 ?_
    refine ga_ifb_eq (pc := 21) (tgt := 40) dX8_right_21 rfl (fun c21 => ?_) (fun c21 => ?_)
    · skip
      refine ga_iconst (pc := 40) dX8_right_40 ?_
      refine k_X8_told (pc := 41) (a := (-1)) (by omega) (rfl) ⟨Nat.le_of_ble_eq_true rfl, Nat.le_of_ble_eq_true rfl⟩ ⟨Nat.le_of_ble_eq_true rfl, Nat.le_of_ble_eq_true rfl⟩ (Nat.le_of_ble_eq_true rfl) dX8_right_41 ?_
      exact mm_lret hE dX8_right_44 (⟨_, rfl, by unfold mRgt; rw [if_neg (by omega)]; rfl, rfl, rfl⟩)
    · skip
      refine ga_iload_n (pc := 24) dX8_right_24 rfl ?_
      refine ga_i2l (pc := 25) dX8_right_25 (by omega) ?_
      refine ga_lconst (pc := 26) 0 dX8_right_26 rfl ?_
      refine ga_aload_n (pc := 27) dX8_right_27 rfl ?_
      refine mm_g4 (pc := 28) (z := I 4) rfl dX8_right_28 ?_
      refine ga_iconst (pc := 31) dX8_right_31 ?_
      refine ga_isub (pc := 32) dX8_right_32 ?_
      refine ga_i2l (pc := 33) dX8_right_33 (by omega) ?_
      refine k_X8_in (pc := 34) (a := j) (b := 0) (c := ((I 4) - 1)) (by omega) (rfl) ⟨Nat.le_of_ble_eq_true rfl, Nat.le_of_ble_eq_true rfl⟩ ⟨Nat.le_of_ble_eq_true rfl, Nat.le_of_ble_eq_true rfl⟩ (Nat.le_of_ble_eq_true rfl) dX8_right_34 ?_
      refine ga_ifb_ne (pc := 37) (tgt := 45) dX8_right_37 rfl (fun c37 => ?_) (fun c37 => ?_)
      · skip
        have hke := heq.2 e (by omega) (by omega)
        refine ga_aload_n (pc := 45) dX8_right_45 rfl ?_
        refine ga_aload_n (pc := 46) dX8_right_46 rfl ?_
        refine mm_g11 (pc := 47) dX8_right_47 ?_
        refine ga_iload_n (pc := 50) dX8_right_50 rfl ?_
        refine mm_ald11 (pc := 51) (x := A 11 e) ok (by omega) (rfl) dX8_right_51 ?_
        refine k_X8_isLike (pc := 52) (k := (A 11 e)) ok (by first | exact hm | omega) (by first | exact h1 | omega) (rfl) ⟨Nat.le_of_ble_eq_true rfl, Nat.le_of_ble_eq_true rfl⟩ (Nat.le_of_ble_eq_true rfl) dX8_right_52 ?_
        refine ga_ifb_eq (pc := 55) (tgt := 74) dX8_right_55 rfl (fun c55 => ?_) (fun c55 => ?_)
        · skip
          refine ga_bipush (pc := 74) dX8_right_74 rfl ?_
          refine k_X8_told (pc := 76) (a := (-4)) (by omega) (rfl) ⟨Nat.le_of_ble_eq_true rfl, Nat.le_of_ble_eq_true rfl⟩ ⟨Nat.le_of_ble_eq_true rfl, Nat.le_of_ble_eq_true rfl⟩ (Nat.le_of_ble_eq_true rfl) dX8_right_76 ?_
          exact mm_lret hE dX8_right_79 (⟨_, rfl, by unfold mRgt; rw [if_pos (by omega)]; first | (rw [if_pos (by omega)]) | (rw [if_neg (by omega)]; rfl), rfl, rfl⟩)
        · skip
          refine ga_aload_n (pc := 58) dX8_right_58 rfl ?_
          refine ga_aload_n (pc := 59) dX8_right_59 rfl ?_
          refine mm_g11 (pc := 60) dX8_right_60 ?_
          refine ga_iload_n (pc := 63) dX8_right_63 rfl ?_
          refine mm_ald11 (pc := 64) (x := A 11 e) ok (by omega) (rfl) dX8_right_64 ?_
          refine ga_iload_n (pc := 65) dX8_right_65 rfl ?_
          refine ga_iload_n (pc := 66) dX8_right_66 rfl ?_
          refine k_X8_rightOf (pc := 67) (kind := (A 11 e)) (i := i) (j := j) (z := mRight A (A 11 e) i j) ok (by first | exact h1 | omega) (rfl) ⟨Nat.le_of_ble_eq_true rfl, Nat.le_of_ble_eq_true rfl⟩ (Nat.le_of_ble_eq_true rfl) dX8_right_67 ?_
          have hri : -50 ≤ mRight A (A 11 e) i j ∧ mRight A (A 11 e) i j ≤ 50 := by { have g1 := mE_r he5 1 i j; have g2 := mE_r he5 0 i j; have g3 := mE_r he5 0 j i; unfold mRight; (repeat' split) <;> omega }
          refine ga_i2l (pc := 70) dX8_right_70 (by omega) ?_
          refine ga_goto (pc := 71) (tgt := 79) dX8_right_71 rfl ?_
          exact mm_lret hE dX8_right_79 (⟨_, rfl, by unfold mRgt; rw [if_pos (by omega)]; first | (rw [if_pos (by omega)]) | (rw [if_neg (by omega)]; rfl), rfl, rfl⟩)
      · skip
        refine ga_iconst (pc := 40) dX8_right_40 ?_
        refine k_X8_told (pc := 41) (a := (-1)) (by omega) (rfl) ⟨Nat.le_of_ble_eq_true rfl, Nat.le_of_ble_eq_true rfl⟩ ⟨Nat.le_of_ble_eq_true rfl, Nat.le_of_ble_eq_true rfl⟩ (Nat.le_of_ble_eq_true rfl) dX8_right_41 ?_
        exact mm_lret hE dX8_right_44 (⟨_, rfl, by unfold mRgt; rw [if_neg (by omega)]; rfl, rfl, rfl⟩)
set_option maxHeartbeats 4000000 in
set_option maxRecDepth 100000 in
theorem m_X8_shapedSum (l : Launch) (D : ga_G) (mo : Nat) (ad : Nat → Nat) (I : Nat → Int) (A : Nat → Int → Int) (kind i j c H W : Int) (S : eS) (hm : (1 ≤ I 3 ∧ I 3 ≤ 3) ∧ 1 ≤ I 4 ∧ I 4 ≤ 3) (hst : mSt I A H W S) (hsw : (0 ≤ H ∧ H ≤ 9) ∧ (0 ≤ W ∧ W ≤ 7) ∧ 0 ≤ S.2.1 ∧ S.2.1 ≤ H) (h1 : (0 ≤ kind ∧ kind ≤ 6) ∧ (0 ≤ i ∧ i ≤ 2) ∧ (0 ≤ j ∧ j ≤ 2) ∧ -1 ≤ c ∧ c ≤ 8) (hcw : c < W ∧ W = tCnt kind (I 3) (I 4)) (hlr : ∀ k : Int, -1 ≤ S.2.2.2.2 k ∧ S.2.2.2.2 k < S.2.1) (hpl : ∀ u : Int, 0 ≤ u → u < W → A 22 u = tPlc kind (I 3) (I 4) u) : mM l D yX8_shapedSum (ws_ yX8_shapedSum cX8_shapedSum 11 (some .long)) (gR 1) [.int (iI kind), .int (iI i), .int (iI j), .int (iI c)] mo ad I A (mL (fun r I1 A1 => r = (zShs (I 3) (I 4) kind S W i j c) ∧ I1 = I ∧ A1 = A)) := by
  refine mm_met 6 rfl (Nat.le_of_ble_eq_true rfl) (L0 := [some (.ref mo), some (.int (iI kind)), some (.int (iI i)), some (.int (iI j)), some (.int (iI c)), none, none, none, none, none, none]) rfl (fun X ok hE => ?_)
  have hmn := mn_r hm
  obtain ⟨⟨h26, h27⟩, ⟨h28, h29, h30⟩, hon, hled⟩ := hst
  refine ga_lconst (pc := 0) 0 dX8_shapedSum_0 rfl ?_
  refine ga_lstore (pc := 1) (L1 := [some (.ref mo), some (.int (iI kind)), some (.int (iI i)), some (.int (iI j)), some (.int (iI c)), some (.long (lI 0)), none, none, none, none, none]) dX8_shapedSum_1 rfl (by decide) rfl ?_
  refine ga_iconst (pc := 3) dX8_shapedSum_3 ?_
  refine ga_istore (pc := 4) (L1 := [some (.ref mo), some (.int (iI kind)), some (.int (iI i)), some (.int (iI j)), some (.int (iI c)), some (.long (lI 0)), none, some (.int (iI 0)), none, none, none]) dX8_shapedSum_4 rfl (by decide) rfl ?_
  have lp6 : ∀ (N6 : Nat) (v u : Int), (0 ≤ u ∧ u ≤ W) → (v = zsum (fun u => zSh kind i j ((tPlc kind (I 3) (I 4) u).tdiv (I 4)) ((tPlc kind (I 3) (I 4) u).tmod (I 4)) * (if S.2.2.2.2 u < 0 then (if u = c then S.2.2.2.1 else 0) else if c < 0 then S.1 (S.2.2.2.2 u) W else -S.1 (S.2.2.2.2 u) c)) u.toNat) → (W - u).toNat < N6 → G X (gR 1) RX8 11 cX8_shapedSum (mH mo ad I A) 0 0 6 [some (.ref mo), some (.int (iI kind)), some (.int (iI i)), some (.int (iI j)), some (.int (iI c)), some (.long (lI v)), none, some (.int (iI u)), none, none, none] [] := by
    intro N6
    induction N6 with
    | zero => intro v u hu hv hN6; exact absurd hN6 (Nat.not_lt_zero _)
    | succ N6 ih6 =>
      intro v u hu hv hN6
      refine ga_iload (pc := 6) dX8_shapedSum_6 rfl ?_
      refine ga_aload_n (pc := 8) dX8_shapedSum_8 rfl ?_
      refine mm_g27 (pc := 9) (z := I 27) rfl dX8_shapedSum_9 ?_
      refine ga_icmp_ge (pc := 12) (tgt := 141) dX8_shapedSum_12 rfl (by omega) (by omega) (fun c12 => ?_) (fun c12 => ?_)
      · skip
        refine ga_lload (pc := 141) dX8_shapedSum_141 rfl ?_
        exact mm_lret hE dX8_shapedSum_143 (⟨_, rfl, by unfold zShs; rw [hv, show u = W by omega], rfl, rfl⟩)
      · skip
        have hp1 := tPlc_r (kind := kind) hmn (show 0 ≤ u by omega) (by omega)
        have hp2 := dm_r hm hp1
        have hl1 := hlr u
        refine ga_iload_n (pc := 15) dX8_shapedSum_15 rfl ?_
        refine ga_iload_n (pc := 16) dX8_shapedSum_16 rfl ?_
        refine ga_iload_n (pc := 17) dX8_shapedSum_17 rfl ?_
        refine ga_aload_n (pc := 18) dX8_shapedSum_18 rfl ?_
        refine mm_g22 (pc := 19) dX8_shapedSum_19 ?_
        refine ga_iload (pc := 22) dX8_shapedSum_22 rfl ?_
        refine mm_ald22 (pc := 24) (x := tPlc kind (I 3) (I 4) u) ok (by omega) (hpl u (by omega) (by omega)) dX8_shapedSum_24 ?_
        refine ga_aload_n (pc := 25) dX8_shapedSum_25 rfl ?_
        refine mm_g4 (pc := 26) (z := I 4) rfl dX8_shapedSum_26 ?_
        refine ga_idiv (pc := 29) dX8_shapedSum_29 (by omega) (by omega) (by omega) ?_
        refine ga_aload_n (pc := 30) dX8_shapedSum_30 rfl ?_
        refine mm_g22 (pc := 31) dX8_shapedSum_31 ?_
        refine ga_iload (pc := 34) dX8_shapedSum_34 rfl ?_
        refine mm_ald22 (pc := 36) (x := tPlc kind (I 3) (I 4) u) ok (by omega) (hpl u (by omega) (by omega)) dX8_shapedSum_36 ?_
        refine ga_aload_n (pc := 37) dX8_shapedSum_37 rfl ?_
        refine mm_g4 (pc := 38) (z := I 4) rfl dX8_shapedSum_38 ?_
        refine ga_irem (pc := 41) dX8_shapedSum_41 (by omega) (by omega) (by omega) ?_
        refine k_X8_shaped (pc := 42) (kind := kind) (i := i) (j := j) (p := ((tPlc kind (I 3) (I 4) u).tdiv (I 4))) (q := ((tPlc kind (I 3) (I 4) u).tmod (I 4))) (by omega) (rfl) ⟨Nat.le_of_ble_eq_true rfl, Nat.le_of_ble_eq_true rfl⟩ ⟨Nat.le_of_ble_eq_true rfl, Nat.le_of_ble_eq_true rfl⟩ (Nat.le_of_ble_eq_true rfl) dX8_shapedSum_42 ?_
        refine ga_istore (pc := 45) (L1 := [some (.ref mo), some (.int (iI kind)), some (.int (iI i)), some (.int (iI j)), some (.int (iI c)), some (.long (lI v)), none, some (.int (iI u)), some (.int (iI (zSh kind i j ((tPlc kind (I 3) (I 4) u).tdiv (I 4)) ((tPlc kind (I 3) (I 4) u).tmod (I 4))))), none, none]) dX8_shapedSum_45 rfl (by decide) rfl ?_
        have jn122 : ∀ (x : Int), (x = if S.2.2.2.2 u < 0 then (if u = c then S.2.2.2.1 else 0) else if c < 0 then S.1 (S.2.2.2.2 u) W else -S.1 (S.2.2.2.2 u) c) → G X (gR 1) RX8 11 cX8_shapedSum (mH mo ad I A) 0 0 122 [some (.ref mo), some (.int (iI kind)), some (.int (iI i)), some (.int (iI j)), some (.int (iI c)), some (.long (lI v)), none, some (.int (iI u)), some (.int (iI (zSh kind i j ((tPlc kind (I 3) (I 4) u).tdiv (I 4)) ((tPlc kind (I 3) (I 4) u).tmod (I 4))))), none, none] [.long (lI x)] := by
          intro x hx
          refine ga_lstore (pc := 122) (L1 := [some (.ref mo), some (.int (iI kind)), some (.int (iI i)), some (.int (iI j)), some (.int (iI c)), some (.long (lI v)), none, some (.int (iI u)), some (.int (iI (zSh kind i j ((tPlc kind (I 3) (I 4) u).tdiv (I 4)) ((tPlc kind (I 3) (I 4) u).tmod (I 4))))), some (.long (lI x)), none]) dX8_shapedSum_122 rfl (by decide) rfl ?_
          refine ga_lload (pc := 124) dX8_shapedSum_124 rfl ?_
          refine ga_iload (pc := 126) dX8_shapedSum_126 rfl ?_
          have hz1 := zSh_r kind i j ((tPlc kind (I 3) (I 4) u).tdiv (I 4)) ((tPlc kind (I 3) (I 4) u).tmod (I 4))
          refine ga_i2l (pc := 128) dX8_shapedSum_128 (by omega) ?_
          refine ga_lload (pc := 129) dX8_shapedSum_129 rfl ?_
          refine ga_lmul (pc := 131) dX8_shapedSum_131 ?_
          refine ga_ladd (pc := 132) dX8_shapedSum_132 ?_
          refine ga_lstore (pc := 133) (L1 := [some (.ref mo), some (.int (iI kind)), some (.int (iI i)), some (.int (iI j)), some (.int (iI c)), some (.long (lI (v + ((zSh kind i j ((tPlc kind (I 3) (I 4) u).tdiv (I 4)) ((tPlc kind (I 3) (I 4) u).tmod (I 4))) * x)))), none, some (.int (iI u)), some (.int (iI (zSh kind i j ((tPlc kind (I 3) (I 4) u).tdiv (I 4)) ((tPlc kind (I 3) (I 4) u).tmod (I 4))))), some (.long (lI x)), none]) dX8_shapedSum_133 rfl (by decide) rfl ?_
          refine ga_iinc (pc := 135) (L1 := [some (.ref mo), some (.int (iI kind)), some (.int (iI i)), some (.int (iI j)), some (.int (iI c)), some (.long (lI (v + ((zSh kind i j ((tPlc kind (I 3) (I 4) u).tdiv (I 4)) ((tPlc kind (I 3) (I 4) u).tmod (I 4))) * x)))), none, some (.int (iI (u + 1))), some (.int (iI (zSh kind i j ((tPlc kind (I 3) (I 4) u).tdiv (I 4)) ((tPlc kind (I 3) (I 4) u).tmod (I 4))))), some (.long (lI x)), none]) dX8_shapedSum_135 rfl rfl (by decide) rfl ?_
          refine ga_goto (pc := 138) (tgt := 6) dX8_shapedSum_138 rfl ?_
          refine ga_kill (pc := 6) 8 (L1 := [some (.ref mo), some (.int (iI kind)), some (.int (iI i)), some (.int (iI j)), some (.int (iI c)), some (.long (lI (v + ((zSh kind i j ((tPlc kind (I 3) (I 4) u).tdiv (I 4)) ((tPlc kind (I 3) (I 4) u).tmod (I 4))) * x)))), none, some (.int (iI (u + 1))), none, some (.long (lI x)), none]) rfl ?_
          refine ga_kill (pc := 6) 9 (L1 := [some (.ref mo), some (.int (iI kind)), some (.int (iI i)), some (.int (iI j)), some (.int (iI c)), some (.long (lI (v + ((zSh kind i j ((tPlc kind (I 3) (I 4) u).tdiv (I 4)) ((tPlc kind (I 3) (I 4) u).tmod (I 4))) * x)))), none, some (.int (iI (u + 1))), none, none, none]) rfl ?_
          exact ih6 (v + ((zSh kind i j ((tPlc kind (I 3) (I 4) u).tdiv (I 4)) ((tPlc kind (I 3) (I 4) u).tmod (I 4))) * x)) (u + 1) (by omega) (by rw [zsum_s _ hu.1, hv, hx]) (by omega)
        refine ga_aload_n (pc := 47) dX8_shapedSum_47 rfl ?_
        refine mm_g25 (pc := 48) dX8_shapedSum_48 ?_
        refine ga_iload (pc := 51) dX8_shapedSum_51 rfl ?_
        refine mm_ald25 (pc := 53) (x := S.2.2.2.2 u) ok (by omega) (hled u (by omega) (by omega)) dX8_shapedSum_53 ?_
        refine ga_if_ge (pc := 54) (tgt := 75) dX8_shapedSum_54 rfl (by omega) (fun c54 => ?_) (fun c54 => ?_)
        · skip
          refine ga_iload (pc := 75) dX8_shapedSum_75 rfl ?_
          refine ga_if_ge (pc := 77) (tgt := 103) dX8_shapedSum_77 rfl (by omega) (fun c77 => ?_) (fun c77 => ?_)
          · skip
            refine ga_aload_n (pc := 103) dX8_shapedSum_103 rfl ?_
            refine mm_g23 (pc := 104) dX8_shapedSum_104 ?_
            refine ga_bipush (pc := 107) dX8_shapedSum_107 rfl ?_
            refine ga_aload_n (pc := 109) dX8_shapedSum_109 rfl ?_
            refine mm_g25 (pc := 110) dX8_shapedSum_110 ?_
            refine ga_iload (pc := 113) dX8_shapedSum_113 rfl ?_
            refine mm_ald25 (pc := 115) (x := S.2.2.2.2 u) ok (by omega) (hled u (by omega) (by omega)) dX8_shapedSum_115 ?_
            refine ga_imul (pc := 116) dX8_shapedSum_116 ?_
            refine ga_iload (pc := 117) dX8_shapedSum_117 rfl ?_
            refine ga_iadd (pc := 119) dX8_shapedSum_119 ?_
            refine mm_ald23 (pc := 120) (x := S.1 (S.2.2.2.2 u) c) ok (by omega) (hon _ _ (by omega) (by omega) (by omega) (by omega)) dX8_shapedSum_120 ?_
            refine ga_lneg (pc := 121) dX8_shapedSum_121 ?_
            exact jn122 (-(S.1 (S.2.2.2.2 u) c)) (by first | (rw [if_pos (by omega), if_pos (by omega)]; omega) | (rw [if_pos (by omega), if_neg (by omega)]) | (rw [if_neg (by omega), if_pos (by omega)]) | (rw [if_neg (by omega), if_neg (by omega)]))
          · skip
            refine ga_aload_n (pc := 80) dX8_shapedSum_80 rfl ?_
            refine mm_g23 (pc := 81) dX8_shapedSum_81 ?_
            refine ga_bipush (pc := 84) dX8_shapedSum_84 rfl ?_
            refine ga_aload_n (pc := 86) dX8_shapedSum_86 rfl ?_
            refine mm_g25 (pc := 87) dX8_shapedSum_87 ?_
            refine ga_iload (pc := 90) dX8_shapedSum_90 rfl ?_
            refine mm_ald25 (pc := 92) (x := S.2.2.2.2 u) ok (by omega) (hled u (by omega) (by omega)) dX8_shapedSum_92 ?_
            refine ga_imul (pc := 93) dX8_shapedSum_93 ?_
            refine ga_aload_n (pc := 94) dX8_shapedSum_94 rfl ?_
            refine mm_g27 (pc := 95) (z := I 27) rfl dX8_shapedSum_95 ?_
            refine ga_iadd (pc := 98) dX8_shapedSum_98 ?_
            refine mm_ald23 (pc := 99) (x := S.1 (S.2.2.2.2 u) W) ok (by omega) (by rw [h27]; exact hon _ _ (by omega) (by omega) (by omega) (by omega)) dX8_shapedSum_99 ?_
            refine ga_goto (pc := 100) (tgt := 122) dX8_shapedSum_100 rfl ?_
            exact jn122 (S.1 (S.2.2.2.2 u) W) (by first | (rw [if_pos (by omega), if_pos (by omega)]; omega) | (rw [if_pos (by omega), if_neg (by omega)]) | (rw [if_neg (by omega), if_pos (by omega)]) | (rw [if_neg (by omega), if_neg (by omega)]))
        · skip
          refine ga_iload (pc := 57) dX8_shapedSum_57 rfl ?_
          refine ga_iload (pc := 59) dX8_shapedSum_59 rfl ?_
          refine ga_icmp_ne (pc := 61) (tgt := 71) dX8_shapedSum_61 rfl (by omega) (by omega) (fun c61 => ?_) (fun c61 => ?_)
          · skip
            refine ga_lconst (pc := 71) 0 dX8_shapedSum_71 rfl ?_
            refine ga_goto (pc := 72) (tgt := 122) dX8_shapedSum_72 rfl ?_
            exact jn122 0 (by first | (rw [if_pos (by omega), if_pos (by omega)]; omega) | (rw [if_pos (by omega), if_neg (by omega)]) | (rw [if_neg (by omega), if_pos (by omega)]) | (rw [if_neg (by omega), if_neg (by omega)]))
          · skip
            refine ga_aload_n (pc := 64) dX8_shapedSum_64 rfl ?_
            refine mm_g30 (pc := 65) (z := I 30) rfl dX8_shapedSum_65 ?_
            refine ga_goto (pc := 68) (tgt := 122) dX8_shapedSum_68 rfl ?_
            exact jn122 (I 30) (by first | (rw [if_pos (by omega), if_pos (by omega)]; omega) | (rw [if_pos (by omega), if_neg (by omega)]) | (rw [if_neg (by omega), if_pos (by omega)]) | (rw [if_neg (by omega), if_neg (by omega)]))
  exact lp6 _ 0 0 (by omega) (rfl) (Nat.lt_succ_self _)
theorem k_X8_shapedSum {X : ga_X} {nL : Nat} {cc : ByteArray} {mo : Nat} {ad : Nat → Nat} {I : Nat → Int} {A : Nat → Int → Int} {d pc : Nat} {L : List (Option Value)} {st : List Value} {kind i j c H W : Int} {S : eS} {z : Int} (ok : mOk mo ad) (hm : (1 ≤ I 3 ∧ I 3 ≤ 3) ∧ 1 ≤ I 4 ∧ I 4 ≤ 3) (hst : mSt I A H W S) (hsw : (0 ≤ H ∧ H ≤ 9) ∧ (0 ≤ W ∧ W ≤ 7) ∧ 0 ≤ S.2.1 ∧ S.2.1 ≤ H) (h1 : (0 ≤ kind ∧ kind ≤ 6) ∧ (0 ≤ i ∧ i ≤ 2) ∧ (0 ≤ j ∧ j ≤ 2) ∧ -1 ≤ c ∧ c ≤ 8) (hcw : c < W ∧ W = tCnt kind (I 3) (I 4)) (hlr : ∀ k : Int, -1 ≤ S.2.2.2.2 k ∧ S.2.2.2.2 k < S.2.1) (hpl : ∀ u : Int, 0 ≤ u → u < W → A 22 u = tPlc kind (I 3) (I 4) u) (hz : (zShs (I 3) (I 4) kind S W i j c) = z) (hR : 1 + 1 ≤ d ∧ 19 + 11 + 64 * 1 ≤ 64 * d) (hs : (st.map fun v => v.category).sum ≤ 8) (dd : decode cc pc = .ok (.invokevirtual 278, 3)) (kk : G X (gR d) RX8 nL cc (mH mo ad I A) 0 0 (pc + 3) L (.long (lI z) :: st)) : G X (gR d) RX8 nL cc (mH mo ad I A) 0 0 pc L (.int (iI c) :: .int (iI j) :: .int (iI i) :: .int (iI kind) :: .ref mo :: st) :=
  mm_run ok (m_X8_shapedSum _ _ mo ad I A kind i j c H W S hm hst hsw h1 hcw hlr hpl) (lw_V q1929 q1931 qs76 q113 q1932) rfl (show ga_nn' yX8_shapedSum 4 from (by unfold ga_nn'; decide +kernel)) hR hs dd rfl (fun v I1 A1 hp => by
    obtain ⟨r, rfl, hp⟩ := hp
    obtain ⟨e1, rfl, rfl⟩ := hp
    subst hz
    rw [e1]
    exact kk)
