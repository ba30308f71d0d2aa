/-! THE REFERENCE: systems -/
/-- all that is seen later on is as it was -/
def mSam (I : Nat → Int) (A : Nat → Int → Int) (I1 : Nat → Int) (A1 : Nat → Int → Int) : Prop := (∀ k : Nat, k ∉ [18, 19, 20, 21, 26, 27, 28, 29, 30] → I1 k = I k) ∧ ∀ k : Nat, k ∉ [22, 23, 24, 25, 31, 32, 33, 37] → A1 k = A k
theorem mSam.refl (I : Nat → Int) (A : Nat → Int → Int) : mSam I A I A := ⟨fun _ _ => rfl, fun _ _ => rfl⟩
theorem mSam.trans {I I1 I2 : Nat → Int} {A A1 A2 : Nat → Int → Int} (h : mSam I A I1 A1) (g : mSam I1 A1 I2 A2) : mSam I A I2 A2 := ⟨fun k hk => (g.1 k hk).trans (h.1 k hk), fun k hk => (g.2 k hk).trans (h.2 k hk)⟩
theorem mSam.uI {I I1 : Nat → Int} {A A1 : Nat → Int → Int} (h : mSam I A I1 A1) {k : Nat} {z : Int} (hk : k ∈ [18, 19, 20, 21, 26, 27, 28, 29, 30]) : mSam I A (uN I1 k z) A1 := ⟨fun j hj => (uN_n I1 z (fun q => hj (by rw [q]; exact hk))).trans (h.1 j hj), h.2⟩
theorem mSam.uA {I I1 : Nat → Int} {A A1 : Nat → Int → Int} (h : mSam I A I1 A1) {k : Nat} {f : Int → Int} (hk : k ∈ [22, 23, 24, 25, 31, 32, 33, 37]) : mSam I A I1 (uN A1 k f) := ⟨h.1, fun j hj => (uN_n A1 f (fun q => hj (by rw [q]; exact hk))).trans (h.2 j hj)⟩
/-- what stands in the fields of a system that was worked out -/
abbrev mSt (I : Nat → Int) (A : Nat → Int → Int) (H W : Int) (S : eS) : Prop := (I 26 = H ∧ I 27 = W) ∧ (I 28 = S.2.1 ∧ I 29 = S.2.2.1 ∧ I 30 = S.2.2.2.1) ∧ eOn H W 8 (A 23) S.1 ∧ ∀ k : Int, 0 ≤ k → k < W → A 25 k = S.2.2.2.2 k
def eSol (H W : Int) (S : eS) : Prop := ∀ i : Int, S.2.1 ≤ i → i < H → S.1 i W = 0
abbrev eEnt (H W : Int) (S : eS) : Prop := ∀ p q : Int, 0 ≤ p → p < H → 0 ≤ q → q ≤ W → z40 (S.1 p q)
def zFr (led : Int → Int) : Nat → Int
  | 0 => 0
  | u + 1 => zor (zFr led u) (if led u < 0 then zshl 1 u else 0)
theorem zFr_s (led : Int → Int) {u : Int} (h : 0 ≤ u) : zFr led (u + 1).toNat = zor (zFr led u.toNat) (if led u < 0 then zshl 1 u else 0) := by
  rw [show (u + 1).toNat = u.toNat + 1 by omega]
  show zor (zFr led u.toNat) (if led (u.toNat : Nat) < 0 then zshl 1 (u.toNat : Nat) else 0) = _
  rw [show ((u.toNat : Nat) : Int) = u by omega]
theorem zFr_c {f g : Int → Int} : ∀ (n : Nat), (∀ u : Int, 0 ≤ u → u < n → f u = g u) → zFr f n = zFr g n := by
  intro n
  induction n with
  | zero => intro _; rfl
  | succ n ih =>
    intro h
    show zor (zFr f n) (if f n < 0 then _ else _) = zor (zFr g n) (if g n < 0 then _ else _)
    rw [ih (fun u h0 h1 => h u h0 (by omega)), h n (by omega) (by omega)]
/-- how many unknowns, and their places -/
def tCnt (kind m n : Int) : Int := (tPl kind n (fun _ => 0) (m * n).toNat).1
def tPlc (kind m n : Int) : Int → Int := (tPl kind n (fun _ => 0) (m * n).toNat).2
theorem tPl_i (kind n : Int) (f g : Int → Int) : ∀ k : Nat, (tPl kind n f k).1 = (tPl kind n g k).1 ∧ ∀ u : Int, 0 ≤ u → u < (tPl kind n f k).1 → (tPl kind n f k).2 u = (tPl kind n g k).2 u := by
  intro k
  induction k with
  | zero => exact ⟨rfl, fun u h0 h1 => by have : u < 0 := h1; omega⟩
  | succ k ih =>
    by_cases h : zIsU kind ((k : Int).tdiv n) ((k : Int).tmod n)
    · have e1 : tPl kind n f (k + 1) = ((tPl kind n f k).1 + 1, uZ (tPl kind n f k).2 (tPl kind n f k).1 k) := if_pos h
      have e2 : tPl kind n g (k + 1) = ((tPl kind n g k).1 + 1, uZ (tPl kind n g k).2 (tPl kind n g k).1 k) := if_pos h
      rw [e1, e2]
      refine ⟨by rw [ih.1], fun u h0 h1 => ?_⟩
      dsimp only at h1 ⊢
      unfold uZ
      rw [← ih.1]
      split
      · rfl
      · exact ih.2 u h0 (by omega)
    · have e1 : tPl kind n f (k + 1) = tPl kind n f k := if_neg h
      have e2 : tPl kind n g (k + 1) = tPl kind n g k := if_neg h
      rw [e1, e2]
      exact ih
theorem tCnt_e (kind m n : Int) (f : Int → Int) : (tPl kind n f (m * n).toNat).1 = tCnt kind m n := (tPl_i kind n f _ _).1
theorem tPlc_e (kind m n : Int) (f : Int → Int) {u : Int} (h0 : 0 ≤ u) (h1 : u < tCnt kind m n) : (tPl kind n f (m * n).toNat).2 u = tPlc kind m n u := (tPl_i kind n f _ _).2 u h0 (by rw [tCnt_e]; exact h1)
theorem tCnt_r {kind m n : Int} (h : 1 ≤ m * n ∧ m * n ≤ 9) : 0 ≤ tCnt kind m n ∧ tCnt kind m n ≤ m * n := by
  have := tPl_r kind n (fun _ => 0) (m * n).toNat
  unfold tCnt
  omega
theorem tPlc_r {kind m n u : Int} (h : 1 ≤ m * n ∧ m * n ≤ 9) (h0 : 0 ≤ u) (h1 : u < tCnt kind m n) : 0 ≤ tPlc kind m n u ∧ tPlc kind m n u < m * n := by
  have := tPl_p kind n (fun _ => 0) (m * n).toNat u h0 h1
  unfold tPlc
  omega
/-- the system of an equation: its rows from one of the tables on -/
def mSys (E : Nat → Int → Int) (m n kind shape shift first : Int) : Int → Int → Int := fun p q =>
  if q < tCnt shape m n - (if first = 0 then 0 else first * n) then mTak E n kind shape shift (p + first * n) (tPlc shape m n (q + (if first = 0 then 0 else first * n))) (m * n).toNat
  else mE E 2 ((p + first * n).tdiv n) ((p + first * n).tmod n)
set_option maxHeartbeats 4000000 in
set_option maxRecDepth 100000 in
theorem m_X8_isSolved (l : Launch) (D : ga_G) (mo : Nat) (ad : Nat → Nat) (I : Nat → Int) (A : Nat → Int → Int) (H W : Int) (S : eS) (hst : mSt I A H W S) (hsw : (0 ≤ H ∧ H ≤ 9) ∧ (0 ≤ W ∧ W ≤ 7) ∧ 0 ≤ S.2.1 ∧ S.2.1 ≤ H) (hent : eEnt H W S) : mM l D yX8_isSolved (ws_ yX8_isSolved cX8_isSolved 2 (some .boolean)) (gR 0) [] mo ad I A (mI (fun r I1 A1 => (I1 = I ∧ A1 = A) ∧ ((r = 1 ∧ eSol H W S) ∨ (r = 0 ∧ ¬ eSol H W S)))) := by
  refine mm_met 1 rfl (Nat.le_of_ble_eq_true rfl) (L0 := [some (.ref mo), none]) rfl (fun X ok hE => ?_)
  obtain ⟨⟨h26, h27⟩, ⟨h28, h29, h30⟩, hon, hled⟩ := hst
  refine ga_aload_n (pc := 0) dX8_isSolved_0 rfl ?_
  refine mm_g28 (pc := 1) (z := I 28) rfl dX8_isSolved_1 ?_
  refine ga_istore_n (pc := 4) (L1 := [some (.ref mo), some (.int (iI (I 28)))]) dX8_isSolved_4 rfl (by decide) rfl ?_
  have lp5 : ∀ (N5 : Nat) (i : Int), (S.2.1 ≤ i ∧ i ≤ H) → (∀ k : Int, S.2.1 ≤ k → k < i → S.1 k W = 0) → (H - i).toNat < N5 → G X (gR 0) RX8 2 cX8_isSolved (mH mo ad I A) 0 0 5 [some (.ref mo), some (.int (iI i))] [] := by
    intro N5
    induction N5 with
    | zero => intro i hi hv hN5; exact absurd hN5 (Nat.not_lt_zero _)
    | succ N5 ih5 =>
      intro i hi hv hN5
      refine ga_iload_n (pc := 5) dX8_isSolved_5 rfl ?_
      refine ga_aload_n (pc := 6) dX8_isSolved_6 rfl ?_
      refine mm_g26 (pc := 7) (z := I 26) rfl dX8_isSolved_7 ?_
      refine ga_icmp_ge (pc := 10) (tgt := 40) dX8_isSolved_10 rfl (by omega) (by omega) (fun c10 => ?_) (fun c10 => ?_)
      · skip
        refine ga_iconst (pc := 40) dX8_isSolved_40 ?_
        exact mm_zret hE dX8_isSolved_41 (by first | exact Or.inl rfl | exact Or.inr rfl) (⟨_, rfl, by dsimp only; exact ⟨⟨rfl, rfl⟩, Or.inl ⟨rfl, fun k k0 k1 => hv k k0 (by omega)⟩⟩⟩)
      · skip
        refine ga_aload_n (pc := 13) dX8_isSolved_13 rfl ?_
        refine mm_g23 (pc := 14) dX8_isSolved_14 ?_
        refine ga_bipush (pc := 17) dX8_isSolved_17 rfl ?_
        refine ga_iload_n (pc := 19) dX8_isSolved_19 rfl ?_
        refine ga_imul (pc := 20) dX8_isSolved_20 ?_
        refine ga_aload_n (pc := 21) dX8_isSolved_21 rfl ?_
        refine mm_g27 (pc := 22) (z := I 27) rfl dX8_isSolved_22 ?_
        refine ga_iadd (pc := 25) dX8_isSolved_25 ?_
        have he1 := hent i W (by omega) (by omega) (by omega) (by omega)
        refine mm_ald23 (pc := 26) (x := S.1 i W) ok (by omega) (by rw [h27]; exact hon i W (by omega) (by omega) (by omega) (by omega)) dX8_isSolved_26 ?_
        refine ga_lconst (pc := 27) 0 dX8_isSolved_27 rfl ?_
        refine ga_lcmp (pc := 28) dX8_isSolved_28 (by omega) (by omega) ?_
        refine ga_ifc_eq (pc := 29) (tgt := 34) dX8_isSolved_29 rfl (fun c29 => ?_) (fun c29 => ?_)
        · skip
          refine ga_iinc (pc := 34) (L1 := [some (.ref mo), some (.int (iI (i + 1)))]) dX8_isSolved_34 rfl rfl (by decide) rfl ?_
          refine ga_goto (pc := 37) (tgt := 5) dX8_isSolved_37 rfl ?_
          exact ih5 (i + 1) (by omega) (fun k k0 k1 => by by_cases e : k = i; (rw [e]; exact c29); exact hv k k0 (by omega)) (by omega)
        · skip
          refine ga_iconst (pc := 32) dX8_isSolved_32 ?_
          exact mm_zret hE dX8_isSolved_33 (by first | exact Or.inl rfl | exact Or.inr rfl) (⟨_, rfl, by dsimp only; exact ⟨⟨rfl, rfl⟩, Or.inr ⟨rfl, fun z => c29 (z i (by omega) (by omega))⟩⟩⟩)
  exact lp5 _ (I 28) (by omega) (fun k k0 k1 => by omega) (Nat.lt_succ_self _)
theorem k_X8_isSolved {X : ga_X} {nL : Nat} {cc : ByteArray} {mo : Nat} {ad : Nat → Nat} {I : Nat → Int} {A : Nat → Int → Int} {d pc : Nat} {L : List (Option Value)} {st : List Value} {H W : Int} {S : eS}  (ok : mOk mo ad) (hst : mSt I A H W S) (hsw : (0 ≤ H ∧ H ≤ 9) ∧ (0 ≤ W ∧ W ≤ 7) ∧ 0 ≤ S.2.1 ∧ S.2.1 ≤ H) (hent : eEnt H W S)  (hR : 0 + 1 ≤ d ∧ 19 + 2 + 64 * 0 ≤ 64 * d) (hs : (st.map fun v => v.category).sum ≤ 8) (dd : decode cc pc = .ok (.invokevirtual 270, 3)) (kk : ∀ (r : Int) (I1 : Nat → Int) (A1 : Nat → Int → Int), ((I1 = I ∧ A1 = A) ∧ ((r = 1 ∧ eSol H W S) ∨ (r = 0 ∧ ¬ eSol H W S))) → G X (gR d) RX8 nL cc (mH mo ad I1 A1) 0 0 (pc + 3) L (.int (iI r) :: st)) : G X (gR d) RX8 nL cc (mH mo ad I A) 0 0 pc L (.ref mo :: st) :=
  mm_run ok (m_X8_isSolved _ _ mo ad I A H W S hst hsw hent) (lw_V q1913 q1915 qs74 q113 q1916) rfl (show ga_nn' yX8_isSolved 0 from (by unfold ga_nn'; decide +kernel)) hR hs dd rfl (fun v I1 A1 hp => by
    obtain ⟨r, rfl, hp⟩ := hp
    exact kk r I1 A1 hp)
set_option maxHeartbeats 4000000 in
set_option maxRecDepth 100000 in
theorem m_X8_freeOnes (l : Launch) (D : ga_G) (mo : Nat) (ad : Nat → Nat) (I : Nat → Int) (A : Nat → Int → Int) (H W : Int) (S : eS) (hst : mSt I A H W S) (hsw : (0 ≤ H ∧ H ≤ 9) ∧ (0 ≤ W ∧ W ≤ 7) ∧ 0 ≤ S.2.1 ∧ S.2.1 ≤ H) (hlr : ∀ k : Int, -1 ≤ S.2.2.2.2 k ∧ S.2.2.2.2 k < 9) : mM l D yX8_freeOnes (ws_ yX8_freeOnes cX8_freeOnes 3 (some .int)) (gR 0) [] mo ad I A (mI (fun r I1 A1 => r = (zFr S.2.2.2.2 W.toNat) ∧ I1 = I ∧ A1 = A)) := by
  refine mm_met 2 rfl (Nat.le_of_ble_eq_true rfl) (L0 := [some (.ref mo), none, none]) rfl (fun X ok hE => ?_)
  obtain ⟨⟨h26, h27⟩, ⟨h28, h29, h30⟩, hon, hled⟩ := hst
  refine ga_iconst (pc := 0) dX8_freeOnes_0 ?_
  refine ga_istore_n (pc := 1) (L1 := [some (.ref mo), some (.int (iI 0)), none]) dX8_freeOnes_1 rfl (by decide) rfl ?_
  refine ga_iconst (pc := 2) dX8_freeOnes_2 ?_
  refine ga_istore_n (pc := 3) (L1 := [some (.ref mo), some (.int (iI 0)), some (.int (iI 0))]) dX8_freeOnes_3 rfl (by decide) rfl ?_
  have lp4 : ∀ (N4 : Nat) (v u : Int), (0 ≤ u ∧ u ≤ W) → (v = zFr S.2.2.2.2 u.toNat) → (W - u).toNat < N4 → G X (gR 0) RX8 3 cX8_freeOnes (mH mo ad I A) 0 0 4 [some (.ref mo), some (.int (iI v)), some (.int (iI u))] [] := by
    intro N4
    induction N4 with
    | zero => intro v u hu hv hN4; exact absurd hN4 (Nat.not_lt_zero _)
    | succ N4 ih4 =>
      intro v u hu hv hN4
      refine ga_iload_n (pc := 4) dX8_freeOnes_4 rfl ?_
      refine ga_aload_n (pc := 5) dX8_freeOnes_5 rfl ?_
      refine mm_g27 (pc := 6) (z := I 27) rfl dX8_freeOnes_6 ?_
      refine ga_icmp_ge (pc := 9) (tgt := 37) dX8_freeOnes_9 rfl (by omega) (by omega) (fun c9 => ?_) (fun c9 => ?_)
      · skip
        refine ga_iload_n (pc := 37) dX8_freeOnes_37 rfl ?_
        exact mm_iret hE dX8_freeOnes_38 (⟨_, rfl, by rw [hv, show u = W by omega], rfl, rfl⟩)
      · skip
        have jn29 : ∀ (x : Int), (x = if S.2.2.2.2 u < 0 then zshl 1 u else 0) → G X (gR 0) RX8 3 cX8_freeOnes (mH mo ad I A) 0 0 29 [some (.ref mo), some (.int (iI v)), some (.int (iI u))] [.int (iI x), .int (iI v)] := by
          intro x hx
          refine ga_ior (pc := 29) dX8_freeOnes_29 ?_
          refine ga_istore_n (pc := 30) (L1 := [some (.ref mo), some (.int (iI (zor v x))), some (.int (iI u))]) dX8_freeOnes_30 rfl (by decide) rfl ?_
          refine ga_iinc (pc := 31) (L1 := [some (.ref mo), some (.int (iI (zor v x))), some (.int (iI (u + 1)))]) dX8_freeOnes_31 rfl rfl (by decide) rfl ?_
          refine ga_goto (pc := 34) (tgt := 4) dX8_freeOnes_34 rfl ?_
          exact ih4 (zor v x) (u + 1) (by omega) (by rw [zFr_s _ hu.1, hv, hx]) (by omega)
        refine ga_iload_n (pc := 12) dX8_freeOnes_12 rfl ?_
        refine ga_aload_n (pc := 13) dX8_freeOnes_13 rfl ?_
        refine mm_g25 (pc := 14) dX8_freeOnes_14 ?_
        refine ga_iload_n (pc := 17) dX8_freeOnes_17 rfl ?_
        have hl1 := hlr u
        refine mm_ald25 (pc := 18) (x := S.2.2.2.2 u) ok (by omega) (hled u (by omega) (by omega)) dX8_freeOnes_18 ?_
        refine ga_if_ge (pc := 19) (tgt := 28) dX8_freeOnes_19 rfl (by omega) (fun c19 => ?_) (fun c19 => ?_)
        · skip
          refine ga_iconst (pc := 28) dX8_freeOnes_28 ?_
          exact jn29 0 (by first | rw [if_pos (by omega)] | rw [if_neg (by omega)])
        · skip
          refine ga_iconst (pc := 22) dX8_freeOnes_22 ?_
          refine ga_iload_n (pc := 23) dX8_freeOnes_23 rfl ?_
          refine ga_ishl (pc := 24) dX8_freeOnes_24 ?_
          refine ga_goto (pc := 25) (tgt := 29) dX8_freeOnes_25 rfl ?_
          exact jn29 (zshl 1 u) (by first | rw [if_pos (by omega)] | rw [if_neg (by omega)])
  exact lp4 _ 0 0 (by omega) (rfl) (Nat.lt_succ_self _)
theorem k_X8_freeOnes {X : ga_X} {nL : Nat} {cc : ByteArray} {mo : Nat} {ad : Nat → Nat} {I : Nat → Int} {A : Nat → Int → Int} {d pc : Nat} {L : List (Option Value)} {st : List Value} {H W : Int} {S : eS} {z : Int} (ok : mOk mo ad) (hst : mSt I A H W S) (hsw : (0 ≤ H ∧ H ≤ 9) ∧ (0 ≤ W ∧ W ≤ 7) ∧ 0 ≤ S.2.1 ∧ S.2.1 ≤ H) (hlr : ∀ k : Int, -1 ≤ S.2.2.2.2 k ∧ S.2.2.2.2 k < 9) (hz : (zFr S.2.2.2.2 W.toNat) = z) (hR : 0 + 1 ≤ d ∧ 19 + 3 + 64 * 0 ≤ 64 * d) (hs : (st.map fun v => v.category).sum ≤ 8) (dd : decode cc pc = .ok (.invokevirtual 266, 3)) (kk : G X (gR d) RX8 nL cc (mH mo ad I A) 0 0 (pc + 3) L (.int (iI z) :: st)) : G X (gR d) RX8 nL cc (mH mo ad I A) 0 0 pc L (.ref mo :: st) :=
  mm_run ok (m_X8_freeOnes _ _ mo ad I A H W S hst hsw hlr) (lw_V q1909 q1911 qs73 q113 q1912) rfl (show ga_nn' yX8_freeOnes 0 from (by unfold ga_nn'; decide +kernel)) hR hs dd rfl (fun v I1 A1 hp => by
    obtain ⟨r, rfl, hp⟩ := hp
    obtain ⟨e1, rfl, rfl⟩ := hp
    subst hz
    rw [e1]
    exact kk)
set_option maxHeartbeats 4000000 in
set_option maxRecDepth 100000 in
theorem m_X8_sets (l : Launch) (D : ga_G) (mo : Nat) (ad : Nat → Nat) (I : Nat → Int) (A : Nat → Int → Int) (kind shape shift first H W : Int) (T : Int → Int → Int) (hm : (1 ≤ I 3 ∧ I 3 ≤ 3) ∧ 1 ≤ I 4 ∧ I 4 ≤ 3) (he5 : tEn (A 0)) (h1 : (0 ≤ kind ∧ kind ≤ 6) ∧ (0 ≤ shape ∧ shape ≤ 6) ∧ (-2 ≤ shift ∧ shift ≤ 2) ∧ 0 ≤ first ∧ first ≤ 2) (hsk : 0 ≤ first * I 4) (hH : H = I 3 * I 4 - first * I 4 ∧ 0 ≤ H ∧ W = (tPl shape (I 4) (A 22) (I 3 * I 4).toNat).1 - (if first = 0 then 0 else first * I 4) ∧ 0 ≤ W ∧ W ≤ 7) (hT : ∀ p q : Int, 0 ≤ p → p < H → 0 ≤ q → (q < W → T p q = mTak A (I 4) kind shape shift (p + first * I 4) ((tPl shape (I 4) (A 22) (I 3 * I 4).toNat).2 (q + (if first = 0 then 0 else first * I 4))) (I 3 * I 4).toNat) ∧ (q = W → T p q = mE A 2 ((p + first * I 4).tdiv (I 4)) ((p + first * I 4).tmod (I 4)))) (hsf : eSafe H W T) : mM l D yX8_sets (ws_ yX8_sets cX8_sets 9 none) (gR 4) [.int (iI kind), .int (iI shape), .int (iI shift), .int (iI first)] mo ad I A (mV (fun I1 A1 => mSam I A I1 A1 ∧ mSt I1 A1 H W (eRed H T W.toNat) ∧ A1 22 = (tPl shape (I 4) (A 22) (I 3 * I 4).toNat).2)) := by
  refine mm_met 4 rfl (Nat.le_of_ble_eq_true rfl) (L0 := [some (.ref mo), some (.int (iI kind)), some (.int (iI shape)), some (.int (iI shift)), some (.int (iI first)), none, none, none, none]) rfl (fun X ok hE => ?_)
  have hmn := mn_r hm
  have htp := tPl_r shape (I 4) (A 22) (I 3 * I 4).toNat
  obtain ⟨off, eoff⟩ : ∃ x, x = if first = 0 then 0 else first * I 4 := ⟨_, rfl⟩
  rw [← eoff] at hH hT
  have hoff : 0 ≤ off := by rw [eoff]; split <;> omega
  refine ga_aload_n (pc := 0) dX8_sets_0 rfl ?_
  refine ga_iload_n (pc := 1) dX8_sets_1 rfl ?_
  refine k_X8_unknownsOf (pc := 2) (kind := shape) (z := (tPl shape (I 4) (A 22) (I 3 * I 4).toNat).1) (A2 := (uN A 22 ((tPl shape (I 4) (A 22) (I 3 * I 4).toNat).2))) ok (by first | exact hm | omega) (by first | exact h1 | omega) (rfl) (rfl) ⟨Nat.le_of_ble_eq_true rfl, Nat.le_of_ble_eq_true rfl⟩ (Nat.le_of_ble_eq_true rfl) dX8_sets_2 ?_
  obtain ⟨pl, epl⟩ : ∃ x, x = (tPl shape (I 4) (A 22) (I 3 * I 4).toNat).2 := ⟨_, rfl⟩
  rw [← epl]
  have hpl : ∀ u : Int, 0 ≤ u → u < (tPl shape (I 4) (A 22) (I 3 * I 4).toNat).1 → 0 ≤ pl u ∧ pl u < I 3 * I 4 := fun u u0 u1 => by have z := tPl_p shape (I 4) (A 22) (I 3 * I 4).toNat u u0 u1; rw [← epl] at z; omega
  refine ga_istore (pc := 5) (L1 := [some (.ref mo), some (.int (iI kind)), some (.int (iI shape)), some (.int (iI shift)), some (.int (iI first)), some (.int (iI ((tPl shape (I 4) (A 22) (I 3 * I 4).toNat).1))), none, none, none]) dX8_sets_5 rfl (by decide) rfl ?_
  refine ga_iload (pc := 7) dX8_sets_7 rfl ?_
  refine ga_aload_n (pc := 9) dX8_sets_9 rfl ?_
  refine mm_g4 (pc := 10) (z := I 4) rfl dX8_sets_10 ?_
  refine ga_imul (pc := 13) dX8_sets_13 ?_
  refine ga_istore (pc := 14) (L1 := [some (.ref mo), some (.int (iI kind)), some (.int (iI shape)), some (.int (iI shift)), some (.int (iI first)), some (.int (iI ((tPl shape (I 4) (A 22) (I 3 * I 4).toNat).1))), some (.int (iI (first * (I 4)))), none, none]) dX8_sets_14 rfl (by decide) rfl ?_
  have jn30 : ∀ (x : Int), (off = x) → G X (gR 4) RX8 9 cX8_sets (mH mo ad I (uN A 22 pl)) 0 0 30 [some (.ref mo), some (.int (iI kind)), some (.int (iI shape)), some (.int (iI shift)), some (.int (iI first)), some (.int (iI ((tPl shape (I 4) (A 22) (I 3 * I 4).toNat).1))), some (.int (iI (first * (I 4)))), none, none] [.int (iI x), .int (iI ((tPl shape (I 4) (A 22) (I 3 * I 4).toNat).1)), .ref mo] := by
    intro x hx
    subst hx
    refine ga_isub (pc := 30) dX8_sets_30 ?_
    refine mm_p27 (pc := 31) (I1 := (uN I 27 (((tPl shape (I 4) (A 22) (I 3 * I 4).toNat).1) - off))) (rfl) dX8_sets_31 ?_
    refine ga_aload_n (pc := 34) dX8_sets_34 rfl ?_
    refine ga_aload_n (pc := 35) dX8_sets_35 rfl ?_
    refine mm_g3 (pc := 36) (z := I 3) rfl dX8_sets_36 ?_
    refine ga_aload_n (pc := 39) dX8_sets_39 rfl ?_
    refine mm_g4 (pc := 40) (z := I 4) rfl dX8_sets_40 ?_
    refine ga_imul (pc := 43) dX8_sets_43 ?_
    refine ga_iload (pc := 44) dX8_sets_44 rfl ?_
    refine ga_isub (pc := 46) dX8_sets_46 ?_
    refine mm_p26 (pc := 47) (I1 := (uN (uN I 27 (((tPl shape (I 4) (A 22) (I 3 * I 4).toNat).1) - off)) 26 (((I 3) * (I 4)) - (first * (I 4))))) (rfl) dX8_sets_47 ?_
    refine ga_iconst (pc := 50) dX8_sets_50 ?_
    refine ga_istore (pc := 51) (L1 := [some (.ref mo), some (.int (iI kind)), some (.int (iI shape)), some (.int (iI shift)), some (.int (iI first)), some (.int (iI ((tPl shape (I 4) (A 22) (I 3 * I 4).toNat).1))), some (.int (iI (first * (I 4)))), some (.int (iI 0)), none]) dX8_sets_51 rfl (by decide) rfl ?_
    refine ga_heq (pc := 53) (h1 := mH mo ad (uN (uN I 27 ((tPl shape (I 4) (A 22) (I 3 * I 4).toNat).1 - off)) 26 ((I 3 * I 4) - first * (I 4))) (uN (uN A 22 pl) 23 (A 23))) (congr (congrArg (mH mo ad) (by funext j; by_cases e0 : j = 27; (subst e0; rfl); by_cases e1 : j = 26; (subst e1; rfl); simp only [uN, if_neg e0, if_neg e1])) (by funext j; by_cases e0 : j = 22; (subst e0; rfl); by_cases e1 : j = 23; (subst e1; exact (show (A 23) = (A 23) from rfl)); simp only [uN, if_neg e0, if_neg e1])) ?_
    have lp53 : ∀ (N53 : Nat) (p : Int) (f : Int → Int), (0 ≤ p ∧ p ≤ H) → (∀ a q : Int, 0 ≤ a → a < p → 0 ≤ q → q ≤ W → f (8 * a + q) = T a q) → (H - p).toNat < N53 → G X (gR 4) RX8 9 cX8_sets (mH mo ad (uN (uN I 27 ((tPl shape (I 4) (A 22) (I 3 * I 4).toNat).1 - off)) 26 ((I 3 * I 4) - first * (I 4))) (uN (uN A 22 pl) 23 f)) 0 0 53 [some (.ref mo), some (.int (iI kind)), some (.int (iI shape)), some (.int (iI shift)), some (.int (iI first)), some (.int (iI ((tPl shape (I 4) (A 22) (I 3 * I 4).toNat).1))), some (.int (iI (first * (I 4)))), some (.int (iI p)), none] [] := by
      intro N53
      induction N53 with
      | zero => intro p f hp hf hN53; exact absurd hN53 (Nat.not_lt_zero _)
      | succ N53 ih53 =>
        intro p f hp hf hN53
        refine ga_iload (pc := 53) dX8_sets_53 rfl ?_
        refine ga_aload_n (pc := 55) dX8_sets_55 rfl ?_
        refine mm_g26 (pc := 56) (z := (I 3 * I 4) - first * (I 4)) rfl dX8_sets_56 ?_
        refine ga_icmp_ge (pc := 59) (tgt := 167) dX8_sets_59 rfl (by omega) (by omega) (fun c59 => ?_) (fun c59 => ?_)
        · skip
          refine ga_aload_n (pc := 167) dX8_sets_167 rfl ?_
          refine k_X8_works (pc := 168) (T := T) ok (show (0 ≤ ((I 3 * I 4) - first * (I 4)) ∧ ((I 3 * I 4) - first * (I 4)) ≤ 9) ∧ 0 ≤ ((tPl shape (I 4) (A 22) (I 3 * I 4).toNat).1 - off) ∧ ((tPl shape (I 4) (A 22) (I 3 * I 4).toNat).1 - off) ≤ 7 from by show (0 ≤ I 3 * I 4 - first * I 4 ∧ _) ∧ 0 ≤ _ - off ∧ _; omega) (show eOn (((I 3 * I 4) - first * (I 4))) (((tPl shape (I 4) (A 22) (I 3 * I 4).toNat).1 - off)) 8 (f) T from by show eOn (I 3 * I 4 - first * I 4) _ 8 f T; intro a q a0 a1 q0 q1; exact hf a q a0 (by omega) q0 (by have : q ≤ _ - off := q1; omega)) (show eSafe (((I 3 * I 4) - first * (I 4))) (((tPl shape (I 4) (A 22) (I 3 * I 4).toNat).1 - off)) T from by show eSafe (I 3 * I 4 - first * I 4) (_ - off) T; rw [← hH.1, ← hH.2.2.1]; exact hsf) ⟨Nat.le_of_ble_eq_true rfl, Nat.le_of_ble_eq_true rfl⟩ (Nat.le_of_ble_eq_true rfl) dX8_sets_168 (fun I168 A168 hp168 => ?_)
          exact mm_vret hE dX8_sets_171 (⟨rfl, by dsimp only; obtain ⟨rfl, f9, l9, g9, rfl, hf9, hg9⟩ := hp168; refine ⟨(((((((((mSam.refl I A).uI (by decide)).uI (by decide)).uI (by decide)).uI (by decide)).uI (by decide)).uA (by decide)).uA (by decide)).uA (by decide)).uA (by decide) |>.uA (by decide), ⟨⟨hH.1.symm, hH.2.2.1.symm⟩, ⟨?_, ?_, ?_⟩, ?_, ?_⟩, epl⟩; all_goals rw [hH.1, hH.2.2.1]; first | rfl | exact hf9 | exact hg9⟩)
        · skip
          refine ga_iconst (pc := 62) dX8_sets_62 ?_
          refine ga_istore (pc := 63) (L1 := [some (.ref mo), some (.int (iI kind)), some (.int (iI shape)), some (.int (iI shift)), some (.int (iI first)), some (.int (iI ((tPl shape (I 4) (A 22) (I 3 * I 4).toNat).1))), some (.int (iI (first * (I 4)))), some (.int (iI p)), some (.int (iI 0))]) dX8_sets_63 rfl (by decide) rfl ?_
          have lp65 : ∀ (N65 : Nat) (u : Int) (g : Int → Int), (0 ≤ u ∧ u ≤ W) → (∀ a q : Int, 0 ≤ a → 0 ≤ q → q ≤ W → (a < p ∨ (a = p ∧ q < u)) → g (8 * a + q) = T a q) → (W - u).toNat < N65 → G X (gR 4) RX8 9 cX8_sets (mH mo ad (uN (uN I 27 ((tPl shape (I 4) (A 22) (I 3 * I 4).toNat).1 - off)) 26 ((I 3 * I 4) - first * (I 4))) (uN (uN A 22 pl) 23 g)) 0 0 65 [some (.ref mo), some (.int (iI kind)), some (.int (iI shape)), some (.int (iI shift)), some (.int (iI first)), some (.int (iI ((tPl shape (I 4) (A 22) (I 3 * I 4).toNat).1))), some (.int (iI (first * (I 4)))), some (.int (iI p)), some (.int (iI u))] [] := by
            intro N65
            induction N65 with
            | zero => intro u g hu hg hN65; exact absurd hN65 (Nat.not_lt_zero _)
            | succ N65 ih65 =>
              intro u g hu hg hN65
              refine ga_iload (pc := 65) dX8_sets_65 rfl ?_
              refine ga_aload_n (pc := 67) dX8_sets_67 rfl ?_
              refine mm_g27 (pc := 68) (z := (tPl shape (I 4) (A 22) (I 3 * I 4).toNat).1 - off) rfl dX8_sets_68 ?_
              refine ga_icmp_ge (pc := 71) (tgt := 120) dX8_sets_71 rfl (by omega) (by omega) (fun c71 => ?_) (fun c71 => ?_)
              · skip
                refine ga_aload_n (pc := 120) dX8_sets_120 rfl ?_
                refine mm_g23 (pc := 121) dX8_sets_121 ?_
                refine ga_bipush (pc := 124) dX8_sets_124 rfl ?_
                refine ga_iload (pc := 126) dX8_sets_126 rfl ?_
                refine ga_imul (pc := 128) dX8_sets_128 ?_
                refine ga_aload_n (pc := 129) dX8_sets_129 rfl ?_
                refine mm_g27 (pc := 130) (z := (tPl shape (I 4) (A 22) (I 3 * I 4).toNat).1 - off) rfl dX8_sets_130 ?_
                refine ga_iadd (pc := 133) dX8_sets_133 ?_
                refine ga_aload_n (pc := 134) dX8_sets_134 rfl ?_
                refine ga_iconst (pc := 135) dX8_sets_135 ?_
                refine ga_iload (pc := 136) dX8_sets_136 rfl ?_
                refine ga_iload (pc := 138) dX8_sets_138 rfl ?_
                refine ga_iadd (pc := 140) dX8_sets_140 ?_
                have hdp := dm_r hm (show 0 ≤ p + first * I 4 ∧ p + first * I 4 < I 3 * I 4 by omega)
                refine ga_aload_n (pc := 141) dX8_sets_141 rfl ?_
                refine mm_g4 (pc := 142) (z := I 4) rfl dX8_sets_142 ?_
                refine ga_idiv (pc := 145) dX8_sets_145 (by omega) (by omega) (by omega) ?_
                refine ga_iload (pc := 146) dX8_sets_146 rfl ?_
                refine ga_iload (pc := 148) dX8_sets_148 rfl ?_
                refine ga_iadd (pc := 150) dX8_sets_150 ?_
                refine ga_aload_n (pc := 151) dX8_sets_151 rfl ?_
                refine mm_g4 (pc := 152) (z := I 4) rfl dX8_sets_152 ?_
                refine ga_irem (pc := 155) dX8_sets_155 (by omega) (by omega) (by omega) ?_
                refine k_X8_its (pc := 156) (t := 2) (i := ((p + (first * (I 4))).tdiv (I 4))) (j := ((p + (first * (I 4))).tmod (I 4))) (z := mE A 2 ((p + (first * (I 4))).tdiv (I 4)) ((p + (first * (I 4))).tmod (I 4))) ok (show (0 ≤ 2 ∧ 2 ≤ 2) ∧ (0 ≤ ((p + (first * (I 4))).tdiv (I 4)) ∧ ((p + (first * (I 4))).tdiv (I 4)) ≤ 2) ∧ 0 ≤ ((p + (first * (I 4))).tmod (I 4)) ∧ ((p + (first * (I 4))).tmod (I 4)) ≤ 2 from by first | exact h1 | omega) (rfl) ⟨Nat.le_of_ble_eq_true rfl, Nat.le_of_ble_eq_true rfl⟩ (Nat.le_of_ble_eq_true rfl) dX8_sets_156 ?_
                have he6 := mE_r he5 2 ((p + first * I 4).tdiv (I 4)) ((p + first * I 4).tmod (I 4))
                refine ga_i2l (pc := 159) dX8_sets_159 (by omega) ?_
                refine mm_ast23 (pc := 160) (f := g) (A1 := (uN (uN A 22 pl) 23 (uZ g ((8 * p) + ((tPl shape (I 4) (A 22) (I 3 * I 4).toNat).1 - off)) (mE A 2 ((p + (first * (I 4))).tdiv (I 4)) ((p + (first * (I 4))).tmod (I 4)))))) ok (by omega) rfl (by funext j; by_cases e0 : j = 23; (subst e0; rfl); simp only [uN, if_neg e0]) dX8_sets_160 ?_
                refine ga_iinc (pc := 161) (L1 := [some (.ref mo), some (.int (iI kind)), some (.int (iI shape)), some (.int (iI shift)), some (.int (iI first)), some (.int (iI ((tPl shape (I 4) (A 22) (I 3 * I 4).toNat).1))), some (.int (iI (first * (I 4)))), some (.int (iI (p + 1))), some (.int (iI u))]) dX8_sets_161 rfl rfl (by decide) rfl ?_
                refine ga_goto (pc := 164) (tgt := 53) dX8_sets_164 rfl ?_
                refine ga_kill (pc := 53) 8 (L1 := [some (.ref mo), some (.int (iI kind)), some (.int (iI shape)), some (.int (iI shift)), some (.int (iI first)), some (.int (iI ((tPl shape (I 4) (A 22) (I 3 * I 4).toNat).1))), some (.int (iI (first * (I 4)))), some (.int (iI (p + 1))), none]) rfl ?_
                exact ih53 (p + 1) (uZ g ((8 * p) + ((tPl shape (I 4) (A 22) (I 3 * I 4).toNat).1 - off)) (mE A 2 ((p + (first * (I 4))).tdiv (I 4)) ((p + (first * (I 4))).tmod (I 4)))) (by omega) (fun a q a0 a1 q0 q1 => by unfold uZ; by_cases e : a = p ∧ q = W; (rw [if_pos (by omega), e.1, e.2]; exact ((hT p W (by omega) (by omega) (by omega)).2 rfl).symm); rw [if_neg (by omega)]; exact hg a q a0 q0 (by omega) (by omega)) (by omega)
              · skip
                have jn108 : ∀ (y : Int), (off = y) → G X (gR 4) RX8 9 cX8_sets (mH mo ad (uN (uN I 27 ((tPl shape (I 4) (A 22) (I 3 * I 4).toNat).1 - off)) 26 ((I 3 * I 4) - first * (I 4))) (uN (uN A 22 pl) 23 g)) 0 0 108 [some (.ref mo), some (.int (iI kind)), some (.int (iI shape)), some (.int (iI shift)), some (.int (iI first)), some (.int (iI ((tPl shape (I 4) (A 22) (I 3 * I 4).toNat).1))), some (.int (iI (first * (I 4)))), some (.int (iI p)), some (.int (iI u))] [.int (iI y), .int (iI u), .int (iI (p + first * (I 4))), .int (iI shift), .int (iI shape), .int (iI kind), .ref mo, .int (iI ((8 * p) + u)), .ref (ad 23)] := by
                  intro y hy
                  subst hy
                  refine ga_iadd (pc := 108) dX8_sets_108 ?_
                  have hpl1 := hpl (u + off) (by omega) (by omega)
                  refine k_X8_takenBy (pc := 109) (kind := kind) (shape := shape) (shift := shift) (p := (p + first * (I 4))) (u := (u + off)) (z := mTak A ((I 4)) kind shape shift (p + first * (I 4)) (pl (u + off)) ((I 3) * (I 4)).toNat) ok (show (1 ≤ (I 3) ∧ (I 3) ≤ 3) ∧ 1 ≤ (I 4) ∧ (I 4) ≤ 3 from by first | exact hm | omega) (show (0 ≤ kind ∧ kind ≤ 6) ∧ (0 ≤ shape ∧ shape ≤ 6) ∧ (0 ≤ (p + first * (I 4)) ∧ (p + first * (I 4)) < (I 3) * (I 4)) ∧ 0 ≤ (u + off) ∧ (u + off) < 9 from by first | exact h1 | omega) (show 0 ≤ pl (u + off) ∧ pl (u + off) < (I 3) * (I 4) from by first | exact h2 | omega) (rfl) ⟨Nat.le_of_ble_eq_true rfl, Nat.le_of_ble_eq_true rfl⟩ (Nat.le_of_ble_eq_true rfl) dX8_sets_109 ?_
                  have htr := mTak_r (A := A) he5 (n := I 4) (kind := kind) (shape := shape) (shift := shift) (p := p + first * I 4) (pl := pl (u + off)) (by omega) (k := (I 3 * I 4).toNat) (by omega)
                  refine ga_i2l (pc := 112) dX8_sets_112 (by omega) ?_
                  refine mm_ast23 (pc := 113) (f := g) (A1 := (uN (uN A 22 pl) 23 (uZ g ((8 * p) + u) (mTak A ((I 4)) kind shape shift (p + first * (I 4)) (pl (u + off)) ((I 3) * (I 4)).toNat)))) ok (by omega) rfl (by funext j; by_cases e0 : j = 23; (subst e0; rfl); simp only [uN, if_neg e0]) dX8_sets_113 ?_
                  refine ga_iinc (pc := 114) (L1 := [some (.ref mo), some (.int (iI kind)), some (.int (iI shape)), some (.int (iI shift)), some (.int (iI first)), some (.int (iI ((tPl shape (I 4) (A 22) (I 3 * I 4).toNat).1))), some (.int (iI (first * (I 4)))), some (.int (iI p)), some (.int (iI (u + 1)))]) dX8_sets_114 rfl rfl (by decide) rfl ?_
                  refine ga_goto (pc := 117) (tgt := 65) dX8_sets_117 rfl ?_
                  exact ih65 (u + 1) (uZ g ((8 * p) + u) (mTak A ((I 4)) kind shape shift (p + first * (I 4)) (pl (u + off)) ((I 3) * (I 4)).toNat)) (by omega) (fun a q a0 q0 q1 h => by unfold uZ; by_cases e : a = p ∧ q = u; (rw [if_pos (by omega), e.1, e.2, (hT p u (by omega) (by omega) (by omega)).1 (by omega), ← epl]); rw [if_neg (by omega)]; exact hg a q a0 q0 q1 (by omega)) (by omega)
                refine ga_aload_n (pc := 74) dX8_sets_74 rfl ?_
                refine mm_g23 (pc := 75) dX8_sets_75 ?_
                refine ga_bipush (pc := 78) dX8_sets_78 rfl ?_
                refine ga_iload (pc := 80) dX8_sets_80 rfl ?_
                refine ga_imul (pc := 82) dX8_sets_82 ?_
                refine ga_iload (pc := 83) dX8_sets_83 rfl ?_
                refine ga_iadd (pc := 85) dX8_sets_85 ?_
                refine ga_aload_n (pc := 86) dX8_sets_86 rfl ?_
                refine ga_iload_n (pc := 87) dX8_sets_87 rfl ?_
                refine ga_iload_n (pc := 88) dX8_sets_88 rfl ?_
                refine ga_iload_n (pc := 89) dX8_sets_89 rfl ?_
                refine ga_iload (pc := 90) dX8_sets_90 rfl ?_
                refine ga_iload (pc := 92) dX8_sets_92 rfl ?_
                refine ga_iadd (pc := 94) dX8_sets_94 ?_
                refine ga_iload (pc := 95) dX8_sets_95 rfl ?_
                refine ga_iload (pc := 97) dX8_sets_97 rfl ?_
                refine ga_if_ne (pc := 99) (tgt := 106) dX8_sets_99 rfl (by omega) (fun c99 => ?_) (fun c99 => ?_)
                · skip
                  refine ga_iload (pc := 106) dX8_sets_106 rfl ?_
                  exact jn108 (first * (I 4)) (by rw [eoff]; first | rw [if_pos (by omega)] | rw [if_neg (by omega)])
                · skip
                  refine ga_iconst (pc := 102) dX8_sets_102 ?_
                  refine ga_goto (pc := 103) (tgt := 108) dX8_sets_103 rfl ?_
                  exact jn108 0 (by rw [eoff]; first | rw [if_pos (by omega)] | rw [if_neg (by omega)])
          exact lp65 _ 0 f (by omega) (fun a q a0 q0 q1 h => hf a q a0 (by omega) q0 q1) (Nat.lt_succ_self _)
    exact lp53 _ 0 (A 23) (by omega) (fun a q a0 a1 => by omega) (Nat.lt_succ_self _)
  refine ga_aload_n (pc := 16) dX8_sets_16 rfl ?_
  refine ga_iload (pc := 17) dX8_sets_17 rfl ?_
  refine ga_iload (pc := 19) dX8_sets_19 rfl ?_
  refine ga_if_ne (pc := 21) (tgt := 28) dX8_sets_21 rfl (by omega) (fun c21 => ?_) (fun c21 => ?_)
  · skip
    refine ga_iload (pc := 28) dX8_sets_28 rfl ?_
    exact jn30 (first * (I 4)) (by rw [eoff]; first | rw [if_pos (by omega)] | rw [if_neg (by omega)])
  · skip
    refine ga_iconst (pc := 24) dX8_sets_24 ?_
    refine ga_goto (pc := 25) (tgt := 30) dX8_sets_25 rfl ?_
    exact jn30 0 (by rw [eoff]; first | rw [if_pos (by omega)] | rw [if_neg (by omega)])
theorem k_X8_sets {X : ga_X} {nL : Nat} {cc : ByteArray} {mo : Nat} {ad : Nat → Nat} {I : Nat → Int} {A : Nat → Int → Int} {d pc : Nat} {L : List (Option Value)} {st : List Value} {kind shape shift first H W : Int} {T : Int → Int → Int}  (ok : mOk mo ad) (hm : (1 ≤ I 3 ∧ I 3 ≤ 3) ∧ 1 ≤ I 4 ∧ I 4 ≤ 3) (he5 : tEn (A 0)) (h1 : (0 ≤ kind ∧ kind ≤ 6) ∧ (0 ≤ shape ∧ shape ≤ 6) ∧ (-2 ≤ shift ∧ shift ≤ 2) ∧ 0 ≤ first ∧ first ≤ 2) (hsk : 0 ≤ first * I 4) (hH : H = I 3 * I 4 - first * I 4 ∧ 0 ≤ H ∧ W = (tPl shape (I 4) (A 22) (I 3 * I 4).toNat).1 - (if first = 0 then 0 else first * I 4) ∧ 0 ≤ W ∧ W ≤ 7) (hT : ∀ p q : Int, 0 ≤ p → p < H → 0 ≤ q → (q < W → T p q = mTak A (I 4) kind shape shift (p + first * I 4) ((tPl shape (I 4) (A 22) (I 3 * I 4).toNat).2 (q + (if first = 0 then 0 else first * I 4))) (I 3 * I 4).toNat) ∧ (q = W → T p q = mE A 2 ((p + first * I 4).tdiv (I 4)) ((p + first * I 4).tmod (I 4)))) (hsf : eSafe H W T)  (hR : 4 + 1 ≤ d ∧ 19 + 9 + 64 * 4 ≤ 64 * d) (hs : (st.map fun v => v.category).sum ≤ 8) (dd : decode cc pc = .ok (.invokevirtual 255, 3)) (kk : ∀ (I1 : Nat → Int) (A1 : Nat → Int → Int), (mSam I A I1 A1 ∧ mSt I1 A1 H W (eRed H T W.toNat) ∧ A1 22 = (tPl shape (I 4) (A 22) (I 3 * I 4).toNat).2) → G X (gR d) RX8 nL cc (mH mo ad I1 A1) 0 0 (pc + 3) L st) : G X (gR d) RX8 nL cc (mH mo ad I A) 0 0 pc L (.int (iI first) :: .int (iI shift) :: .int (iI shape) :: .int (iI kind) :: .ref mo :: st) :=
  mm_run ok (m_X8_sets _ _ mo ad I A kind shape shift first H W T hm he5 h1 hsk hH hT hsf) (lw_V q1878 q1880 qs66 q113 q1881) rfl (show ga_nn' yX8_sets 4 from (by unfold ga_nn'; decide +kernel)) hR hs dd rfl (fun v I1 A1 hp => by
    obtain ⟨rfl, hp⟩ := hp
    exact kk I1 A1 hp)
