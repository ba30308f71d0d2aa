/-! THE REFERENCE: a table of the text, the text, what is fed -/
def tRow (T : Int → Int) (N t i : Int) : Nat → Int → tR → tR
  | 0, _, r => r
  | n + 1, j, r => if r.1 < 0 then tRow T N t i n (j + 1) (tCell T N t i j r) else r
theorem tRow_t {T : Int → Int} {N t i j C : Int} {r : tR} (hj : j < C) (hr : r.1 < 0) : tRow T N t i (C - j).toNat j r = tRow T N t i (C - (j + 1)).toNat (j + 1) (tCell T N t i j r) := by
  rw [show (C - j).toNat = (C - (j + 1)).toNat + 1 by omega]
  show (if r.1 < 0 then _ else _) = _
  rw [if_pos hr]
theorem tRow_x {T : Int → Int} {N t i j C : Int} {r : tR} (h : C ≤ j ∨ 0 ≤ r.1) : tRow T N t i (C - j).toNat j r = r := by
  cases hf : (C - j).toNat with
  | zero => rfl
  | succ f =>
    show (if r.1 < 0 then _ else _) = _
    rw [if_neg (by omega)]
def tEnd (T : Int → Int) (N c : Int) (r : tR) : tR := if r.1 < 0 then (if r.2.2.1 - r.2.1 = 1 ∧ T r.2.1 = c then (r.1, tkFrom T N r.2.2.1, tkTo T N r.2.2.1, r.2.2.2) else (r.2.1, r.2.1, r.2.2.1, r.2.2.2)) else r
def tLine (T : Int → Int) (N t R C i : Int) (r : tR) : tR := tEnd T N (if i + 1 < R then 44 else 59) (tRow T N t i (C - 0).toNat 0 r)
def tTab (T : Int → Int) (N t R C : Int) : Nat → Int → tR → tR
  | 0, _, r => r
  | n + 1, i, r => if r.1 < 0 then tTab T N t R C n (i + 1) (tLine T N t R C i r) else r
theorem tTab_t {T : Int → Int} {N t R C i : Int} {r : tR} (hi : i < R) (hr : r.1 < 0) : tTab T N t R C (R - i).toNat i r = tTab T N t R C (R - (i + 1)).toNat (i + 1) (tLine T N t R C i r) := by
  rw [show (R - i).toNat = (R - (i + 1)).toNat + 1 by omega]
  show (if r.1 < 0 then _ else _) = _
  rw [if_pos hr]
theorem tTab_x {T : Int → Int} {N t R C i : Int} {r : tR} (h : R ≤ i ∨ 0 ≤ r.1) : tTab T N t R C (R - i).toNat i r = r := by
  cases hf : (R - i).toNat with
  | zero => rfl
  | succ f =>
    show (if r.1 < 0 then _ else _) = _
    rw [if_neg (by omega)]
def tWh (T : Int → Int) (fr to : Int) : Int := if to - fr = 1 ∧ T fr = 97 then 0 else if to - fr = 1 ∧ T fr = 98 then 1 else if to - fr = 1 ∧ T fr = 99 then 2 else -1
def tTable (T : Int → Int) (N : Int) (R C : Int → Int) (r : tR) : tR := if tWh T r.2.1 r.2.2.1 < 0 then (r.2.1, r.2.1, r.2.2.1, r.2.2.2) else tTab T N (tWh T r.2.1 r.2.2.1) (R (tWh T r.2.1 r.2.2.1)) (C (tWh T r.2.1 r.2.2.1)) (R (tWh T r.2.1 r.2.2.1) - 0).toNat 0 (r.1, tkFrom T N r.2.2.1, tkTo T N r.2.2.1, r.2.2.2)
theorem mRows_n (I : Nat → Int) {k : Nat} (z : Int) (h : k ≠ 3 ∧ k ≠ 4) : mRows (uN I k z) = mRows I := by
  funext t
  unfold mRows
  rw [uN_n I z h.1.symm, uN_n I z h.2.symm]
theorem mCols_n (I : Nat → Int) {k : Nat} (z : Int) (h : k ≠ 3 ∧ k ≠ 4) : mCols (uN I k z) = mCols I := by
  funext t
  unfold mCols
  rw [uN_n I z h.1.symm, uN_n I z h.2.symm]
set_option maxHeartbeats 4000000 in
set_option maxRecDepth 100000 in
theorem m_X8_table (l : Launch) (D : ga_G) (mo : Nat) (ad : Nat → Nat) (I : Nat → Int) (A : Nat → Int → Int)  (hm : (1 ≤ I 3 ∧ I 3 ≤ 3) ∧ 1 ≤ I 4 ∧ I 4 ≤ 3) (ht : 0 ≤ I 18 ∧ I 18 ≤ I 19 ∧ I 19 ≤ I 17 ∧ I 17 ≤ 200) (hb : mBy A) (hf : I 20 = -1) : mM l D yX8_table (ws_ yX8_table cX8_table 4 none) (gR 3) [] mo ad I A (mV (fun I1 A1 => I1 = (uN (uN (uN (uN I 18 ((tTable (A 16) (I 17) (mRows I) (mCols I) (I 20, I 18, I 19, A 0)).2.1)) 19 ((tTable (A 16) (I 17) (mRows I) (mCols I) (I 20, I 18, I 19, A 0)).2.2.1)) 20 ((tTable (A 16) (I 17) (mRows I) (mCols I) (I 20, I 18, I 19, A 0)).1)) 21 (if tWh (A 16) (I 18) (I 19) < 0 then I 21 else I 21 + 1)) ∧ A1 = (uN A 0 ((tTable (A 16) (I 17) (mRows I) (mCols I) (I 20, I 18, I 19, A 0)).2.2.2)))) := by
  refine mm_met 3 rfl (Nat.le_of_ble_eq_true rfl) (L0 := [some (.ref mo), none, none, none]) rfl (fun X ok hE => ?_)
  have hk0 := tk_r (A 16) (N := I 17) (p := I 19) (by omega)
  have jn40 : ∀ (w : Int), (w = tWh (A 16) (I 18) (I 19)) → (-1 ≤ w ∧ w ≤ 2) → G X (gR 3) RX8 4 cX8_table (mH mo ad I A) 0 0 40 [some (.ref mo), none, none, none] [.int (iI w)] := by
    intro w hw hwr
    refine ga_istore_n (pc := 40) (L1 := [some (.ref mo), some (.int (iI w)), none, none]) dX8_table_40 rfl (by decide) rfl ?_
    refine ga_iload_n (pc := 41) dX8_table_41 rfl ?_
    refine ga_if_ge (pc := 42) (tgt := 50) dX8_table_42 rfl (by omega) (fun c42 => ?_) (fun c42 => ?_)
    · skip
      refine ga_aload_n (pc := 50) dX8_table_50 rfl ?_
      refine k_X8_next (pc := 51)  (I2 := (uN (uN I 18 (tkFrom (A 16) (I 17) (I 19))) 19 (tkTo (A 16) (I 17) (I 19)))) ok (by first | exact ht | omega) (by first | exact hb | omega) (rfl) ⟨Nat.le_of_ble_eq_true rfl, Nat.le_of_ble_eq_true rfl⟩ (Nat.le_of_ble_eq_true rfl) dX8_table_51 ?_
      refine ga_iconst (pc := 54) dX8_table_54 ?_
      refine ga_istore_n (pc := 55) (L1 := [some (.ref mo), some (.int (iI w)), some (.int (iI 0)), none]) dX8_table_55 rfl (by decide) rfl ?_
      refine ga_heq (pc := 56) (h1 := mH mo ad (uN (uN (uN I 18 (tkFrom (A 16) (I 17) (I 19))) 19 (tkTo (A 16) (I 17) (I 19))) 20 (I 20)) (uN A 0 (A 0))) (congr (congrArg (mH mo ad) (by funext j; by_cases e0 : j = 18; (subst e0; rfl); by_cases e1 : j = 19; (subst e1; rfl); by_cases e2 : j = 20; (subst e2; rfl); simp only [uN, if_neg e0, if_neg e1, if_neg e2])) (by funext j; by_cases e0 : j = 0; (subst e0; rfl); simp only [uN, if_neg e0])) ?_
      have hrw0 := mRows_r hm w
      have lp56 : ∀ (N56 : Nat) (i a b c : Int) (e : Int → Int), (0 ≤ i ∧ i ≤ mRows I w) → ((0 ≤ a ∧ a ≤ b ∧ b ≤ I 17) ∧ (c = -1 ∨ (0 ≤ c ∧ c ≤ 200))) → (tTab (A 16) (I 17) w (mRows I w) (mCols I w) (mRows I w - i).toNat i (c, a, b, e) = (tTab (A 16) (I 17) w (mRows I w) (mCols I w) (mRows I w - 0).toNat 0 (I 20, tkFrom (A 16) (I 17) (I 19), tkTo (A 16) (I 17) (I 19), A 0))) → (mRows I w - i).toNat < N56 → G X (gR 3) RX8 4 cX8_table (mH mo ad (uN (uN (uN I 18 a) 19 b) 20 c) (uN A 0 e)) 0 0 56 [some (.ref mo), some (.int (iI w)), some (.int (iI i)), none] [] := by
        intro N56
        induction N56 with
        | zero => intro i a b c e hi hr hF hN56; exact absurd hN56 (Nat.not_lt_zero _)
        | succ N56 ih56 =>
          intro i a b c e hi hr hF hN56
          have hrw := mRows_r hm w
          have hcw := mCols_r hm w
          refine ga_iload_n (pc := 56) dX8_table_56 rfl ?_
          refine ga_aload_n (pc := 57) dX8_table_57 rfl ?_
          refine ga_iload_n (pc := 58) dX8_table_58 rfl ?_
          refine k_X8_rowsOf (pc := 59) (t := w) (z := mRows I w) ok (show (-2147483648 ≤ w ∧ w < 2147483648) from by first | exact h1 | omega) (rfl) ⟨Nat.le_of_ble_eq_true rfl, Nat.le_of_ble_eq_true rfl⟩ (Nat.le_of_ble_eq_true rfl) dX8_table_59 ?_
          refine ga_icmp_ge (pc := 62) (tgt := 156) dX8_table_62 rfl (by omega) (by omega) (fun c62 => ?_) (fun c62 => ?_)
          · skip
            refine ga_aload_n (pc := 156) dX8_table_156 rfl ?_
            refine ga_dup (pc := 157) dX8_table_157 rfl ?_
            refine mm_g21 (pc := 158) (z := I 21) rfl dX8_table_158 ?_
            refine ga_iconst (pc := 161) dX8_table_161 ?_
            refine ga_iadd (pc := 162) dX8_table_162 ?_
            refine mm_p21 (pc := 163) (I1 := (uN (uN (uN (uN I 18 a) 19 b) 20 c) 21 ((I 21) + 1))) (rfl) dX8_table_163 ?_
            exact mm_vret hE dX8_table_166 (⟨rfl, by funext j; by_cases e0 : j = 18; (subst e0; exact (show a = ((tTable (A 16) (I 17) (mRows I) (mCols I) (I 20, I 18, I 19, A 0)).2.1) from by unfold tTable; rw [if_neg (by dsimp only; omega)]; dsimp only; rw [← hw, ← hF, tTab_x (by dsimp only; omega)])); by_cases e1 : j = 19; (subst e1; exact (show b = ((tTable (A 16) (I 17) (mRows I) (mCols I) (I 20, I 18, I 19, A 0)).2.2.1) from by unfold tTable; rw [if_neg (by dsimp only; omega)]; dsimp only; rw [← hw, ← hF, tTab_x (by dsimp only; omega)])); by_cases e2 : j = 20; (subst e2; exact (show c = ((tTable (A 16) (I 17) (mRows I) (mCols I) (I 20, I 18, I 19, A 0)).1) from by unfold tTable; rw [if_neg (by dsimp only; omega)]; dsimp only; rw [← hw, ← hF, tTab_x (by dsimp only; omega)])); by_cases e3 : j = 21; (subst e3; exact (show ((I 21) + 1) = (if tWh (A 16) (I 18) (I 19) < 0 then I 21 else I 21 + 1) from by rw [if_neg (by omega)])); simp only [uN, if_neg e0, if_neg e1, if_neg e2, if_neg e3], by funext j; by_cases e0 : j = 0; (subst e0; exact (show e = ((tTable (A 16) (I 17) (mRows I) (mCols I) (I 20, I 18, I 19, A 0)).2.2.2) from by unfold tTable; rw [if_neg (by dsimp only; omega)]; dsimp only; rw [← hw, ← hF, tTab_x (by dsimp only; omega)])); simp only [uN, if_neg e0]⟩)
          · skip
            refine ga_aload_n (pc := 65) dX8_table_65 rfl ?_
            refine mm_g20 (pc := 66) (z := c) rfl dX8_table_66 ?_
            refine ga_if_ge (pc := 69) (tgt := 156) dX8_table_69 rfl (by omega) (fun c69 => ?_) (fun c69 => ?_)
            · skip
              refine ga_aload_n (pc := 156) dX8_table_156 rfl ?_
              refine ga_dup (pc := 157) dX8_table_157 rfl ?_
              refine mm_g21 (pc := 158) (z := I 21) rfl dX8_table_158 ?_
              refine ga_iconst (pc := 161) dX8_table_161 ?_
              refine ga_iadd (pc := 162) dX8_table_162 ?_
              refine mm_p21 (pc := 163) (I1 := (uN (uN (uN (uN I 18 a) 19 b) 20 c) 21 ((I 21) + 1))) (rfl) dX8_table_163 ?_
              exact mm_vret hE dX8_table_166 (⟨rfl, by funext j; by_cases e0 : j = 18; (subst e0; exact (show a = ((tTable (A 16) (I 17) (mRows I) (mCols I) (I 20, I 18, I 19, A 0)).2.1) from by unfold tTable; rw [if_neg (by dsimp only; omega)]; dsimp only; rw [← hw, ← hF, tTab_x (by dsimp only; omega)])); by_cases e1 : j = 19; (subst e1; exact (show b = ((tTable (A 16) (I 17) (mRows I) (mCols I) (I 20, I 18, I 19, A 0)).2.2.1) from by unfold tTable; rw [if_neg (by dsimp only; omega)]; dsimp only; rw [← hw, ← hF, tTab_x (by dsimp only; omega)])); by_cases e2 : j = 20; (subst e2; exact (show c = ((tTable (A 16) (I 17) (mRows I) (mCols I) (I 20, I 18, I 19, A 0)).1) from by unfold tTable; rw [if_neg (by dsimp only; omega)]; dsimp only; rw [← hw, ← hF, tTab_x (by dsimp only; omega)])); by_cases e3 : j = 21; (subst e3; exact (show ((I 21) + 1) = (if tWh (A 16) (I 18) (I 19) < 0 then I 21 else I 21 + 1) from by rw [if_neg (by omega)])); simp only [uN, if_neg e0, if_neg e1, if_neg e2, if_neg e3], by funext j; by_cases e0 : j = 0; (subst e0; exact (show e = ((tTable (A 16) (I 17) (mRows I) (mCols I) (I 20, I 18, I 19, A 0)).2.2.2) from by unfold tTable; rw [if_neg (by dsimp only; omega)]; dsimp only; rw [← hw, ← hF, tTab_x (by dsimp only; omega)])); simp only [uN, if_neg e0]⟩)
            · skip
              have jn103 : ∀ (a2 b2 c2 : Int) (e2 : Int → Int), ((0 ≤ a2 ∧ a2 ≤ b2 ∧ b2 ≤ I 17) ∧ (c2 = -1 ∨ (0 ≤ c2 ∧ c2 ≤ 200))) → (((c2, a2, b2, e2) : tR) = tRow (A 16) (I 17) w i (mCols I w - 0).toNat 0 (c, a, b, e)) → G X (gR 3) RX8 4 cX8_table (mH mo ad (uN (uN (uN I 18 a2) 19 b2) 20 c2) (uN A 0 e2)) 0 0 103 [some (.ref mo), some (.int (iI w)), some (.int (iI i)), none] [] := by
                intro a2 b2 c2 e2 hr2 hH
                refine ga_aload_n (pc := 103) dX8_table_103 rfl ?_
                refine mm_g20 (pc := 104) (z := c2) rfl dX8_table_104 ?_
                refine ga_if_ge (pc := 107) (tgt := 139) dX8_table_107 rfl (by omega) (fun c107 => ?_) (fun c107 => ?_)
                · skip
                  refine ga_aload_n (pc := 139) dX8_table_139 rfl ?_
                  refine mm_g20 (pc := 140) (z := c2) rfl dX8_table_140 ?_
                  refine ga_if_ge (pc := 143) (tgt := 150) dX8_table_143 rfl (by omega) (fun c143 => ?_) (fun c143 => ?_)
                  · skip
                    refine ga_iinc (pc := 150) (L1 := [some (.ref mo), some (.int (iI w)), some (.int (iI (i + 1))), none]) dX8_table_150 rfl rfl (by decide) rfl ?_
                    refine ga_goto (pc := 153) (tgt := 56) dX8_table_153 rfl ?_
                    have hk3 := tk_r (A 16) (N := I 17) (p := b2) (by omega)
                    exact ih56 (i + 1) a2 b2 c2 e2 (by omega) (by omega) (by rw [← hF, tTab_t (i := i) (r := (c, a, b, e)) (by omega) (by dsimp only; omega)]; congr 1; unfold tLine; rw [← hH]; unfold tEnd; dsimp only; rw [if_neg (by omega)]) (by omega)
                  · exact absurd c143 (by omega)
                · skip
                  have jn129 : ∀ (g : Int), (g = if i + 1 < mRows I w then 44 else 59) → (0 ≤ g ∧ g ≤ 100) → G X (gR 3) RX8 4 cX8_table (mH mo ad (uN (uN (uN I 18 a2) 19 b2) 20 c2) (uN A 0 e2)) 0 0 129 [some (.ref mo), some (.int (iI w)), some (.int (iI i)), none] [.int (iI g), .ref mo] := by
                    intro g hg hgr
                    refine k_X8_is (pc := 129) (c := g) ok (show 0 ≤ a2 ∧ a2 ≤ b2 ∧ b2 ≤ (I 17) ∧ (I 17) ≤ 200 from by first | exact ht | omega) (show mBy (uN A 0 e2) from by first | exact hb | omega) (show (-2147483648 ≤ g ∧ g < 2147483648) from by first | exact h1 | omega) (rfl) ⟨Nat.le_of_ble_eq_true rfl, Nat.le_of_ble_eq_true rfl⟩ (Nat.le_of_ble_eq_true rfl) dX8_table_129 ?_
                    refine ga_ifb_ne (pc := 132) (tgt := 139) dX8_table_132 rfl (fun c132 => ?_) (fun c132 => ?_)
                    · skip
                      refine ga_aload_n (pc := 139) dX8_table_139 rfl ?_
                      refine mm_g20 (pc := 140) (z := c2) rfl dX8_table_140 ?_
                      refine ga_if_ge (pc := 143) (tgt := 150) dX8_table_143 rfl (by omega) (fun c143 => ?_) (fun c143 => ?_)
                      · exact absurd c143 (by omega)
                      · skip
                        refine ga_aload_n (pc := 146) dX8_table_146 rfl ?_
                        refine k_X8_next (pc := 147)  (I2 := (uN (uN (uN I 18 (tkFrom ((A 16)) ((I 17)) (b2))) 19 (tkTo ((A 16)) ((I 17)) (b2))) 20 c2)) ok (show 0 ≤ b2 ∧ b2 ≤ (I 17) ∧ (I 17) ≤ 200 from by first | exact ht | omega) (show mBy (uN A 0 e2) from by first | exact hb | omega) (by funext j; by_cases e0 : j = 18; (subst e0; rfl); by_cases e1 : j = 19; (subst e1; rfl); by_cases e2 : j = 20; (subst e2; rfl); simp only [uN, if_neg e0, if_neg e1, if_neg e2]) ⟨Nat.le_of_ble_eq_true rfl, Nat.le_of_ble_eq_true rfl⟩ (Nat.le_of_ble_eq_true rfl) dX8_table_147 ?_
                        refine ga_iinc (pc := 150) (L1 := [some (.ref mo), some (.int (iI w)), some (.int (iI (i + 1))), none]) dX8_table_150 rfl rfl (by decide) rfl ?_
                        refine ga_goto (pc := 153) (tgt := 56) dX8_table_153 rfl ?_
                        have hk3 := tk_r (A 16) (N := I 17) (p := b2) (by omega)
                        exact ih56 (i + 1) (tkFrom ((A 16)) ((I 17)) (b2)) (tkTo ((A 16)) ((I 17)) (b2)) c2 e2 (by omega) (by omega) (by rw [← hF, tTab_t (i := i) (r := (c, a, b, e)) (by omega) (by dsimp only; omega)]; congr 1; unfold tLine; rw [← hH]; unfold tEnd; dsimp only; rw [if_pos (by omega), ← hg, if_pos (by assumption)]) (by omega)
                    · skip
                      refine ga_aload_n (pc := 135) dX8_table_135 rfl ?_
                      refine k_X8_fails (pc := 136)  (I2 := (uN (uN (uN I 18 a2) 19 b2) 20 a2)) ok (show -2147483648 ≤ c2 ∧ c2 < 0 from by first | exact h1 | omega) (by funext j; by_cases e0 : j = 18; (subst e0; rfl); by_cases e1 : j = 19; (subst e1; rfl); by_cases e2 : j = 20; (subst e2; rfl); simp only [uN, if_neg e0, if_neg e1, if_neg e2]) ⟨Nat.le_of_ble_eq_true rfl, Nat.le_of_ble_eq_true rfl⟩ (Nat.le_of_ble_eq_true rfl) dX8_table_136 ?_
                      refine ga_aload_n (pc := 139) dX8_table_139 rfl ?_
                      refine mm_g20 (pc := 140) (z := a2) rfl dX8_table_140 ?_
                      refine ga_if_ge (pc := 143) (tgt := 150) dX8_table_143 rfl (by omega) (fun c143 => ?_) (fun c143 => ?_)
                      · skip
                        refine ga_iinc (pc := 150) (L1 := [some (.ref mo), some (.int (iI w)), some (.int (iI (i + 1))), none]) dX8_table_150 rfl rfl (by decide) rfl ?_
                        refine ga_goto (pc := 153) (tgt := 56) dX8_table_153 rfl ?_
                        have hk3 := tk_r (A 16) (N := I 17) (p := b2) (by omega)
                        exact ih56 (i + 1) a2 b2 a2 e2 (by omega) (by omega) (by rw [← hF, tTab_t (i := i) (r := (c, a, b, e)) (by omega) (by dsimp only; omega)]; congr 1; unfold tLine; rw [← hH]; unfold tEnd; dsimp only; rw [if_pos (by omega), ← hg, if_neg (by assumption)]) (by omega)
                      · exact absurd c143 (by omega)
                  refine ga_aload_n (pc := 110) dX8_table_110 rfl ?_
                  refine ga_iload_n (pc := 111) dX8_table_111 rfl ?_
                  refine ga_iconst (pc := 112) dX8_table_112 ?_
                  refine ga_iadd (pc := 113) dX8_table_113 ?_
                  refine ga_aload_n (pc := 114) dX8_table_114 rfl ?_
                  refine ga_iload_n (pc := 115) dX8_table_115 rfl ?_
                  refine k_X8_rowsOf (pc := 116) (t := w) (z := mRows I w) ok (show (-2147483648 ≤ w ∧ w < 2147483648) from by first | exact h1 | omega) (rfl) ⟨Nat.le_of_ble_eq_true rfl, Nat.le_of_ble_eq_true rfl⟩ (Nat.le_of_ble_eq_true rfl) dX8_table_116 ?_
                  refine ga_icmp_ge (pc := 119) (tgt := 127) dX8_table_119 rfl (by omega) (by omega) (fun c119 => ?_) (fun c119 => ?_)
                  · skip
                    refine ga_bipush (pc := 127) dX8_table_127 rfl ?_
                    exact jn129 59 (by first | rw [if_pos (by omega)] | rw [if_neg (by omega)]) (by omega)
                  · skip
                    refine ga_bipush (pc := 122) dX8_table_122 rfl ?_
                    refine ga_goto (pc := 124) (tgt := 129) dX8_table_124 rfl ?_
                    exact jn129 44 (by first | rw [if_pos (by omega)] | rw [if_neg (by omega)]) (by omega)
              refine ga_iconst (pc := 72) dX8_table_72 ?_
              refine ga_istore_n (pc := 73) (L1 := [some (.ref mo), some (.int (iI w)), some (.int (iI i)), some (.int (iI 0))]) dX8_table_73 rfl (by decide) rfl ?_
              have lp74 : ∀ (N74 : Nat) (j a1 b1 c1 : Int) (e1 : Int → Int), (0 ≤ j ∧ j ≤ mCols I w) → ((0 ≤ a1 ∧ a1 ≤ b1 ∧ b1 ≤ I 17) ∧ (c1 = -1 ∨ (0 ≤ c1 ∧ c1 ≤ 200))) → (tRow (A 16) (I 17) w i (mCols I w - j).toNat j (c1, a1, b1, e1) = tRow (A 16) (I 17) w i (mCols I w - 0).toNat 0 (c, a, b, e)) → (mCols I w - j).toNat < N74 → G X (gR 3) RX8 4 cX8_table (mH mo ad (uN (uN (uN I 18 a1) 19 b1) 20 c1) (uN A 0 e1)) 0 0 74 [some (.ref mo), some (.int (iI w)), some (.int (iI i)), some (.int (iI j))] [] := by
                intro N74
                induction N74 with
                | zero => intro j a1 b1 c1 e1 hj hr1 hG hN74; exact absurd hN74 (Nat.not_lt_zero _)
                | succ N74 ih74 =>
                  intro j a1 b1 c1 e1 hj hr1 hG hN74
                  refine ga_iload_n (pc := 74) dX8_table_74 rfl ?_
                  refine ga_aload_n (pc := 75) dX8_table_75 rfl ?_
                  refine ga_iload_n (pc := 76) dX8_table_76 rfl ?_
                  refine k_X8_columnsOf (pc := 77) (t := w) (z := mCols I w) ok (show (-2147483648 ≤ w ∧ w < 2147483648) from by first | exact h1 | omega) (rfl) ⟨Nat.le_of_ble_eq_true rfl, Nat.le_of_ble_eq_true rfl⟩ (Nat.le_of_ble_eq_true rfl) dX8_table_77 ?_
                  refine ga_icmp_ge (pc := 80) (tgt := 103) dX8_table_80 rfl (by omega) (by omega) (fun c80 => ?_) (fun c80 => ?_)
                  · skip
                    refine ga_kill (pc := 103) 3 (L1 := [some (.ref mo), some (.int (iI w)), some (.int (iI i)), none]) rfl ?_
                    exact jn103 a1 b1 c1 e1 (by omega) (by rw [← hG, tRow_x (by dsimp only; omega)])
                  · skip
                    refine ga_aload_n (pc := 83) dX8_table_83 rfl ?_
                    refine mm_g20 (pc := 84) (z := c1) rfl dX8_table_84 ?_
                    refine ga_if_ge (pc := 87) (tgt := 103) dX8_table_87 rfl (by omega) (fun c87 => ?_) (fun c87 => ?_)
                    · skip
                      refine ga_kill (pc := 103) 3 (L1 := [some (.ref mo), some (.int (iI w)), some (.int (iI i)), none]) rfl ?_
                      exact jn103 a1 b1 c1 e1 (by omega) (by rw [← hG, tRow_x (by dsimp only; omega)])
                    · skip
                      refine ga_aload_n (pc := 90) dX8_table_90 rfl ?_
                      refine ga_iload_n (pc := 91) dX8_table_91 rfl ?_
                      refine ga_iload_n (pc := 92) dX8_table_92 rfl ?_
                      refine ga_iload_n (pc := 93) dX8_table_93 rfl ?_
                      refine k_X8_entryOf (pc := 94) (t := w) (i := i) (j := j) (I2 := (uN (uN (uN I 18 ((tCell ((A 16)) ((I 17)) w i j (c1, a1, b1, e1)).2.1)) 19 ((tCell ((A 16)) ((I 17)) w i j (c1, a1, b1, e1)).2.2.1)) 20 ((tCell ((A 16)) ((I 17)) w i j (c1, a1, b1, e1)).1))) (A2 := (uN A 0 ((tCell ((A 16)) ((I 17)) w i j (c1, a1, b1, e1)).2.2.2))) ok (show 0 ≤ a1 ∧ a1 ≤ b1 ∧ b1 ≤ (I 17) ∧ (I 17) ≤ 200 from by first | exact ht | omega) (show mBy (uN A 0 e1) from by first | exact hb | omega) (show (0 ≤ w ∧ w ≤ 2) ∧ (0 ≤ i ∧ i ≤ 2) ∧ 0 ≤ j ∧ j ≤ 2 from by first | exact h1 | omega) (show c1 = -1 from by first | exact hf | omega) (by funext j; by_cases e0 : j = 18; (subst e0; rfl); by_cases e1 : j = 19; (subst e1; rfl); by_cases e2 : j = 20; (subst e2; rfl); simp only [uN, if_neg e0, if_neg e1, if_neg e2]) (by funext j; by_cases e0 : j = 0; (subst e0; rfl); simp only [uN, if_neg e0]) ⟨Nat.le_of_ble_eq_true rfl, Nat.le_of_ble_eq_true rfl⟩ (Nat.le_of_ble_eq_true rfl) dX8_table_94 ?_
                      refine ga_iinc (pc := 97) (L1 := [some (.ref mo), some (.int (iI w)), some (.int (iI i)), some (.int (iI (j + 1)))]) dX8_table_97 rfl rfl (by decide) rfl ?_
                      refine ga_goto (pc := 100) (tgt := 74) dX8_table_100 rfl ?_
                      exact ih74 (j + 1) ((tCell ((A 16)) ((I 17)) w i j (c1, a1, b1, e1)).2.1) ((tCell ((A 16)) ((I 17)) w i j (c1, a1, b1, e1)).2.2.1) ((tCell ((A 16)) ((I 17)) w i j (c1, a1, b1, e1)).1) ((tCell ((A 16)) ((I 17)) w i j (c1, a1, b1, e1)).2.2.2) (by omega) (by have z := tCell_r (A 16) (N := I 17) (t := w) (i := i) (j := j) (r := (c1, a1, b1, e1)) (by dsimp only; omega) (by dsimp only; omega); first | omega | exact ⟨z.1, by omega⟩) (by rw [← hG, tRow_t (j := j) (r := (c1, a1, b1, e1)) (by omega) (by dsimp only; omega)]) (by omega)
              exact lp74 _ 0 a b c e (by omega) (by omega) (rfl) (Nat.lt_succ_self _)
      exact lp56 _ 0 (tkFrom (A 16) (I 17) (I 19)) (tkTo (A 16) (I 17) (I 19)) (I 20) (A 0) (by omega) (by omega) (rfl) (Nat.lt_succ_self _)
    · skip
      refine ga_aload_n (pc := 45) dX8_table_45 rfl ?_
      refine k_X8_fails (pc := 46)  (I2 := (uN I 20 (I 18))) ok (by first | exact h1 | omega) (rfl) ⟨Nat.le_of_ble_eq_true rfl, Nat.le_of_ble_eq_true rfl⟩ (Nat.le_of_ble_eq_true rfl) dX8_table_46 ?_
      exact mm_vret hE dX8_table_49 (⟨rfl, by funext j; by_cases e0 : j = 20; (subst e0; exact (show (I 18) = ((tTable (A 16) (I 17) (mRows I) (mCols I) (I 20, I 18, I 19, A 0)).1) from by unfold tTable; rw [if_pos (by dsimp only; omega)])); by_cases e1 : j = 18; (subst e1; exact (show (I 18) = ((tTable (A 16) (I 17) (mRows I) (mCols I) (I 20, I 18, I 19, A 0)).2.1) from by unfold tTable; rw [if_pos (by dsimp only; omega)])); by_cases e2 : j = 19; (subst e2; exact (show (I 19) = ((tTable (A 16) (I 17) (mRows I) (mCols I) (I 20, I 18, I 19, A 0)).2.2.1) from by unfold tTable; rw [if_pos (by dsimp only; omega)])); by_cases e3 : j = 21; (subst e3; exact (show (I 21) = (if tWh (A 16) (I 18) (I 19) < 0 then I 21 else I 21 + 1) from by rw [if_pos (by omega)])); simp only [uN, if_neg e0, if_neg e1, if_neg e2, if_neg e3], by funext j; by_cases e0 : j = 0; (subst e0; exact (show (A 0) = ((tTable (A 16) (I 17) (mRows I) (mCols I) (I 20, I 18, I 19, A 0)).2.2.2) from by unfold tTable; rw [if_pos (by dsimp only; omega)])); simp only [uN, if_neg e0]⟩)
  refine ga_aload_n (pc := 0) dX8_table_0 rfl ?_
  refine ga_bipush (pc := 1) dX8_table_1 rfl ?_
  refine k_X8_is (pc := 3) (c := 97) ok (by first | exact ht | omega) (by first | exact hb | omega) (by first | exact h1 | omega) (rfl) ⟨Nat.le_of_ble_eq_true rfl, Nat.le_of_ble_eq_true rfl⟩ (Nat.le_of_ble_eq_true rfl) dX8_table_3 ?_
  refine ga_ifb_eq (pc := 6) (tgt := 13) dX8_table_6 rfl (fun c6 => ?_) (fun c6 => ?_)
  · skip
    refine ga_aload_n (pc := 13) dX8_table_13 rfl ?_
    refine ga_bipush (pc := 14) dX8_table_14 rfl ?_
    refine k_X8_is (pc := 16) (c := 98) ok (by first | exact ht | omega) (by first | exact hb | omega) (by first | exact h1 | omega) (rfl) ⟨Nat.le_of_ble_eq_true rfl, Nat.le_of_ble_eq_true rfl⟩ (Nat.le_of_ble_eq_true rfl) dX8_table_16 ?_
    refine ga_ifb_eq (pc := 19) (tgt := 26) dX8_table_19 rfl (fun c19 => ?_) (fun c19 => ?_)
    · skip
      refine ga_aload_n (pc := 26) dX8_table_26 rfl ?_
      refine ga_bipush (pc := 27) dX8_table_27 rfl ?_
      refine k_X8_is (pc := 29) (c := 99) ok (by first | exact ht | omega) (by first | exact hb | omega) (by first | exact h1 | omega) (rfl) ⟨Nat.le_of_ble_eq_true rfl, Nat.le_of_ble_eq_true rfl⟩ (Nat.le_of_ble_eq_true rfl) dX8_table_29 ?_
      refine ga_ifb_eq (pc := 32) (tgt := 39) dX8_table_32 rfl (fun c32 => ?_) (fun c32 => ?_)
      · skip
        refine ga_iconst (pc := 39) dX8_table_39 ?_
        exact jn40 (-1) (by unfold tWh; (repeat' split) <;> omega) (by omega)
      · skip
        refine ga_iconst (pc := 35) dX8_table_35 ?_
        refine ga_goto (pc := 36) (tgt := 40) dX8_table_36 rfl ?_
        exact jn40 2 (by unfold tWh; (repeat' split) <;> omega) (by omega)
    · skip
      refine ga_iconst (pc := 22) dX8_table_22 ?_
      refine ga_goto (pc := 23) (tgt := 40) dX8_table_23 rfl ?_
      exact jn40 1 (by unfold tWh; (repeat' split) <;> omega) (by omega)
  · skip
    refine ga_iconst (pc := 9) dX8_table_9 ?_
    refine ga_goto (pc := 10) (tgt := 40) dX8_table_10 rfl ?_
    exact jn40 0 (by unfold tWh; (repeat' split) <;> omega) (by omega)
theorem k_X8_table {X : ga_X} {nL : Nat} {cc : ByteArray} {mo : Nat} {ad : Nat → Nat} {I : Nat → Int} {A : Nat → Int → Int} {d pc : Nat} {L : List (Option Value)} {st : List Value}   {I2 : Nat → Int} {A2 : Nat → Int → Int} (ok : mOk mo ad) (hm : (1 ≤ I 3 ∧ I 3 ≤ 3) ∧ 1 ≤ I 4 ∧ I 4 ≤ 3) (ht : 0 ≤ I 18 ∧ I 18 ≤ I 19 ∧ I 19 ≤ I 17 ∧ I 17 ≤ 200) (hb : mBy A) (hf : I 20 = -1)  (hI2 : (uN (uN (uN (uN I 18 ((tTable (A 16) (I 17) (mRows I) (mCols I) (I 20, I 18, I 19, A 0)).2.1)) 19 ((tTable (A 16) (I 17) (mRows I) (mCols I) (I 20, I 18, I 19, A 0)).2.2.1)) 20 ((tTable (A 16) (I 17) (mRows I) (mCols I) (I 20, I 18, I 19, A 0)).1)) 21 (if tWh (A 16) (I 18) (I 19) < 0 then I 21 else I 21 + 1)) = I2) (hA2 : (uN A 0 ((tTable (A 16) (I 17) (mRows I) (mCols I) (I 20, I 18, I 19, A 0)).2.2.2)) = A2) (hR : 3 + 1 ≤ d ∧ 19 + 4 + 64 * 3 ≤ 64 * d) (hs : (st.map fun v => v.category).sum ≤ 8) (dd : decode cc pc = .ok (.invokevirtual 190, 3)) (kk : G X (gR d) RX8 nL cc (mH mo ad I2 A2) 0 0 (pc + 3) L st) : G X (gR d) RX8 nL cc (mH mo ad I A) 0 0 pc L (.ref mo :: st) :=
  mm_run ok (m_X8_table _ _ mo ad I A  hm ht hb hf) (lw_V q1822 q1824 qs57 q113 q1825) rfl (show ga_nn' yX8_table 0 from (by unfold ga_nn'; decide +kernel)) hR hs dd rfl (fun v I1 A1 hp => by
    obtain ⟨rfl, hp⟩ := hp
    obtain ⟨rfl, rfl⟩ := hp
    subst hI2
    subst hA2
    exact kk)
