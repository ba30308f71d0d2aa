/-! THE REFERENCE: the text, what is fed -/
/-- entries as they may be -/
abbrev tEn (e : Int → Int) : Prop := ∀ k : Int, (-50 ≤ e k ∧ e k ≤ 50) ∧ (k < 18 → -5 ≤ e k ∧ e k ≤ 5)
theorem tEn_u {e : Int → Int} (h : tEn e) {t i j v : Int} (hp : (0 ≤ t ∧ t ≤ 2) ∧ (0 ≤ i ∧ i ≤ 2) ∧ 0 ≤ j ∧ j ≤ 2) (hv : tIn t v) : tEn (uZ e (9 * t + 3 * i + j) v) := by
  intro k
  unfold uZ
  split
  · omega
  · exact h k
abbrev tG (N : Int) (r : tR) : Prop := (0 ≤ r.2.1 ∧ r.2.1 ≤ r.2.2.1 ∧ r.2.2.1 ≤ N) ∧ (r.1 = -1 ∨ (0 ≤ r.1 ∧ r.1 ≤ N)) ∧ tEn r.2.2.2 ∧ (r.1 = -1 → r.2.1 < N → r.2.1 < r.2.2.1)
theorem tG.a {N : Int} {r : tR} (h : tG N r) : 0 ≤ r.2.1 ∧ r.2.1 ≤ r.2.2.1 ∧ r.2.2.1 ≤ N := h.1
theorem tG.f {N : Int} {r : tR} (h : tG N r) : r.1 = -1 ∨ (0 ≤ r.1 ∧ r.1 ≤ N) := h.2.1
theorem tG.e {N : Int} {r : tR} (h : tG N r) : tEn r.2.2.2 := h.2.2.1
theorem tG.p {N : Int} {r : tR} (h : tG N r) : r.1 = -1 → r.2.1 < N → r.2.1 < r.2.2.1 := h.2.2.2
theorem tG.next {T : Int → Int} {N a b c : Int} {e : Int → Int} (h : 0 ≤ b ∧ b ≤ N) (hc : c = -1) (he : tEn e) : tG N ((c, tkFrom T N b, tkTo T N b, e) : tR) ∧ b ≤ tkFrom T N b := by
  have z := tk_r T h.2
  exact ⟨⟨⟨by show 0 ≤ tkFrom T N b; omega, z.2.1, z.2.2.1⟩, Or.inl hc, he, fun _ => z.2.2.2⟩, z.1⟩
theorem tG.off {N a b c : Int} {e : Int → Int} (h : 0 ≤ a ∧ a ≤ b ∧ b ≤ N) (he : tEn e) : tG N ((a, a, b, e) : tR) :=
  ⟨h, Or.inr ⟨h.1, by show a ≤ N; omega⟩, he, fun q => by have : a = -1 := q; omega⟩
theorem tCell_g (T : Int → Int) {N t i j : Int} {r : tR} (hp : (0 ≤ t ∧ t ≤ 2) ∧ (0 ≤ i ∧ i ≤ 2) ∧ 0 ≤ j ∧ j ≤ 2) (h : tG N r) (hf : r.1 < 0) : tG N (tCell T N t i j r) ∧ r.2.1 ≤ (tCell T N t i j r).2.1 := by
  have h0 : r.1 = -1 := by have := h.f; omega
  have h1 := tEs_r T h.a
  have h2 : r.2.1 ≤ (tEs T N r.2.1 r.2.2.1).1 ∧ r.2.1 ≤ (tEs T N r.2.1 r.2.2.1).2 := by
    have ha := h.a
    unfold tEs
    split
    · have z := tk_r T (N := N) (p := r.2.2.1) ha.2.2
      exact ⟨by show r.2.1 ≤ tkFrom _ _ _; omega, by show r.2.1 ≤ tkTo _ _ _; omega⟩
    · exact ⟨Int.le_refl _, ha.2.1⟩
  unfold tCell
  split
  · rename_i ok
    have z := tG.next (T := T) (a := 0) (b := (tEs T N r.2.1 r.2.2.1).2) ⟨by omega, h1.2.2⟩ h0 (tEn_u h.e hp ok.2.2.2)
    exact ⟨z.1, by show r.2.1 ≤ tkFrom _ _ _; omega⟩
  · exact ⟨tG.off (c := 0) h1 h.e, h2.1⟩
theorem tRow_g (T : Int → Int) {N t i : Int} (hp : (0 ≤ t ∧ t ≤ 2) ∧ (0 ≤ i ∧ i ≤ 2)) : ∀ (n : Nat) (j : Int) (r : tR), 0 ≤ j → j + n ≤ 3 → tG N r → tG N (tRow T N t i n j r) ∧ r.2.1 ≤ (tRow T N t i n j r).2.1 := by
  intro n
  induction n with
  | zero => intro j r _ _ h; exact ⟨h, Int.le_refl _⟩
  | succ n ih =>
    intro j r h0 h1 h
    unfold tRow
    split
    · rename_i hf
      have z := tCell_g T (t := t) (i := i) (j := j) ⟨hp.1, hp.2, by omega, by omega⟩ h hf
      have y := ih (j + 1) _ (by omega) (by omega) z.1
      exact ⟨y.1, Int.le_trans z.2 y.2⟩
    · exact ⟨h, Int.le_refl _⟩
theorem tEnd_g (T : Int → Int) {N c : Int} {r : tR} (h : tG N r) : tG N (tEnd T N c r) ∧ r.2.1 ≤ (tEnd T N c r).2.1 := by
  have ha := h.a
  unfold tEnd
  split
  · rename_i hf
    have h0 : r.1 = -1 := by have := h.f; omega
    split
    · have z := tG.next (T := T) (a := 0) (b := r.2.2.1) ⟨by omega, ha.2.2⟩ h0 h.e
      exact ⟨z.1, by show r.2.1 ≤ tkFrom _ _ _; omega⟩
    · exact ⟨tG.off (c := 0) ha h.e, Int.le_refl _⟩
  · exact ⟨h, Int.le_refl _⟩
theorem tTab_g (T : Int → Int) {N t R C : Int} (ht : 0 ≤ t ∧ t ≤ 2) (hC : 0 ≤ C ∧ C ≤ 3) : ∀ (n : Nat) (i : Int) (r : tR), 0 ≤ i → i + n ≤ 3 → tG N r → tG N (tTab T N t R C n i r) ∧ r.2.1 ≤ (tTab T N t R C n i r).2.1 := by
  intro n
  induction n with
  | zero => intro i r _ _ h; exact ⟨h, Int.le_refl _⟩
  | succ n ih =>
    intro i r h0 h1 h
    unfold tTab
    split
    · have z := tRow_g T (t := t) (i := i) ⟨ht, by omega, by omega⟩ (C - 0).toNat 0 r (by omega) (by omega) h
      have y := tEnd_g T (c := if i + 1 < R then 44 else 59) z.1
      have x := ih (i + 1) _ (by omega) (by omega) y.1
      exact ⟨x.1, Int.le_trans z.2 (Int.le_trans y.2 x.2)⟩
    · exact ⟨h, Int.le_refl _⟩
theorem tWh_r (T : Int → Int) (a b : Int) : -1 ≤ tWh T a b ∧ tWh T a b ≤ 2 := by unfold tWh; (repeat' split) <;> omega
theorem tTable_g (T : Int → Int) {N : Int} {R C : Int → Int} (hR : ∀ t, 1 ≤ R t ∧ R t ≤ 3) (hC : ∀ t, 1 ≤ C t ∧ C t ≤ 3) {r : tR} (h : tG N r) (hf : r.1 < 0) (hN : r.2.1 < N) : tG N (tTable T N R C r) ∧ ((tTable T N R C r).1 < 0 → r.2.1 < (tTable T N R C r).2.1) := by
  have ha := h.a
  have h0 : r.1 = -1 := by have := h.f; omega
  have hw := tWh_r T r.2.1 r.2.2.1
  have hr1 := hR (tWh T r.2.1 r.2.2.1)
  have hc1 := hC (tWh T r.2.1 r.2.2.1)
  unfold tTable
  split
  · exact ⟨tG.off (c := 0) ha h.e, fun q => by have : r.2.1 < 0 := q; omega⟩
  · have z := tG.next (T := T) (a := 0) (b := r.2.2.1) ⟨by omega, ha.2.2⟩ h0 h.e
    have y := tTab_g T (t := tWh T r.2.1 r.2.2.1) (R := R (tWh T r.2.1 r.2.2.1)) (C := C (tWh T r.2.1 r.2.2.1)) ⟨by omega, by omega⟩ ⟨by omega, by omega⟩ (R (tWh T r.2.1 r.2.2.1) - 0).toNat 0 _ (by omega) (by omega) z.1
    have x := h.p h0 hN
    refine ⟨y.1, fun _ => ?_⟩
    have y2 := y.2
    have y3 : tkFrom T N r.2.2.1 ≤ _ := y2
    omega
/-- the text from a token on: fault, from, to, entries; how many tables -/
def tText (T : Int → Int) (N : Int) (R C : Int → Int) : Nat → tR → Int → tR × Int
  | 0, r, n => (r, n)
  | f + 1, r, n => if r.1 < 0 ∧ r.2.1 < N then tText T N R C f (tTable T N R C r) (if tWh T r.2.1 r.2.2.1 < 0 then n else n + 1) else (r, n)
theorem tText_x {T : Int → Int} {N : Int} {R C : Int → Int} {f : Nat} {r : tR} {n : Int} (h : ¬ (r.1 < 0 ∧ r.2.1 < N)) : tText T N R C f r n = (r, n) := by
  cases f with
  | zero => rfl
  | succ f =>
    show (if r.1 < 0 ∧ r.2.1 < N then _ else _) = _
    rw [if_neg h]
theorem tText_t {T : Int → Int} {N : Int} {R C : Int → Int} {f : Nat} {r : tR} {n : Int} (h : r.1 < 0 ∧ r.2.1 < N) (hf : 0 < f) : tText T N R C f r n = tText T N R C (f - 1) (tTable T N R C r) (if tWh T r.2.1 r.2.2.1 < 0 then n else n + 1) := by
  cases f with
  | zero => omega
  | succ f =>
    show (if r.1 < 0 ∧ r.2.1 < N then _ else _) = _
    rw [if_pos h]
    rfl
def tAll (T : Int → Int) (N : Int) (R C : Int → Int) (e : Int → Int) : tR × Int := tText T N R C (N + 1).toNat (-1, tkFrom T N 0, tkTo T N 0, e) 0
set_option maxHeartbeats 4000000 in
set_option maxRecDepth 100000 in
theorem m_X8_text (l : Launch) (D : ga_G) (mo : Nat) (ad : Nat → Nat) (I : Nat → Int) (A : Nat → Int → Int)  (hm : (1 ≤ I 3 ∧ I 3 ≤ 3) ∧ 1 ≤ I 4 ∧ I 4 ≤ 3) (ht : 0 ≤ I 17 ∧ I 17 ≤ 200) (hb : mBy A) (he : tEn (A 0)) : mM l D yX8_text (ws_ yX8_text cX8_text 1 (some .int)) (gR 4) [] mo ad I A (mI (fun r I1 A1 => (r = if (tAll (A 16) (I 17) (mRows I) (mCols I) (A 0)).1.1 < 0 then (tAll (A 16) (I 17) (mRows I) (mCols I) (A 0)).2 else -100 - (tAll (A 16) (I 17) (mRows I) (mCols I) (A 0)).1.1) ∧ I1 = uN (uN (uN (uN (uN I 18 (tAll (A 16) (I 17) (mRows I) (mCols I) (A 0)).1.2.1) 19 (tAll (A 16) (I 17) (mRows I) (mCols I) (A 0)).1.2.2.1) 20 (tAll (A 16) (I 17) (mRows I) (mCols I) (A 0)).1.1) 21 (tAll (A 16) (I 17) (mRows I) (mCols I) (A 0)).2) 17 0 ∧ A1 = uN (uN A 2 (mC (A 2) (A 0) 27)) 0 (if (tAll (A 16) (I 17) (mRows I) (mCols I) (A 0)).1.1 < 0 then (tAll (A 16) (I 17) (mRows I) (mCols I) (A 0)).1.2.2.2 else mC (tAll (A 16) (I 17) (mRows I) (mCols I) (A 0)).1.2.2.2 (mC (A 2) (A 0) 27) 27))) := by
  refine mm_met 0 rfl (Nat.le_of_ble_eq_true rfl) (L0 := [some (.ref mo)]) rfl (fun X ok hE => ?_)
  have hk0 := tk_r (A 16) (N := I 17) (p := 0) (by omega)
  refine ga_aload_n (pc := 0) dX8_text_0 rfl ?_
  refine ga_aload_n (pc := 1) dX8_text_1 rfl ?_
  refine mm_g0 (pc := 2) dX8_text_2 ?_
  refine ga_aload_n (pc := 5) dX8_text_5 rfl ?_
  refine mm_g2 (pc := 6) dX8_text_6 ?_
  refine k_X8_saves_02 (pc := 9)  (A2 := (uN A 2 (mC (A 2) (A 0) 27))) ok  (rfl) ⟨Nat.le_of_ble_eq_true rfl, Nat.le_of_ble_eq_true rfl⟩ (Nat.le_of_ble_eq_true rfl) dX8_text_9 ?_
  refine ga_aload_n (pc := 12) dX8_text_12 rfl ?_
  refine ga_iconst (pc := 13) dX8_text_13 ?_
  refine mm_p19 (pc := 14) (I1 := (uN I 19 0)) (rfl) dX8_text_14 ?_
  refine ga_aload_n (pc := 17) dX8_text_17 rfl ?_
  refine ga_iconst (pc := 18) dX8_text_18 ?_
  refine mm_p20 (pc := 19) (I1 := (uN (uN I 19 0) 20 (-1))) (rfl) dX8_text_19 ?_
  refine ga_aload_n (pc := 22) dX8_text_22 rfl ?_
  refine ga_iconst (pc := 23) dX8_text_23 ?_
  refine mm_p21 (pc := 24) (I1 := (uN (uN (uN I 19 0) 20 (-1)) 21 0)) (rfl) dX8_text_24 ?_
  refine ga_aload_n (pc := 27) dX8_text_27 rfl ?_
  refine k_X8_next (pc := 28)  (I2 := (uN (uN (uN (uN I 19 (tkTo ((A 16)) ((I 17)) (0))) 20 (-1)) 21 0) 18 (tkFrom ((A 16)) ((I 17)) (0)))) ok (show 0 ≤ 0 ∧ 0 ≤ (I 17) ∧ (I 17) ≤ 200 from by first | exact ht | omega) (show mBy (uN A 2 (mC (A 2) (A 0) 27)) from by first | exact hb | omega) (by funext j; by_cases e0 : j = 19; (subst e0; rfl); by_cases e1 : j = 20; (subst e1; rfl); by_cases e2 : j = 21; (subst e2; rfl); by_cases e3 : j = 18; (subst e3; rfl); simp only [uN, if_neg e0, if_neg e1, if_neg e2, if_neg e3]) ⟨Nat.le_of_ble_eq_true rfl, Nat.le_of_ble_eq_true rfl⟩ (Nat.le_of_ble_eq_true rfl) dX8_text_28 ?_
  refine ga_heq (pc := 31) (h1 := mH mo ad (uN (uN (uN (uN I 19 (tkTo ((A 16)) ((I 17)) (0))) 20 (-1)) 21 0) 18 (tkFrom ((A 16)) ((I 17)) (0))) (uN (uN A 2 (mC (A 2) (A 0) 27)) 0 (A 0))) (congr (congrArg (mH mo ad) (rfl)) (by funext j; by_cases e0 : j = 2; (subst e0; rfl); by_cases e1 : j = 0; (subst e1; rfl); simp only [uN, if_neg e0, if_neg e1])) ?_
  have lp31 : ∀ (N31 : Nat) (F : Nat) (a b c n : Int) (e : Int → Int), (tG (I 17) ((c, a, b, e) : tR)) → (0 ≤ n ∧ n + F ≤ 300) → (c < 0 → I 17 - a + 1 ≤ F) → (tText (A 16) (I 17) (mRows I) (mCols I) F (c, a, b, e) n = (tAll (A 16) (I 17) (mRows I) (mCols I) (A 0))) → F < N31 → G X (gR 4) RX8 1 cX8_text (mH mo ad (uN (uN (uN (uN I 19 b) 20 c) 21 n) 18 a) (uN (uN A 2 (mC (A 2) (A 0) 27)) 0 e)) 0 0 31 [some (.ref mo)] [] := by
    intro N31
    induction N31 with
    | zero => intro F a b c n e hg hn hFm hF hN31; exact absurd hN31 (Nat.not_lt_zero _)
    | succ N31 ih31 =>
      intro F a b c n e hg hn hFm hF hN31
      have hg1 := hg.a
      have hg2 := hg.f
      dsimp only at hg1 hg2
      refine ga_aload_n (pc := 31) dX8_text_31 rfl ?_
      refine mm_g20 (pc := 32) (z := c) rfl dX8_text_32 ?_
      refine ga_if_ge (pc := 35) (tgt := 56) dX8_text_35 rfl (by omega) (fun c35 => ?_) (fun c35 => ?_)
      · skip
        refine ga_aload_n (pc := 56) dX8_text_56 rfl ?_
        refine ga_iconst (pc := 57) dX8_text_57 ?_
        refine mm_p17 (pc := 58) (I1 := (uN (uN (uN (uN (uN I 19 b) 20 c) 21 n) 18 a) 17 0)) (rfl) dX8_text_58 ?_
        refine ga_aload_n (pc := 61) dX8_text_61 rfl ?_
        refine mm_g20 (pc := 62) (z := c) rfl dX8_text_62 ?_
        refine ga_if_ge (pc := 65) (tgt := 73) dX8_text_65 rfl (by omega) (fun c65 => ?_) (fun c65 => ?_)
        · skip
          refine ga_aload_n (pc := 73) dX8_text_73 rfl ?_
          refine ga_aload_n (pc := 74) dX8_text_74 rfl ?_
          refine mm_g2 (pc := 75) dX8_text_75 ?_
          refine ga_aload_n (pc := 78) dX8_text_78 rfl ?_
          refine mm_g0 (pc := 79) dX8_text_79 ?_
          refine k_X8_saves_20 (pc := 82)  (A2 := (uN (uN A 2 (mC (A 2) (A 0) 27)) 0 (mC (e) ((mC (A 2) (A 0) 27)) 27))) ok  (by funext j; by_cases e0 : j = 2; (subst e0; rfl); by_cases e1 : j = 0; (subst e1; rfl); simp only [uN, if_neg e0, if_neg e1]) ⟨Nat.le_of_ble_eq_true rfl, Nat.le_of_ble_eq_true rfl⟩ (Nat.le_of_ble_eq_true rfl) dX8_text_82 ?_
          refine ga_bipush (pc := 85) dX8_text_85 rfl ?_
          refine ga_aload_n (pc := 87) dX8_text_87 rfl ?_
          refine mm_g20 (pc := 88) (z := c) rfl dX8_text_88 ?_
          refine ga_isub (pc := 91) dX8_text_91 ?_
          exact mm_iret hE dX8_text_92 (⟨_, rfl, by dsimp only; first | (exfalso; omega) | (rw [← hF, tText_x (by dsimp only; omega)]; dsimp only; first | (rw [if_pos (by omega), if_pos (by omega)]; exact ⟨rfl, by funext j; by_cases e0 : j = 19; (subst e0; rfl); by_cases e1 : j = 20; (subst e1; rfl); by_cases e2 : j = 21; (subst e2; rfl); by_cases e3 : j = 18; (subst e3; rfl); by_cases e4 : j = 17; (subst e4; rfl); simp only [uN, if_neg e0, if_neg e1, if_neg e2, if_neg e3, if_neg e4], rfl⟩) | (rw [if_neg (by omega), if_neg (by omega)]; exact ⟨rfl, by funext j; by_cases e0 : j = 19; (subst e0; rfl); by_cases e1 : j = 20; (subst e1; rfl); by_cases e2 : j = 21; (subst e2; rfl); by_cases e3 : j = 18; (subst e3; rfl); by_cases e4 : j = 17; (subst e4; rfl); simp only [uN, if_neg e0, if_neg e1, if_neg e2, if_neg e3, if_neg e4], rfl⟩))⟩)
        · skip
          refine ga_aload_n (pc := 68) dX8_text_68 rfl ?_
          refine mm_g21 (pc := 69) (z := n) rfl dX8_text_69 ?_
          exact mm_iret hE dX8_text_72 (⟨_, rfl, by dsimp only; first | (exfalso; omega) | (rw [← hF, tText_x (by dsimp only; omega)]; dsimp only; first | (rw [if_pos (by omega), if_pos (by omega)]; exact ⟨rfl, by funext j; by_cases e0 : j = 19; (subst e0; rfl); by_cases e1 : j = 20; (subst e1; rfl); by_cases e2 : j = 21; (subst e2; rfl); by_cases e3 : j = 18; (subst e3; rfl); by_cases e4 : j = 17; (subst e4; rfl); simp only [uN, if_neg e0, if_neg e1, if_neg e2, if_neg e3, if_neg e4], rfl⟩) | (rw [if_neg (by omega), if_neg (by omega)]; exact ⟨rfl, by funext j; by_cases e0 : j = 19; (subst e0; rfl); by_cases e1 : j = 20; (subst e1; rfl); by_cases e2 : j = 21; (subst e2; rfl); by_cases e3 : j = 18; (subst e3; rfl); by_cases e4 : j = 17; (subst e4; rfl); simp only [uN, if_neg e0, if_neg e1, if_neg e2, if_neg e3, if_neg e4], rfl⟩))⟩)
      · skip
        refine ga_aload_n (pc := 38) dX8_text_38 rfl ?_
        refine mm_g18 (pc := 39) (z := a) rfl dX8_text_39 ?_
        refine ga_aload_n (pc := 42) dX8_text_42 rfl ?_
        refine mm_g17 (pc := 43) (z := I 17) rfl dX8_text_43 ?_
        refine ga_icmp_ge (pc := 46) (tgt := 56) dX8_text_46 rfl (by omega) (by omega) (fun c46 => ?_) (fun c46 => ?_)
        · skip
          refine ga_aload_n (pc := 56) dX8_text_56 rfl ?_
          refine ga_iconst (pc := 57) dX8_text_57 ?_
          refine mm_p17 (pc := 58) (I1 := (uN (uN (uN (uN (uN I 19 b) 20 c) 21 n) 18 a) 17 0)) (rfl) dX8_text_58 ?_
          refine ga_aload_n (pc := 61) dX8_text_61 rfl ?_
          refine mm_g20 (pc := 62) (z := c) rfl dX8_text_62 ?_
          refine ga_if_ge (pc := 65) (tgt := 73) dX8_text_65 rfl (by omega) (fun c65 => ?_) (fun c65 => ?_)
          · skip
            refine ga_aload_n (pc := 73) dX8_text_73 rfl ?_
            refine ga_aload_n (pc := 74) dX8_text_74 rfl ?_
            refine mm_g2 (pc := 75) dX8_text_75 ?_
            refine ga_aload_n (pc := 78) dX8_text_78 rfl ?_
            refine mm_g0 (pc := 79) dX8_text_79 ?_
            refine k_X8_saves_20 (pc := 82)  (A2 := (uN (uN A 2 (mC (A 2) (A 0) 27)) 0 (mC (e) ((mC (A 2) (A 0) 27)) 27))) ok  (by funext j; by_cases e0 : j = 2; (subst e0; rfl); by_cases e1 : j = 0; (subst e1; rfl); simp only [uN, if_neg e0, if_neg e1]) ⟨Nat.le_of_ble_eq_true rfl, Nat.le_of_ble_eq_true rfl⟩ (Nat.le_of_ble_eq_true rfl) dX8_text_82 ?_
            refine ga_bipush (pc := 85) dX8_text_85 rfl ?_
            refine ga_aload_n (pc := 87) dX8_text_87 rfl ?_
            refine mm_g20 (pc := 88) (z := c) rfl dX8_text_88 ?_
            refine ga_isub (pc := 91) dX8_text_91 ?_
            exact mm_iret hE dX8_text_92 (⟨_, rfl, by dsimp only; first | (exfalso; omega) | (rw [← hF, tText_x (by dsimp only; omega)]; dsimp only; first | (rw [if_pos (by omega), if_pos (by omega)]; exact ⟨rfl, by funext j; by_cases e0 : j = 19; (subst e0; rfl); by_cases e1 : j = 20; (subst e1; rfl); by_cases e2 : j = 21; (subst e2; rfl); by_cases e3 : j = 18; (subst e3; rfl); by_cases e4 : j = 17; (subst e4; rfl); simp only [uN, if_neg e0, if_neg e1, if_neg e2, if_neg e3, if_neg e4], rfl⟩) | (rw [if_neg (by omega), if_neg (by omega)]; exact ⟨rfl, by funext j; by_cases e0 : j = 19; (subst e0; rfl); by_cases e1 : j = 20; (subst e1; rfl); by_cases e2 : j = 21; (subst e2; rfl); by_cases e3 : j = 18; (subst e3; rfl); by_cases e4 : j = 17; (subst e4; rfl); simp only [uN, if_neg e0, if_neg e1, if_neg e2, if_neg e3, if_neg e4], rfl⟩))⟩)
          · skip
            refine ga_aload_n (pc := 68) dX8_text_68 rfl ?_
            refine mm_g21 (pc := 69) (z := n) rfl dX8_text_69 ?_
            exact mm_iret hE dX8_text_72 (⟨_, rfl, by dsimp only; first | (exfalso; omega) | (rw [← hF, tText_x (by dsimp only; omega)]; dsimp only; first | (rw [if_pos (by omega), if_pos (by omega)]; exact ⟨rfl, by funext j; by_cases e0 : j = 19; (subst e0; rfl); by_cases e1 : j = 20; (subst e1; rfl); by_cases e2 : j = 21; (subst e2; rfl); by_cases e3 : j = 18; (subst e3; rfl); by_cases e4 : j = 17; (subst e4; rfl); simp only [uN, if_neg e0, if_neg e1, if_neg e2, if_neg e3, if_neg e4], rfl⟩) | (rw [if_neg (by omega), if_neg (by omega)]; exact ⟨rfl, by funext j; by_cases e0 : j = 19; (subst e0; rfl); by_cases e1 : j = 20; (subst e1; rfl); by_cases e2 : j = 21; (subst e2; rfl); by_cases e3 : j = 18; (subst e3; rfl); by_cases e4 : j = 17; (subst e4; rfl); simp only [uN, if_neg e0, if_neg e1, if_neg e2, if_neg e3, if_neg e4], rfl⟩))⟩)
        · skip
          refine ga_aload_n (pc := 49) dX8_text_49 rfl ?_
          refine k_X8_table (pc := 50)  (I2 := (uN (uN (uN (uN I 19 ((tTable ((A 16)) ((I 17)) (mRows I) (mCols I) (c, a, b, e)).2.2.1)) 20 ((tTable ((A 16)) ((I 17)) (mRows I) (mCols I) (c, a, b, e)).1)) 21 (if tWh ((A 16)) (a) (b) < 0 then n else n + 1)) 18 ((tTable ((A 16)) ((I 17)) (mRows I) (mCols I) (c, a, b, e)).2.1))) (A2 := (uN (uN A 2 (mC (A 2) (A 0) 27)) 0 ((tTable ((A 16)) ((I 17)) (mRows I) (mCols I) (c, a, b, e)).2.2.2))) ok (show (1 ≤ (I 3) ∧ (I 3) ≤ 3) ∧ 1 ≤ (I 4) ∧ (I 4) ≤ 3 from by first | exact hm | omega) (show 0 ≤ a ∧ a ≤ b ∧ b ≤ (I 17) ∧ (I 17) ≤ 200 from by first | exact ht | omega) (show mBy (uN (uN A 2 (mC (A 2) (A 0) 27)) 0 e) from by first | exact hb | omega) (show c = -1 from by first | exact hf | omega) (by funext j; by_cases e0 : j = 19; (subst e0; rfl); by_cases e1 : j = 20; (subst e1; rfl); by_cases e2 : j = 21; (subst e2; rfl); by_cases e3 : j = 18; (subst e3; rfl); simp only [uN, if_neg e0, if_neg e1, if_neg e2, if_neg e3]) (by funext j; by_cases e0 : j = 2; (subst e0; rfl); by_cases e1 : j = 0; (subst e1; rfl); simp only [uN, if_neg e0, if_neg e1]) ⟨Nat.le_of_ble_eq_true rfl, Nat.le_of_ble_eq_true rfl⟩ (Nat.le_of_ble_eq_true rfl) dX8_text_50 ?_
          refine ga_goto (pc := 53) (tgt := 31) dX8_text_53 rfl ?_
          have hg3 := tTable_g (A 16) (mRows_r hm) (mCols_r hm) hg (by dsimp only; omega) (by dsimp only; omega)
          dsimp only at hg3
          exact ih31 (F - 1) ((tTable ((A 16)) ((I 17)) (mRows I) (mCols I) (c, a, b, e)).2.1) ((tTable ((A 16)) ((I 17)) (mRows I) (mCols I) (c, a, b, e)).2.2.1) ((tTable ((A 16)) ((I 17)) (mRows I) (mCols I) (c, a, b, e)).1) (if tWh ((A 16)) (a) (b) < 0 then n else n + 1) ((tTable ((A 16)) ((I 17)) (mRows I) (mCols I) (c, a, b, e)).2.2.2) (hg3.1) (by split <;> omega) (by omega) (by rw [← hF, tText_t (f := F) (by dsimp only; omega) (by omega)]) (by omega)
  exact lp31 _ ((I 17 + 1).toNat) (tkFrom ((A 16)) ((I 17)) (0)) (tkTo ((A 16)) ((I 17)) (0)) (-1) 0 (A 0) ((tG.next (a := 0) (by omega) rfl he).1) (by omega) (by omega) (rfl) (Nat.lt_succ_self _)
