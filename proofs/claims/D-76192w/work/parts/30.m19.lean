/-! THE REFERENCE: sheets and shelves -/
def mSz (f : Int → Int) (a k : Int) : Int → Int := fun x => if a ≤ x ∧ x < a + k then 0 else f x
theorem mSz_0 (f : Int → Int) (a : Int) : mSz f a 0 = f := by
  funext x
  unfold mSz
  rw [if_neg (by omega)]
theorem mSz_s (f : Int → Int) {a k : Int} (h : 0 ≤ k) : uZ (mSz f a k) (a + k) 0 = mSz f a (k + 1) := by
  funext x
  unfold uZ mSz
  by_cases e : x = a + k
  · rw [if_pos e, if_pos (by omega)]
  · rw [if_neg e]
    by_cases e2 : a ≤ x ∧ x < a + k
    · rw [if_pos e2, if_pos (by omega)]
    · rw [if_neg e2, if_neg (by omega)]
/-- n numbers moved from a to b, out of g -/
def mMv (f g : Int → Int) (a b n : Int) : Int → Int := fun x => if b ≤ x ∧ x < b + n then g (a + (x - b)) else f x
theorem mMv_0 (f g : Int → Int) (a b : Int) : mMv f g a b 0 = f := by
  funext x
  unfold mMv
  rw [if_neg (by omega)]
theorem mMv_s (f g : Int → Int) {a b k v : Int} (h : 0 ≤ k) (hv : v = g (a + k)) : uZ (mMv f g a b k) (b + k) v = mMv f g a b (k + 1) := by
  funext x
  unfold uZ mMv
  by_cases e : x = b + k
  · rw [if_pos e, if_pos (by omega), hv, e]
    congr 1
    omega
  · rw [if_neg e]
    by_cases e2 : b ≤ x ∧ x < b + k
    · rw [if_pos e2, if_pos (by omega)]
    · rw [if_neg e2, if_neg (by omega)]
theorem bm_r (v : Int) : (-128 ≤ v.bmod 256 ∧ v.bmod 256 < 128) ∧ (-32768 ≤ v.bmod 65536 ∧ v.bmod 65536 < 32768) ∧ zI32 (v.bmod 4294967296) := by
  have h1 := Int.le_bmod (x := v) (m := 256) (by decide)
  have h2 := Int.bmod_lt (x := v) (m := 256) (by decide)
  have h3 := Int.le_bmod (x := v) (m := 65536) (by decide)
  have h4 := Int.bmod_lt (x := v) (m := 65536) (by decide)
  have h5 := Int.le_bmod (x := v) (m := 4294967296) (by decide)
  have h6 := Int.bmod_lt (x := v) (m := 4294967296) (by decide)
  omega
def zNar (so v : Int) : Int := if so = 0 then v.bmod 256 else if so = 1 then v.bmod 65536 else if so = 2 then v.bmod 4294967296 else v
abbrev mSh1 (A : Nat → Int → Int) (s so n : Int) : Nat → Int → Int := uN (uN (uN A 34 (uZ (A 34) s so)) 35 (uZ (A 35) s (if so < 0 then 0 else n))) 36 (mSz (A 36) (40 * s) 40)
def mItm (A : Nat → Int → Int) (s so i : Int) : Int := if (0 ≤ s ∧ s ≤ 3) ∧ 0 ≤ so ∧ so ≤ 3 then (if A 34 s ≠ so then (if A 34 s < 0 then -11 else -13) else if 0 ≤ i ∧ i < A 35 s then (A 36 (40 * s + i)).bmod 4294967296 else -12) else -1
/-- shelves: what each holds, which, how long -/
abbrev mHl (A : Nat → Int → Int) : Prop := ∀ s : Int, 0 ≤ s → s ≤ 3 → (0 ≤ A 38 s ∧ A 38 s ≤ 2) ∧ zI32 (A 39 s) ∧ (0 ≤ A 40 s ∧ A 40 s ≤ 40) ∧ (A 38 s = 1 → 0 ≤ A 39 s ∧ A 39 s ≤ 3)
def mHb (I : Nat → Int) (A : Nat → Int → Int) (s : Int) : Int := if A 38 s = 0 ∧ ¬ (0 ≤ A 39 s ∧ A 39 s < I 5) then 2 else A 38 s
abbrev zUnd (a b : Int) : Prop := b = 0 ∨ a = b ∨ (b = 2 ∧ a = 4) ∨ (b = 3 ∧ 5 ≤ a) ∨ (b = 5 ∧ a = 6)
def mTkn (I : Nat → Int) (A : Nat → Int → Int) (s a : Int) : Int := if (0 ≤ s ∧ s ≤ 3) ∧ ((0 ≤ a ∧ a ≤ 6) ∨ (10 ≤ a ∧ a ≤ 13)) then (if mHb I A s = 2 then -11 else if mHb I A s = 0 then (if a ≤ 6 ∧ zUnd (A 11 (A 39 s)) a then A 39 s else -13) else if a = 10 + A 39 s then A 40 s else -13) else -1
set_option maxHeartbeats 4000000 in
set_option maxRecDepth 100000 in
theorem m_X8_sheet (l : Launch) (D : ga_G) (mo : Nat) (ad : Nat → Nat) (I : Nat → Int) (A : Nat → Int → Int) (s so y : Int) (h1 : (-2147483648 ≤ s ∧ s < 2147483648) ∧ (-2147483648 ≤ so ∧ so < 2147483648) ∧ (-2147483648 ≤ y ∧ y < 2147483648)) : mM l D yX8_sheet (ws_ yX8_sheet cX8_sheet 5 (some .int)) (gR 2) [.int (iI s), .int (iI so), .int (iI y)] mo ad I A (mI (fun r I1 A1 => if (0 ≤ s ∧ s ≤ 3) ∧ (-1 ≤ so ∧ so ≤ 3) ∧ (so < 0 ∨ y ≤ 40) then (if 0 ≤ so ∧ y < 0 then r = -14 ∧ I1 = I ∧ A1 = A else r = 1 ∧ I1 = I ∧ A1 = mSh1 A s so y) else r = -1 ∧ I1 = I ∧ A1 = A)) := by
  refine mm_met 1 rfl (Nat.le_of_ble_eq_true rfl) (L0 := [some (.ref mo), some (.int (iI s)), some (.int (iI so)), some (.int (iI y)), none]) rfl (fun X ok hE => ?_)
  refine ga_iload_n (pc := 0) dX8_sheet_0 rfl ?_
  refine k_X8_isSheet (pc := 1) (b := s) (by omega) (rfl) ⟨Nat.le_of_ble_eq_true rfl, Nat.le_of_ble_eq_true rfl⟩ ⟨Nat.le_of_ble_eq_true rfl, Nat.le_of_ble_eq_true rfl⟩ (Nat.le_of_ble_eq_true rfl) dX8_sheet_1 ?_
  refine ga_ifb_eq (pc := 4) (tgt := 31) dX8_sheet_4 rfl (fun c4 => ?_) (fun c4 => ?_)
  · skip
    refine ga_iconst (pc := 31) dX8_sheet_31 ?_
    exact mm_iret hE dX8_sheet_32 (⟨_, rfl, by dsimp only; rw [if_neg (by omega)]; exact ⟨rfl, rfl, rfl⟩⟩)
  · skip
    refine ga_iload_n (pc := 7) dX8_sheet_7 rfl ?_
    refine ga_i2l (pc := 8) dX8_sheet_8 (by omega) ?_
    refine ga_ldc2 (pc := 9) (-1) dX8_sheet_9 q2023 rfl ?_
    refine ga_ldc2 (pc := 12) (3) dX8_sheet_12 q1731 rfl ?_
    refine k_X8_in (pc := 15) (a := so) (b := (-1)) (c := (3)) (by omega) (rfl) ⟨Nat.le_of_ble_eq_true rfl, Nat.le_of_ble_eq_true rfl⟩ ⟨Nat.le_of_ble_eq_true rfl, Nat.le_of_ble_eq_true rfl⟩ (Nat.le_of_ble_eq_true rfl) dX8_sheet_15 ?_
    refine ga_ifb_eq (pc := 18) (tgt := 31) dX8_sheet_18 rfl (fun c18 => ?_) (fun c18 => ?_)
    · skip
      refine ga_iconst (pc := 31) dX8_sheet_31 ?_
      exact mm_iret hE dX8_sheet_32 (⟨_, rfl, by dsimp only; rw [if_neg (by omega)]; exact ⟨rfl, rfl, rfl⟩⟩)
    · skip
      have jn44 : (¬ (0 ≤ so ∧ y < 0) ∧ (so < 0 ∨ y ≤ 40)) → G X (gR 2) RX8 5 cX8_sheet (mH mo ad I A) 0 0 44 [some (.ref mo), some (.int (iI s)), some (.int (iI so)), some (.int (iI y)), none] [] := by
        intro hg
        have jn65 : ∀ (x : Int), (x = if so < 0 then 0 else y) → G X (gR 2) RX8 5 cX8_sheet (mH mo ad I (uN A 34 (uZ (A 34) s so))) 0 0 65 [some (.ref mo), some (.int (iI s)), some (.int (iI so)), some (.int (iI y)), none] [.int (iI x), .int (iI s), .ref (ad 35)] := by
          intro x hx
          refine mm_ast35 (pc := 65) (f := A 35) (A1 := (uN (uN A 34 (uZ (A 34) s so)) 35 (uZ (A 35) s x))) ok (by omega) rfl (rfl) dX8_sheet_65 ?_
          refine ga_iconst (pc := 66) dX8_sheet_66 ?_
          refine ga_istore (pc := 67) (L1 := [some (.ref mo), some (.int (iI s)), some (.int (iI so)), some (.int (iI y)), some (.int (iI 0))]) dX8_sheet_67 rfl (by decide) rfl ?_
          refine ga_heq (pc := 69) (h1 := mH mo ad I (uN (uN (uN A 34 (uZ (A 34) s so)) 35 (uZ (A 35) s x)) 36 (mSz (A 36) (40 * s) 0))) (congr (congrArg (mH mo ad) (rfl)) (by funext j; by_cases e0 : j = 34; (subst e0; rfl); by_cases e1 : j = 35; (subst e1; rfl); by_cases e2 : j = 36; (subst e2; exact (show (A 36) = (mSz (A 36) (40 * s) 0) from (mSz_0 _ _).symm)); simp only [uN, if_neg e0, if_neg e1, if_neg e2])) ?_
          have lp69 : ∀ (N69 : Nat) (k : Int), (0 ≤ k ∧ k ≤ 40) → (40 - k).toNat < N69 → G X (gR 2) RX8 5 cX8_sheet (mH mo ad I (uN (uN (uN A 34 (uZ (A 34) s so)) 35 (uZ (A 35) s x)) 36 (mSz (A 36) (40 * s) k))) 0 0 69 [some (.ref mo), some (.int (iI s)), some (.int (iI so)), some (.int (iI y)), some (.int (iI k))] [] := by
            intro N69
            induction N69 with
            | zero => intro k hk hN69; exact absurd hN69 (Nat.not_lt_zero _)
            | succ N69 ih69 =>
              intro k hk hN69
              refine ga_iload (pc := 69) dX8_sheet_69 rfl ?_
              refine ga_bipush (pc := 71) dX8_sheet_71 rfl ?_
              refine ga_icmp_ge (pc := 73) (tgt := 95) dX8_sheet_73 rfl (by omega) (by omega) (fun c73 => ?_) (fun c73 => ?_)
              · skip
                refine ga_iconst (pc := 95) dX8_sheet_95 ?_
                exact mm_iret hE dX8_sheet_96 (⟨_, rfl, by dsimp only; (obtain rfl : k = 40 := by omega); rw [if_pos (by omega), if_neg (by omega)]; exact ⟨rfl, rfl, by rw [hx]⟩⟩)
              · skip
                refine ga_aload_n (pc := 76) dX8_sheet_76 rfl ?_
                refine mm_g36 (pc := 77) dX8_sheet_77 ?_
                refine ga_bipush (pc := 80) dX8_sheet_80 rfl ?_
                refine ga_iload_n (pc := 82) dX8_sheet_82 rfl ?_
                refine ga_imul (pc := 83) dX8_sheet_83 ?_
                refine ga_iload (pc := 84) dX8_sheet_84 rfl ?_
                refine ga_iadd (pc := 86) dX8_sheet_86 ?_
                refine ga_lconst (pc := 87) 0 dX8_sheet_87 rfl ?_
                refine mm_ast36 (pc := 88) (f := mSz (A 36) (40 * s) k) (A1 := (uN (uN (uN A 34 (uZ (A 34) s so)) 35 (uZ (A 35) s x)) 36 (uZ (mSz (A 36) (40 * s) k) ((40 * s) + k) 0))) ok (by omega) rfl (by funext j; by_cases e0 : j = 36; (subst e0; rfl); simp only [uN, if_neg e0]) dX8_sheet_88 ?_
                refine ga_iinc (pc := 89) (L1 := [some (.ref mo), some (.int (iI s)), some (.int (iI so)), some (.int (iI y)), some (.int (iI (k + 1)))]) dX8_sheet_89 rfl rfl (by decide) rfl ?_
                refine ga_goto (pc := 92) (tgt := 69) dX8_sheet_92 rfl ?_
                refine ga_heq (pc := 69) (h1 := mH mo ad I (uN (uN (uN A 34 (uZ (A 34) s so)) 35 (uZ (A 35) s x)) 36 (mSz (A 36) (40 * s) (k + 1)))) (congr (congrArg (mH mo ad) (rfl)) (by funext j; by_cases e0 : j = 34; (subst e0; rfl); by_cases e1 : j = 35; (subst e1; rfl); by_cases e2 : j = 36; (subst e2; exact (show (uZ (mSz (A 36) (40 * s) k) ((40 * s) + k) 0) = (mSz (A 36) (40 * s) (k + 1)) from mSz_s _ hk.1)); simp only [uN, if_neg e0, if_neg e1, if_neg e2])) ?_
                exact ih69 (k + 1) (by omega) (by omega)
          exact lp69 _ 0 (by omega) (Nat.lt_succ_self _)
        refine ga_aload_n (pc := 44) dX8_sheet_44 rfl ?_
        refine mm_g34 (pc := 45) dX8_sheet_45 ?_
        refine ga_iload_n (pc := 48) dX8_sheet_48 rfl ?_
        refine ga_iload_n (pc := 49) dX8_sheet_49 rfl ?_
        refine mm_ast34 (pc := 50) (f := A 34) (A1 := (uN A 34 (uZ (A 34) s so))) ok (by omega) rfl (rfl) dX8_sheet_50 ?_
        refine ga_aload_n (pc := 51) dX8_sheet_51 rfl ?_
        refine mm_g35 (pc := 52) dX8_sheet_52 ?_
        refine ga_iload_n (pc := 55) dX8_sheet_55 rfl ?_
        refine ga_iload_n (pc := 56) dX8_sheet_56 rfl ?_
        refine ga_if_ge (pc := 57) (tgt := 64) dX8_sheet_57 rfl (by omega) (fun c57 => ?_) (fun c57 => ?_)
        · skip
          refine ga_iload_n (pc := 64) dX8_sheet_64 rfl ?_
          exact jn65 y (by first | (exfalso; omega) | rw [if_pos (by omega)] | rw [if_neg (by omega)])
        · skip
          refine ga_iconst (pc := 60) dX8_sheet_60 ?_
          refine ga_goto (pc := 61) (tgt := 65) dX8_sheet_61 rfl ?_
          exact jn65 0 (by first | (exfalso; omega) | rw [if_pos (by omega)] | rw [if_neg (by omega)])
      refine ga_iload_n (pc := 21) dX8_sheet_21 rfl ?_
      refine ga_if_lt (pc := 22) (tgt := 33) dX8_sheet_22 rfl (by omega) (fun c22 => ?_) (fun c22 => ?_)
      · skip
        refine ga_iload_n (pc := 33) dX8_sheet_33 rfl ?_
        refine ga_if_lt (pc := 34) (tgt := 44) dX8_sheet_34 rfl (by omega) (fun c34 => ?_) (fun c34 => ?_)
        · skip
          exact jn44 (by omega)
        · skip
          refine ga_iload_n (pc := 37) dX8_sheet_37 rfl ?_
          refine ga_if_ge (pc := 38) (tgt := 44) dX8_sheet_38 rfl (by omega) (fun c38 => ?_) (fun c38 => ?_)
          · skip
            exact jn44 (by omega)
          · skip
            refine ga_bipush (pc := 41) dX8_sheet_41 rfl ?_
            exact mm_iret hE dX8_sheet_43 (⟨_, rfl, by dsimp only; rw [if_pos (by omega), if_pos (by omega)]; exact ⟨rfl, rfl, rfl⟩⟩)
      · skip
        refine ga_iload_n (pc := 25) dX8_sheet_25 rfl ?_
        refine ga_bipush (pc := 26) dX8_sheet_26 rfl ?_
        refine ga_icmp_le (pc := 28) (tgt := 33) dX8_sheet_28 rfl (by omega) (by omega) (fun c28 => ?_) (fun c28 => ?_)
        · skip
          refine ga_iload_n (pc := 33) dX8_sheet_33 rfl ?_
          refine ga_if_lt (pc := 34) (tgt := 44) dX8_sheet_34 rfl (by omega) (fun c34 => ?_) (fun c34 => ?_)
          · skip
            exact jn44 (by omega)
          · skip
            refine ga_iload_n (pc := 37) dX8_sheet_37 rfl ?_
            refine ga_if_ge (pc := 38) (tgt := 44) dX8_sheet_38 rfl (by omega) (fun c38 => ?_) (fun c38 => ?_)
            · skip
              exact jn44 (by omega)
            · skip
              refine ga_bipush (pc := 41) dX8_sheet_41 rfl ?_
              exact mm_iret hE dX8_sheet_43 (⟨_, rfl, by dsimp only; rw [if_pos (by omega), if_pos (by omega)]; exact ⟨rfl, rfl, rfl⟩⟩)
        · skip
          refine ga_iconst (pc := 31) dX8_sheet_31 ?_
          exact mm_iret hE dX8_sheet_32 (⟨_, rfl, by dsimp only; rw [if_neg (by omega)]; exact ⟨rfl, rfl, rfl⟩⟩)
set_option maxHeartbeats 4000000 in
set_option maxRecDepth 100000 in
theorem m_X8_narrowed (l : Launch) (D : ga_G) (so v : Int) (h1 : (-2147483648 ≤ so ∧ so < 2147483648)) : pS l D yX8_narrowed (ws_ yX8_narrowed cX8_narrowed 3 (some .long)) (gR 0) [.int (iI so), .long (lI v)] (some (.long (lI (zNar so v)))) := by
  intro h
  refine ga_met (own := RX8) 0 (by decide) rfl (Nat.le_of_ble_eq_true rfl) (L0 := [some (.int (iI so)), some (.long (lI v)), none]) rfl (fun X _ _ hE => ?_)
  refine ga_iload_n (pc := 0) dX8_narrowed_0 rfl ?_
  refine ga_if_ne (pc := 1) (tgt := 11) dX8_narrowed_1 rfl (by omega) (fun c1 => ?_) (fun c1 => ?_)
  · skip
    refine ga_iload_n (pc := 11) dX8_narrowed_11 rfl ?_
    refine ga_iconst (pc := 12) dX8_narrowed_12 ?_
    refine ga_icmp_ne (pc := 13) (tgt := 23) dX8_narrowed_13 rfl (by omega) (by omega) (fun c13 => ?_) (fun c13 => ?_)
    · skip
      refine ga_iload_n (pc := 23) dX8_narrowed_23 rfl ?_
      refine ga_iconst (pc := 24) dX8_narrowed_24 ?_
      refine ga_icmp_ne (pc := 25) (tgt := 34) dX8_narrowed_25 rfl (by omega) (by omega) (fun c25 => ?_) (fun c25 => ?_)
      · skip
        refine ga_lload_n (pc := 34) dX8_narrowed_34 rfl ?_
        exact ga_lret hE dX8_narrowed_35 (Nat.le_of_ble_eq_true rfl) (Nat.le_of_ble_eq_true rfl) (⟨congrArg (fun z => some (Value.long (lI z))) (by unfold zNar; first | (rw [if_pos (by omega)]; done) | (rw [if_neg (by omega), if_pos (by omega)]; done) | (rw [if_neg (by omega), if_neg (by omega), if_pos (by omega)]; done) | (rw [if_neg (by omega), if_neg (by omega), if_neg (by omega)])), rfl⟩)
      · skip
        refine ga_lload_n (pc := 28) dX8_narrowed_28 rfl ?_
        refine ga_l2i (pc := 29) dX8_narrowed_29 ?_
        refine ga_wi (pc := 30) (b := v.bmod 4294967296) (iI_m _) ?_
        have hbm := bm_r v
        refine ga_i2l (pc := 30) dX8_narrowed_30 (by omega) ?_
        refine ga_goto (pc := 31) (tgt := 35) dX8_narrowed_31 rfl ?_
        exact ga_lret hE dX8_narrowed_35 (Nat.le_of_ble_eq_true rfl) (Nat.le_of_ble_eq_true rfl) (⟨congrArg (fun z => some (Value.long (lI z))) (by unfold zNar; first | (rw [if_pos (by omega)]; done) | (rw [if_neg (by omega), if_pos (by omega)]; done) | (rw [if_neg (by omega), if_neg (by omega), if_pos (by omega)]; done) | (rw [if_neg (by omega), if_neg (by omega), if_neg (by omega)])), rfl⟩)
    · skip
      refine ga_lload_n (pc := 16) dX8_narrowed_16 rfl ?_
      refine ga_l2i (pc := 17) dX8_narrowed_17 ?_
      refine ga_i2s (pc := 18) dX8_narrowed_18 ?_
      have hbm := bm_r v
      refine ga_i2l (pc := 19) dX8_narrowed_19 (by omega) ?_
      refine ga_goto (pc := 20) (tgt := 35) dX8_narrowed_20 rfl ?_
      exact ga_lret hE dX8_narrowed_35 (Nat.le_of_ble_eq_true rfl) (Nat.le_of_ble_eq_true rfl) (⟨congrArg (fun z => some (Value.long (lI z))) (by unfold zNar; first | (rw [if_pos (by omega)]; done) | (rw [if_neg (by omega), if_pos (by omega)]; done) | (rw [if_neg (by omega), if_neg (by omega), if_pos (by omega)]; done) | (rw [if_neg (by omega), if_neg (by omega), if_neg (by omega)])), rfl⟩)
  · skip
    refine ga_lload_n (pc := 4) dX8_narrowed_4 rfl ?_
    refine ga_l2i (pc := 5) dX8_narrowed_5 ?_
    refine ga_i2b (pc := 6) dX8_narrowed_6 ?_
    have hbm := bm_r v
    refine ga_i2l (pc := 7) dX8_narrowed_7 (by omega) ?_
    refine ga_goto (pc := 8) (tgt := 35) dX8_narrowed_8 rfl ?_
    exact ga_lret hE dX8_narrowed_35 (Nat.le_of_ble_eq_true rfl) (Nat.le_of_ble_eq_true rfl) (⟨congrArg (fun z => some (Value.long (lI z))) (by unfold zNar; first | (rw [if_pos (by omega)]; done) | (rw [if_neg (by omega), if_pos (by omega)]; done) | (rw [if_neg (by omega), if_neg (by omega), if_pos (by omega)]; done) | (rw [if_neg (by omega), if_neg (by omega), if_neg (by omega)])), rfl⟩)
theorem k_X8_narrowed {X : ga_X} {R : Room} {nL : Nat} {cc : ByteArray} {h : ga_H} {k n pc : Nat} {L : List (Option Value)} {st : List Value} {so v : Int} {z : Int} (h1 : (-2147483648 ≤ so ∧ so < 2147483648)) (hz : (zNar so v) = z) (hR : 0 + 1 ≤ R.frames ∧ 19 + 3 + 64 * 0 ≤ R.locals) (hk : k ≤ R.cells ∧ n ≤ R.slots) (hs : (st.map fun v => v.category).sum ≤ 8) (d : decode cc pc = .ok (.invokestatic 331, 3)) (kk : G X R RX8 nL cc h k n (pc + 3) L (.long (lI z) :: st)) : G X R RX8 nL cc h k n pc L (.long (lI v) :: .int (iI so) :: st) := by
  subst hz
  exact ps_run (m_X8_narrowed _ _ so v h1) (lw_S q2050 q2051 q113 q2052) (show ga_nn' yX8_narrowed 2 from (by unfold ga_nn'; decide +kernel)) hR hk hs d rfl kk
set_option maxHeartbeats 4000000 in
set_option maxRecDepth 100000 in
theorem m_X8_put (l : Launch) (D : ga_G) (mo : Nat) (ad : Nat → Nat) (I : Nat → Int) (A : Nat → Int → Int) (s i v : Int) (hsh : mShe A) (h1 : (-2147483648 ≤ s ∧ s < 2147483648) ∧ (-2147483648 ≤ i ∧ i < 2147483648) ∧ (-9223372036854775808 ≤ v ∧ v < 9223372036854775808)) : mM l D yX8_put (ws_ yX8_put cX8_put 5 (some .int)) (gR 2) [.int (iI s), .int (iI i), .long (lI v)] mo ad I A (mI (fun r I1 A1 => if 0 ≤ s ∧ s ≤ 3 then (if A 34 s < 0 then r = -11 ∧ I1 = I ∧ A1 = A else if 0 ≤ i ∧ i < A 35 s then r = 1 ∧ I1 = I ∧ A1 = uN A 36 (uZ (A 36) (40 * s + i) (zNar (A 34 s) v)) else r = -12 ∧ I1 = I ∧ A1 = A) else r = -1 ∧ I1 = I ∧ A1 = A)) := by
  refine mm_met 0 rfl (Nat.le_of_ble_eq_true rfl) (L0 := [some (.ref mo), some (.int (iI s)), some (.int (iI i)), some (.long (lI v)), none]) rfl (fun X ok hE => ?_)
  refine ga_iload_n (pc := 0) dX8_put_0 rfl ?_
  refine k_X8_isSheet (pc := 1) (b := s) (by omega) (rfl) ⟨Nat.le_of_ble_eq_true rfl, Nat.le_of_ble_eq_true rfl⟩ ⟨Nat.le_of_ble_eq_true rfl, Nat.le_of_ble_eq_true rfl⟩ (Nat.le_of_ble_eq_true rfl) dX8_put_1 ?_
  refine ga_ifb_ne (pc := 4) (tgt := 9) dX8_put_4 rfl (fun c4 => ?_) (fun c4 => ?_)
  · skip
    have hs1 := hsh s (by omega) (by omega)
    refine ga_aload_n (pc := 9) dX8_put_9 rfl ?_
    refine mm_g34 (pc := 10) dX8_put_10 ?_
    refine ga_iload_n (pc := 13) dX8_put_13 rfl ?_
    refine mm_ald34 (pc := 14) (x := A 34 s) ok (by omega) (rfl) dX8_put_14 ?_
    refine ga_if_ge (pc := 15) (tgt := 21) dX8_put_15 rfl (by omega) (fun c15 => ?_) (fun c15 => ?_)
    · skip
      refine ga_iload_n (pc := 21) dX8_put_21 rfl ?_
      refine ga_i2l (pc := 22) dX8_put_22 (by omega) ?_
      refine ga_lconst (pc := 23) 0 dX8_put_23 rfl ?_
      refine ga_aload_n (pc := 24) dX8_put_24 rfl ?_
      refine mm_g35 (pc := 25) dX8_put_25 ?_
      refine ga_iload_n (pc := 28) dX8_put_28 rfl ?_
      refine mm_ald35 (pc := 29) (x := A 35 s) ok (by omega) (rfl) dX8_put_29 ?_
      refine ga_iconst (pc := 30) dX8_put_30 ?_
      refine ga_isub (pc := 31) dX8_put_31 ?_
      refine ga_i2l (pc := 32) dX8_put_32 (by omega) ?_
      refine k_X8_in (pc := 33) (a := i) (b := 0) (c := ((A 35 s) - 1)) (by omega) (rfl) ⟨Nat.le_of_ble_eq_true rfl, Nat.le_of_ble_eq_true rfl⟩ ⟨Nat.le_of_ble_eq_true rfl, Nat.le_of_ble_eq_true rfl⟩ (Nat.le_of_ble_eq_true rfl) dX8_put_33 ?_
      refine ga_ifb_ne (pc := 36) (tgt := 42) dX8_put_36 rfl (fun c36 => ?_) (fun c36 => ?_)
      · skip
        refine ga_aload_n (pc := 42) dX8_put_42 rfl ?_
        refine mm_g36 (pc := 43) dX8_put_43 ?_
        refine ga_bipush (pc := 46) dX8_put_46 rfl ?_
        refine ga_iload_n (pc := 48) dX8_put_48 rfl ?_
        refine ga_imul (pc := 49) dX8_put_49 ?_
        refine ga_iload_n (pc := 50) dX8_put_50 rfl ?_
        refine ga_iadd (pc := 51) dX8_put_51 ?_
        refine ga_aload_n (pc := 52) dX8_put_52 rfl ?_
        refine mm_g34 (pc := 53) dX8_put_53 ?_
        refine ga_iload_n (pc := 56) dX8_put_56 rfl ?_
        refine mm_ald34 (pc := 57) (x := A 34 s) ok (by omega) (rfl) dX8_put_57 ?_
        refine ga_lload_n (pc := 58) dX8_put_58 rfl ?_
        refine k_X8_narrowed (pc := 59) (so := (A 34 s)) (v := v) (by omega) (rfl) ⟨Nat.le_of_ble_eq_true rfl, Nat.le_of_ble_eq_true rfl⟩ ⟨Nat.le_of_ble_eq_true rfl, Nat.le_of_ble_eq_true rfl⟩ (Nat.le_of_ble_eq_true rfl) dX8_put_59 ?_
        refine mm_ast36 (pc := 62) (f := A 36) (A1 := (uN A 36 (uZ (A 36) ((40 * s) + i) (zNar (A 34 s) v)))) ok (by omega) rfl (rfl) dX8_put_62 ?_
        refine ga_iconst (pc := 63) dX8_put_63 ?_
        exact mm_iret hE dX8_put_64 (⟨_, rfl, by dsimp only; first | (rw [if_neg (by omega)]; exact ⟨rfl, rfl, rfl⟩) | (rw [if_pos (by omega), if_pos (by omega)]; exact ⟨rfl, rfl, rfl⟩) | (rw [if_pos (by omega), if_neg (by omega), if_pos (by omega)]; exact ⟨rfl, rfl, rfl⟩) | (rw [if_pos (by omega), if_neg (by omega), if_neg (by omega)]; exact ⟨rfl, rfl, rfl⟩)⟩)
      · skip
        refine ga_bipush (pc := 39) dX8_put_39 rfl ?_
        exact mm_iret hE dX8_put_41 (⟨_, rfl, by dsimp only; first | (rw [if_neg (by omega)]; exact ⟨rfl, rfl, rfl⟩) | (rw [if_pos (by omega), if_pos (by omega)]; exact ⟨rfl, rfl, rfl⟩) | (rw [if_pos (by omega), if_neg (by omega), if_pos (by omega)]; exact ⟨rfl, rfl, rfl⟩) | (rw [if_pos (by omega), if_neg (by omega), if_neg (by omega)]; exact ⟨rfl, rfl, rfl⟩)⟩)
    · skip
      refine ga_bipush (pc := 18) dX8_put_18 rfl ?_
      exact mm_iret hE dX8_put_20 (⟨_, rfl, by dsimp only; first | (rw [if_neg (by omega)]; exact ⟨rfl, rfl, rfl⟩) | (rw [if_pos (by omega), if_pos (by omega)]; exact ⟨rfl, rfl, rfl⟩) | (rw [if_pos (by omega), if_neg (by omega), if_pos (by omega)]; exact ⟨rfl, rfl, rfl⟩) | (rw [if_pos (by omega), if_neg (by omega), if_neg (by omega)]; exact ⟨rfl, rfl, rfl⟩)⟩)
  · skip
    refine ga_iconst (pc := 7) dX8_put_7 ?_
    exact mm_iret hE dX8_put_8 (⟨_, rfl, by dsimp only; first | (rw [if_neg (by omega)]; exact ⟨rfl, rfl, rfl⟩) | (rw [if_pos (by omega), if_pos (by omega)]; exact ⟨rfl, rfl, rfl⟩) | (rw [if_pos (by omega), if_neg (by omega), if_pos (by omega)]; exact ⟨rfl, rfl, rfl⟩) | (rw [if_pos (by omega), if_neg (by omega), if_neg (by omega)]; exact ⟨rfl, rfl, rfl⟩)⟩)
set_option maxHeartbeats 4000000 in
set_option maxRecDepth 100000 in
theorem m_X8_item (l : Launch) (D : ga_G) (mo : Nat) (ad : Nat → Nat) (I : Nat → Int) (A : Nat → Int → Int) (s so i : Int) (hsh : mShe A) (h1 : (-2147483648 ≤ s ∧ s < 2147483648) ∧ (-2147483648 ≤ so ∧ so < 2147483648) ∧ (-2147483648 ≤ i ∧ i < 2147483648)) : mM l D yX8_item (ws_ yX8_item cX8_item 4 (some .int)) (gR 2) [.int (iI s), .int (iI so), .int (iI i)] mo ad I A (mI (fun r I1 A1 => r = (mItm A s so i) ∧ I1 = I ∧ A1 = A)) := by
  refine mm_met 0 rfl (Nat.le_of_ble_eq_true rfl) (L0 := [some (.ref mo), some (.int (iI s)), some (.int (iI so)), some (.int (iI i))]) rfl (fun X ok hE => ?_)
  refine ga_iload_n (pc := 0) dX8_item_0 rfl ?_
  refine k_X8_isSheet (pc := 1) (b := s) (by omega) (rfl) ⟨Nat.le_of_ble_eq_true rfl, Nat.le_of_ble_eq_true rfl⟩ ⟨Nat.le_of_ble_eq_true rfl, Nat.le_of_ble_eq_true rfl⟩ (Nat.le_of_ble_eq_true rfl) dX8_item_1 ?_
  refine ga_ifb_eq (pc := 4) (tgt := 19) dX8_item_4 rfl (fun c4 => ?_) (fun c4 => ?_)
  · skip
    refine ga_iconst (pc := 19) dX8_item_19 ?_
    exact mm_iret hE dX8_item_20 (⟨_, rfl, by unfold mItm; (repeat' split) <;> first | rfl | (exfalso; omega) | omega, rfl, rfl⟩)
  · skip
    refine ga_iload_n (pc := 7) dX8_item_7 rfl ?_
    refine ga_i2l (pc := 8) dX8_item_8 (by omega) ?_
    refine ga_lconst (pc := 9) 0 dX8_item_9 rfl ?_
    refine ga_ldc2 (pc := 10) (3) dX8_item_10 q1731 rfl ?_
    refine k_X8_in (pc := 13) (a := so) (b := 0) (c := (3)) (by omega) (rfl) ⟨Nat.le_of_ble_eq_true rfl, Nat.le_of_ble_eq_true rfl⟩ ⟨Nat.le_of_ble_eq_true rfl, Nat.le_of_ble_eq_true rfl⟩ (Nat.le_of_ble_eq_true rfl) dX8_item_13 ?_
    refine ga_ifb_ne (pc := 16) (tgt := 21) dX8_item_16 rfl (fun c16 => ?_) (fun c16 => ?_)
    · skip
      have hs1 := hsh s (by omega) (by omega)
      refine ga_aload_n (pc := 21) dX8_item_21 rfl ?_
      refine mm_g34 (pc := 22) dX8_item_22 ?_
      refine ga_iload_n (pc := 25) dX8_item_25 rfl ?_
      refine mm_ald34 (pc := 26) (x := A 34 s) ok (by omega) (rfl) dX8_item_26 ?_
      refine ga_iload_n (pc := 27) dX8_item_27 rfl ?_
      refine ga_icmp_eq (pc := 28) (tgt := 48) dX8_item_28 rfl (by omega) (by omega) (fun c28 => ?_) (fun c28 => ?_)
      · skip
        refine ga_iload_n (pc := 48) dX8_item_48 rfl ?_
        refine ga_i2l (pc := 49) dX8_item_49 (by omega) ?_
        refine ga_lconst (pc := 50) 0 dX8_item_50 rfl ?_
        refine ga_aload_n (pc := 51) dX8_item_51 rfl ?_
        refine mm_g35 (pc := 52) dX8_item_52 ?_
        refine ga_iload_n (pc := 55) dX8_item_55 rfl ?_
        refine mm_ald35 (pc := 56) (x := A 35 s) ok (by omega) (rfl) dX8_item_56 ?_
        refine ga_iconst (pc := 57) dX8_item_57 ?_
        refine ga_isub (pc := 58) dX8_item_58 ?_
        refine ga_i2l (pc := 59) dX8_item_59 (by omega) ?_
        refine k_X8_in (pc := 60) (a := i) (b := 0) (c := ((A 35 s) - 1)) (by omega) (rfl) ⟨Nat.le_of_ble_eq_true rfl, Nat.le_of_ble_eq_true rfl⟩ ⟨Nat.le_of_ble_eq_true rfl, Nat.le_of_ble_eq_true rfl⟩ (Nat.le_of_ble_eq_true rfl) dX8_item_60 ?_
        refine ga_ifb_eq (pc := 63) (tgt := 81) dX8_item_63 rfl (fun c63 => ?_) (fun c63 => ?_)
        · skip
          refine ga_bipush (pc := 81) dX8_item_81 rfl ?_
          exact mm_iret hE dX8_item_83 (⟨_, rfl, by unfold mItm; (repeat' split) <;> first | rfl | (exfalso; omega) | omega, rfl, rfl⟩)
        · skip
          refine ga_aload_n (pc := 66) dX8_item_66 rfl ?_
          refine mm_g36 (pc := 67) dX8_item_67 ?_
          refine ga_bipush (pc := 70) dX8_item_70 rfl ?_
          refine ga_iload_n (pc := 72) dX8_item_72 rfl ?_
          refine ga_imul (pc := 73) dX8_item_73 ?_
          refine ga_iload_n (pc := 74) dX8_item_74 rfl ?_
          refine ga_iadd (pc := 75) dX8_item_75 ?_
          refine mm_ald36 (pc := 76) (x := A 36 ((40 * s) + i)) ok (by omega) (rfl) dX8_item_76 ?_
          refine ga_l2i (pc := 77) dX8_item_77 ?_
          refine ga_wi (pc := 78) (b := (A 36 (40 * s + i)).bmod 4294967296) (iI_m _) ?_
          refine ga_goto (pc := 78) (tgt := 83) dX8_item_78 rfl ?_
          exact mm_iret hE dX8_item_83 (⟨_, rfl, by unfold mItm; (repeat' split) <;> first | rfl | (exfalso; omega) | omega, rfl, rfl⟩)
      · skip
        refine ga_aload_n (pc := 31) dX8_item_31 rfl ?_
        refine mm_g34 (pc := 32) dX8_item_32 ?_
        refine ga_iload_n (pc := 35) dX8_item_35 rfl ?_
        refine mm_ald34 (pc := 36) (x := A 34 s) ok (by omega) (rfl) dX8_item_36 ?_
        refine ga_if_ge (pc := 37) (tgt := 45) dX8_item_37 rfl (by omega) (fun c37 => ?_) (fun c37 => ?_)
        · skip
          refine ga_bipush (pc := 45) dX8_item_45 rfl ?_
          exact mm_iret hE dX8_item_47 (⟨_, rfl, by unfold mItm; (repeat' split) <;> first | rfl | (exfalso; omega) | omega, rfl, rfl⟩)
        · skip
          refine ga_bipush (pc := 40) dX8_item_40 rfl ?_
          refine ga_goto (pc := 42) (tgt := 47) dX8_item_42 rfl ?_
          exact mm_iret hE dX8_item_47 (⟨_, rfl, by unfold mItm; (repeat' split) <;> first | rfl | (exfalso; omega) | omega, rfl, rfl⟩)
    · skip
      refine ga_iconst (pc := 19) dX8_item_19 ?_
      exact mm_iret hE dX8_item_20 (⟨_, rfl, by unfold mItm; (repeat' split) <;> first | rfl | (exfalso; omega) | omega, rfl, rfl⟩)
set_option maxHeartbeats 4000000 in
set_option maxRecDepth 100000 in
theorem m_X8_move (l : Launch) (D : ga_G) (mo : Nat) (ad : Nat → Nat) (I : Nat → Int) (A : Nat → Int → Int) (s i o j many : Int) (hsh : mShe A) (h1 : (-2147483648 ≤ s ∧ s < 2147483648) ∧ (-2147483648 ≤ i ∧ i < 2147483648) ∧ (-2147483648 ≤ o ∧ o < 2147483648) ∧ (-2147483648 ≤ j ∧ j < 2147483648) ∧ (-2147483648 ≤ many ∧ many < 2147483648)) : mM l D yX8_move (ws_ yX8_move cX8_move 7 (some .int)) (gR 2) [.int (iI s), .int (iI i), .int (iI o), .int (iI j), .int (iI many)] mo ad I A (mI (fun r I1 A1 => if (0 ≤ s ∧ s ≤ 3) ∧ 0 ≤ o ∧ o ≤ 3 then (if A 34 s < 0 ∨ A 34 o < 0 then r = -11 ∧ I1 = I ∧ A1 = A else if A 34 s ≠ A 34 o then r = -13 ∧ I1 = I ∧ A1 = A else if many < 0 ∨ i < 0 ∨ j < 0 ∨ A 35 s - many < i ∨ A 35 o - many < j then r = -12 ∧ I1 = I ∧ A1 = A else r = many ∧ I1 = I ∧ ∃ g, A1 = uN (uN A 37 g) 36 (mMv (A 36) (A 36) (40 * s + i) (40 * o + j) many)) else r = -1 ∧ I1 = I ∧ A1 = A)) := by
  refine mm_met 1 rfl (Nat.le_of_ble_eq_true rfl) (L0 := [some (.ref mo), some (.int (iI s)), some (.int (iI i)), some (.int (iI o)), some (.int (iI j)), some (.int (iI many)), none]) rfl (fun X ok hE => ?_)
  refine ga_iload_n (pc := 0) dX8_move_0 rfl ?_
  refine k_X8_isSheet (pc := 1) (b := s) (by omega) (rfl) ⟨Nat.le_of_ble_eq_true rfl, Nat.le_of_ble_eq_true rfl⟩ ⟨Nat.le_of_ble_eq_true rfl, Nat.le_of_ble_eq_true rfl⟩ (Nat.le_of_ble_eq_true rfl) dX8_move_1 ?_
  refine ga_ifb_eq (pc := 4) (tgt := 14) dX8_move_4 rfl (fun c4 => ?_) (fun c4 => ?_)
  · skip
    refine ga_iconst (pc := 14) dX8_move_14 ?_
    exact mm_iret hE dX8_move_15 (⟨_, rfl, by dsimp only; first | (rw [if_neg (by omega)]; exact ⟨rfl, rfl, rfl⟩) | (rw [if_pos (by omega), if_pos (by omega)]; exact ⟨rfl, rfl, rfl⟩) | (rw [if_pos (by omega), if_neg (by omega), if_pos (by omega)]; exact ⟨rfl, rfl, rfl⟩) | (rw [if_pos (by omega), if_neg (by omega), if_neg (by omega), if_pos (by omega)]; exact ⟨rfl, rfl, rfl⟩)⟩)
  · skip
    refine ga_iload_n (pc := 7) dX8_move_7 rfl ?_
    refine k_X8_isSheet (pc := 8) (b := o) (by omega) (rfl) ⟨Nat.le_of_ble_eq_true rfl, Nat.le_of_ble_eq_true rfl⟩ ⟨Nat.le_of_ble_eq_true rfl, Nat.le_of_ble_eq_true rfl⟩ (Nat.le_of_ble_eq_true rfl) dX8_move_8 ?_
    refine ga_ifb_ne (pc := 11) (tgt := 16) dX8_move_11 rfl (fun c11 => ?_) (fun c11 => ?_)
    · skip
      have hs1 := hsh s (by omega) (by omega)
      have hs2 := hsh o (by omega) (by omega)
      refine ga_aload_n (pc := 16) dX8_move_16 rfl ?_
      refine mm_g34 (pc := 17) dX8_move_17 ?_
      refine ga_iload_n (pc := 20) dX8_move_20 rfl ?_
      refine mm_ald34 (pc := 21) (x := A 34 s) ok (by omega) (rfl) dX8_move_21 ?_
      refine ga_if_lt (pc := 22) (tgt := 34) dX8_move_22 rfl (by omega) (fun c22 => ?_) (fun c22 => ?_)
      · skip
        refine ga_bipush (pc := 34) dX8_move_34 rfl ?_
        exact mm_iret hE dX8_move_36 (⟨_, rfl, by dsimp only; first | (rw [if_neg (by omega)]; exact ⟨rfl, rfl, rfl⟩) | (rw [if_pos (by omega), if_pos (by omega)]; exact ⟨rfl, rfl, rfl⟩) | (rw [if_pos (by omega), if_neg (by omega), if_pos (by omega)]; exact ⟨rfl, rfl, rfl⟩) | (rw [if_pos (by omega), if_neg (by omega), if_neg (by omega), if_pos (by omega)]; exact ⟨rfl, rfl, rfl⟩)⟩)
      · skip
        refine ga_aload_n (pc := 25) dX8_move_25 rfl ?_
        refine mm_g34 (pc := 26) dX8_move_26 ?_
        refine ga_iload_n (pc := 29) dX8_move_29 rfl ?_
        refine mm_ald34 (pc := 30) (x := A 34 o) ok (by omega) (rfl) dX8_move_30 ?_
        refine ga_if_ge (pc := 31) (tgt := 37) dX8_move_31 rfl (by omega) (fun c31 => ?_) (fun c31 => ?_)
        · skip
          refine ga_aload_n (pc := 37) dX8_move_37 rfl ?_
          refine mm_g34 (pc := 38) dX8_move_38 ?_
          refine ga_iload_n (pc := 41) dX8_move_41 rfl ?_
          refine mm_ald34 (pc := 42) (x := A 34 s) ok (by omega) (rfl) dX8_move_42 ?_
          refine ga_aload_n (pc := 43) dX8_move_43 rfl ?_
          refine mm_g34 (pc := 44) dX8_move_44 ?_
          refine ga_iload_n (pc := 47) dX8_move_47 rfl ?_
          refine mm_ald34 (pc := 48) (x := A 34 o) ok (by omega) (rfl) dX8_move_48 ?_
          refine ga_icmp_eq (pc := 49) (tgt := 55) dX8_move_49 rfl (by omega) (by omega) (fun c49 => ?_) (fun c49 => ?_)
          · skip
            have jn96 : (many < 0 ∨ i < 0 ∨ j < 0 ∨ A 35 s - many < i ∨ A 35 o - many < j) → G X (gR 2) RX8 7 cX8_move (mH mo ad I A) 0 0 96 [some (.ref mo), some (.int (iI s)), some (.int (iI i)), some (.int (iI o)), some (.int (iI j)), some (.int (iI many)), none] [] := by
              intro hg
              refine ga_bipush (pc := 96) dX8_move_96 rfl ?_
              exact mm_iret hE dX8_move_98 (⟨_, rfl, by dsimp only; first | (rw [if_neg (by omega)]; exact ⟨rfl, rfl, rfl⟩) | (rw [if_pos (by omega), if_pos (by omega)]; exact ⟨rfl, rfl, rfl⟩) | (rw [if_pos (by omega), if_neg (by omega), if_pos (by omega)]; exact ⟨rfl, rfl, rfl⟩) | (rw [if_pos (by omega), if_neg (by omega), if_neg (by omega), if_pos (by omega)]; exact ⟨rfl, rfl, rfl⟩)⟩)
            refine ga_iload (pc := 55) dX8_move_55 rfl ?_
            refine ga_if_lt (pc := 57) (tgt := 96) dX8_move_57 rfl (by omega) (fun c57 => ?_) (fun c57 => ?_)
            · skip
              exact jn96 (by omega)
            · skip
              refine ga_iload_n (pc := 60) dX8_move_60 rfl ?_
              refine ga_if_lt (pc := 61) (tgt := 96) dX8_move_61 rfl (by omega) (fun c61 => ?_) (fun c61 => ?_)
              · skip
                exact jn96 (by omega)
              · skip
                refine ga_iload (pc := 64) dX8_move_64 rfl ?_
                refine ga_if_lt (pc := 66) (tgt := 96) dX8_move_66 rfl (by omega) (fun c66 => ?_) (fun c66 => ?_)
                · skip
                  exact jn96 (by omega)
                · skip
                  refine ga_iload_n (pc := 69) dX8_move_69 rfl ?_
                  refine ga_aload_n (pc := 70) dX8_move_70 rfl ?_
                  refine mm_g35 (pc := 71) dX8_move_71 ?_
                  refine ga_iload_n (pc := 74) dX8_move_74 rfl ?_
                  refine mm_ald35 (pc := 75) (x := A 35 s) ok (by omega) (rfl) dX8_move_75 ?_
                  refine ga_iload (pc := 76) dX8_move_76 rfl ?_
                  refine ga_isub (pc := 78) dX8_move_78 ?_
                  refine ga_icmp_gt (pc := 79) (tgt := 96) dX8_move_79 rfl (by omega) (by omega) (fun c79 => ?_) (fun c79 => ?_)
                  · skip
                    exact jn96 (by omega)
                  · skip
                    refine ga_iload (pc := 82) dX8_move_82 rfl ?_
                    refine ga_aload_n (pc := 84) dX8_move_84 rfl ?_
                    refine mm_g35 (pc := 85) dX8_move_85 ?_
                    refine ga_iload_n (pc := 88) dX8_move_88 rfl ?_
                    refine mm_ald35 (pc := 89) (x := A 35 o) ok (by omega) (rfl) dX8_move_89 ?_
                    refine ga_iload (pc := 90) dX8_move_90 rfl ?_
                    refine ga_isub (pc := 92) dX8_move_92 ?_
                    refine ga_icmp_le (pc := 93) (tgt := 99) dX8_move_93 rfl (by omega) (by omega) (fun c93 => ?_) (fun c93 => ?_)
                    · skip
                      refine ga_iconst (pc := 99) dX8_move_99 ?_
                      refine ga_istore (pc := 100) (L1 := [some (.ref mo), some (.int (iI s)), some (.int (iI i)), some (.int (iI o)), some (.int (iI j)), some (.int (iI many)), some (.int (iI 0))]) dX8_move_100 rfl (by decide) rfl ?_
                      refine ga_heq (pc := 102) (h1 := mH mo ad I (uN A 37 (mMv (A 37) (A 36) (40 * s + i) 0 0))) (congr (congrArg (mH mo ad) (rfl)) (by funext j; by_cases e0 : j = 37; (subst e0; exact (show (A 37) = (mMv (A 37) (A 36) (40 * s + i) 0 0) from (mMv_0 _ _ _ _).symm)); simp only [uN, if_neg e0])) ?_
                      have lp102 : ∀ (N102 : Nat) (k : Int), (0 ≤ k ∧ k ≤ many) → (many - k).toNat < N102 → G X (gR 2) RX8 7 cX8_move (mH mo ad I (uN A 37 (mMv (A 37) (A 36) (40 * s + i) 0 k))) 0 0 102 [some (.ref mo), some (.int (iI s)), some (.int (iI i)), some (.int (iI o)), some (.int (iI j)), some (.int (iI many)), some (.int (iI k))] [] := by
                        intro N102
                        induction N102 with
                        | zero => intro k hk hN102; exact absurd hN102 (Nat.not_lt_zero _)
                        | succ N102 ih102 =>
                          intro k hk hN102
                          refine ga_iload (pc := 102) dX8_move_102 rfl ?_
                          refine ga_iload (pc := 104) dX8_move_104 rfl ?_
                          refine ga_icmp_ge (pc := 106) (tgt := 136) dX8_move_106 rfl (by omega) (by omega) (fun c106 => ?_) (fun c106 => ?_)
                          · skip
                            refine ga_iconst (pc := 136) dX8_move_136 ?_
                            refine ga_istore (pc := 137) (L1 := [some (.ref mo), some (.int (iI s)), some (.int (iI i)), some (.int (iI o)), some (.int (iI j)), some (.int (iI many)), some (.int (iI 0))]) dX8_move_137 rfl (by decide) rfl ?_
                            refine ga_heq (pc := 139) (h1 := mH mo ad I (uN (uN A 37 (mMv (A 37) (A 36) (40 * s + i) 0 many)) 36 (mMv (A 36) (A 36) (40 * s + i) (40 * o + j) 0))) (congr (congrArg (mH mo ad) (rfl)) (by funext j; by_cases e0 : j = 37; (subst e0; exact (show (mMv (A 37) (A 36) (40 * s + i) 0 k) = (mMv (A 37) (A 36) (40 * s + i) 0 many) from by rw [show k = many by omega])); by_cases e1 : j = 36; (subst e1; exact (show (A 36) = (mMv (A 36) (A 36) (40 * s + i) (40 * o + j) 0) from (mMv_0 _ _ _ _).symm)); simp only [uN, if_neg e0, if_neg e1])) ?_
                            have lp139 : ∀ (N139 : Nat) (k : Int), (0 ≤ k ∧ k ≤ many) → (many - k).toNat < N139 → G X (gR 2) RX8 7 cX8_move (mH mo ad I (uN (uN A 37 (mMv (A 37) (A 36) (40 * s + i) 0 many)) 36 (mMv (A 36) (A 36) (40 * s + i) (40 * o + j) k))) 0 0 139 [some (.ref mo), some (.int (iI s)), some (.int (iI i)), some (.int (iI o)), some (.int (iI j)), some (.int (iI many)), some (.int (iI k))] [] := by
                              intro N139
                              induction N139 with
                              | zero => intro k hk hN139; exact absurd hN139 (Nat.not_lt_zero _)
                              | succ N139 ih139 =>
                                intro k hk hN139
                                refine ga_iload (pc := 139) dX8_move_139 rfl ?_
                                refine ga_iload (pc := 141) dX8_move_141 rfl ?_
                                refine ga_icmp_ge (pc := 143) (tgt := 174) dX8_move_143 rfl (by omega) (by omega) (fun c143 => ?_) (fun c143 => ?_)
                                · skip
                                  refine ga_iload (pc := 174) dX8_move_174 rfl ?_
                                  exact mm_iret hE dX8_move_176 (⟨_, rfl, by dsimp only; (obtain rfl : k = many := by omega); rw [if_pos (by omega), if_neg (by omega), if_neg (by omega), if_neg (by omega)]; exact ⟨rfl, rfl, _, rfl⟩⟩)
                                · skip
                                  refine ga_aload_n (pc := 146) dX8_move_146 rfl ?_
                                  refine mm_g36 (pc := 147) dX8_move_147 ?_
                                  refine ga_bipush (pc := 150) dX8_move_150 rfl ?_
                                  refine ga_iload_n (pc := 152) dX8_move_152 rfl ?_
                                  refine ga_imul (pc := 153) dX8_move_153 ?_
                                  refine ga_iload (pc := 154) dX8_move_154 rfl ?_
                                  refine ga_iadd (pc := 156) dX8_move_156 ?_
                                  refine ga_iload (pc := 157) dX8_move_157 rfl ?_
                                  refine ga_iadd (pc := 159) dX8_move_159 ?_
                                  refine ga_aload_n (pc := 160) dX8_move_160 rfl ?_
                                  refine mm_g37 (pc := 161) dX8_move_161 ?_
                                  refine ga_iload (pc := 164) dX8_move_164 rfl ?_
                                  refine mm_ald37 (pc := 166) (x := (mMv (A 37) (A 36) (40 * s + i) 0 many) k) ok (by omega) (rfl) dX8_move_166 ?_
                                  refine mm_ast36 (pc := 167) (f := mMv (A 36) (A 36) (40 * s + i) (40 * o + j) k) (A1 := (uN (uN A 37 (mMv (A 37) (A 36) (40 * s + i) 0 many)) 36 (uZ (mMv (A 36) (A 36) (40 * s + i) (40 * o + j) k) (((40 * o) + j) + k) ((mMv (A 37) (A 36) (40 * s + i) 0 many) k)))) ok (by omega) rfl (by funext j; by_cases e0 : j = 36; (subst e0; rfl); simp only [uN, if_neg e0]) dX8_move_167 ?_
                                  refine ga_iinc (pc := 168) (L1 := [some (.ref mo), some (.int (iI s)), some (.int (iI i)), some (.int (iI o)), some (.int (iI j)), some (.int (iI many)), some (.int (iI (k + 1)))]) dX8_move_168 rfl rfl (by decide) rfl ?_
                                  refine ga_goto (pc := 171) (tgt := 139) dX8_move_171 rfl ?_
                                  refine ga_heq (pc := 139) (h1 := mH mo ad I (uN (uN A 37 (mMv (A 37) (A 36) (40 * s + i) 0 many)) 36 (mMv (A 36) (A 36) (40 * s + i) (40 * o + j) (k + 1)))) (congr (congrArg (mH mo ad) (rfl)) (by funext j; by_cases e0 : j = 37; (subst e0; rfl); by_cases e1 : j = 36; (subst e1; exact (show (uZ (mMv (A 36) (A 36) (40 * s + i) (40 * o + j) k) (((40 * o) + j) + k) ((mMv (A 37) (A 36) (40 * s + i) 0 many) k)) = (mMv (A 36) (A 36) (40 * s + i) (40 * o + j) (k + 1)) from mMv_s _ _ hk.1 (by unfold mMv; rw [if_pos (by omega), Int.sub_zero]))); simp only [uN, if_neg e0, if_neg e1])) ?_
                                  exact ih139 (k + 1) (by omega) (by omega)
                            exact lp139 _ 0 (by omega) (Nat.lt_succ_self _)
                          · skip
                            refine ga_aload_n (pc := 109) dX8_move_109 rfl ?_
                            refine mm_g37 (pc := 110) dX8_move_110 ?_
                            refine ga_iload (pc := 113) dX8_move_113 rfl ?_
                            refine ga_aload_n (pc := 115) dX8_move_115 rfl ?_
                            refine mm_g36 (pc := 116) dX8_move_116 ?_
                            refine ga_bipush (pc := 119) dX8_move_119 rfl ?_
                            refine ga_iload_n (pc := 121) dX8_move_121 rfl ?_
                            refine ga_imul (pc := 122) dX8_move_122 ?_
                            refine ga_iload_n (pc := 123) dX8_move_123 rfl ?_
                            refine ga_iadd (pc := 124) dX8_move_124 ?_
                            refine ga_iload (pc := 125) dX8_move_125 rfl ?_
                            refine ga_iadd (pc := 127) dX8_move_127 ?_
                            refine mm_ald36 (pc := 128) (x := A 36 (((40 * s) + i) + k)) ok (by omega) (rfl) dX8_move_128 ?_
                            refine mm_ast37 (pc := 129) (f := mMv (A 37) (A 36) (40 * s + i) 0 k) (A1 := (uN A 37 (uZ (mMv (A 37) (A 36) (40 * s + i) 0 k) k (A 36 (((40 * s) + i) + k))))) ok (by omega) rfl (by funext j; by_cases e0 : j = 37; (subst e0; rfl); simp only [uN, if_neg e0]) dX8_move_129 ?_
                            refine ga_iinc (pc := 130) (L1 := [some (.ref mo), some (.int (iI s)), some (.int (iI i)), some (.int (iI o)), some (.int (iI j)), some (.int (iI many)), some (.int (iI (k + 1)))]) dX8_move_130 rfl rfl (by decide) rfl ?_
                            refine ga_goto (pc := 133) (tgt := 102) dX8_move_133 rfl ?_
                            refine ga_heq (pc := 102) (h1 := mH mo ad I (uN A 37 (mMv (A 37) (A 36) (40 * s + i) 0 (k + 1)))) (congr (congrArg (mH mo ad) (rfl)) (by funext j; by_cases e0 : j = 37; (subst e0; exact (show (uZ (mMv (A 37) (A 36) (40 * s + i) 0 k) k (A 36 (((40 * s) + i) + k))) = (mMv (A 37) (A 36) (40 * s + i) 0 (k + 1)) from by have z := mMv_s (A 37) (A 36) (a := 40 * s + i) (b := 0) hk.1 (v := A 36 (40 * s + i + k)) rfl; rw [Int.zero_add] at z; exact z)); simp only [uN, if_neg e0])) ?_
                            exact ih102 (k + 1) (by omega) (by omega)
                      exact lp102 _ 0 (by omega) (Nat.lt_succ_self _)
                    · skip
                      exact jn96 (by omega)
          · skip
            refine ga_bipush (pc := 52) dX8_move_52 rfl ?_
            exact mm_iret hE dX8_move_54 (⟨_, rfl, by dsimp only; first | (rw [if_neg (by omega)]; exact ⟨rfl, rfl, rfl⟩) | (rw [if_pos (by omega), if_pos (by omega)]; exact ⟨rfl, rfl, rfl⟩) | (rw [if_pos (by omega), if_neg (by omega), if_pos (by omega)]; exact ⟨rfl, rfl, rfl⟩) | (rw [if_pos (by omega), if_neg (by omega), if_neg (by omega), if_pos (by omega)]; exact ⟨rfl, rfl, rfl⟩)⟩)
        · skip
          refine ga_bipush (pc := 34) dX8_move_34 rfl ?_
          exact mm_iret hE dX8_move_36 (⟨_, rfl, by dsimp only; first | (rw [if_neg (by omega)]; exact ⟨rfl, rfl, rfl⟩) | (rw [if_pos (by omega), if_pos (by omega)]; exact ⟨rfl, rfl, rfl⟩) | (rw [if_pos (by omega), if_neg (by omega), if_pos (by omega)]; exact ⟨rfl, rfl, rfl⟩) | (rw [if_pos (by omega), if_neg (by omega), if_neg (by omega), if_pos (by omega)]; exact ⟨rfl, rfl, rfl⟩)⟩)
    · skip
      refine ga_iconst (pc := 14) dX8_move_14 ?_
      exact mm_iret hE dX8_move_15 (⟨_, rfl, by dsimp only; first | (rw [if_neg (by omega)]; exact ⟨rfl, rfl, rfl⟩) | (rw [if_pos (by omega), if_pos (by omega)]; exact ⟨rfl, rfl, rfl⟩) | (rw [if_pos (by omega), if_neg (by omega), if_pos (by omega)]; exact ⟨rfl, rfl, rfl⟩) | (rw [if_pos (by omega), if_neg (by omega), if_neg (by omega), if_pos (by omega)]; exact ⟨rfl, rfl, rfl⟩)⟩)
set_option maxHeartbeats 4000000 in
set_option maxRecDepth 100000 in
theorem m_X8_shelf (l : Launch) (D : ga_G) (mo : Nat) (ad : Nat → Nat) (I : Nat → Int) (A : Nat → Int → Int) (s w k9 : Int) (hsh : mShe A) (hq : 0 ≤ I 5 ∧ I 5 ≤ 6) (h1 : (-2147483648 ≤ s ∧ s < 2147483648) ∧ (-2147483648 ≤ w ∧ w < 2147483648) ∧ (-2147483648 ≤ k9 ∧ k9 < 2147483648)) : mM l D yX8_shelf (ws_ yX8_shelf cX8_shelf 4 (some .int)) (gR 2) [.int (iI s), .int (iI w), .int (iI k9)] mo ad I A (mI (fun r I1 A1 => if (0 ≤ s ∧ s ≤ 3) ∧ (0 ≤ w ∧ w ≤ 2) ∧ (w = 0 → 0 ≤ k9 ∧ k9 < I 5) ∧ (w = 1 → 0 ≤ k9 ∧ k9 ≤ 3) then r = 1 ∧ I1 = I ∧ A1 = uN (uN (uN A 38 (uZ (A 38) s (if w = 1 ∧ A 34 k9 < 0 then 2 else w))) 39 (uZ (A 39) s (if w = 1 then A 34 k9 else k9))) 40 (uZ (A 40) s (if w = 1 then A 35 k9 else 0)) else r = -1 ∧ I1 = I ∧ A1 = A)) := by
  refine mm_met 0 rfl (Nat.le_of_ble_eq_true rfl) (L0 := [some (.ref mo), some (.int (iI s)), some (.int (iI w)), some (.int (iI k9))]) rfl (fun X ok hE => ?_)
  refine ga_iload_n (pc := 0) dX8_shelf_0 rfl ?_
  refine k_X8_isShelf (pc := 1) (b := s) (by omega) (rfl) ⟨Nat.le_of_ble_eq_true rfl, Nat.le_of_ble_eq_true rfl⟩ ⟨Nat.le_of_ble_eq_true rfl, Nat.le_of_ble_eq_true rfl⟩ (Nat.le_of_ble_eq_true rfl) dX8_shelf_1 ?_
  refine ga_ifb_eq (pc := 4) (tgt := 43) dX8_shelf_4 rfl (fun c4 => ?_) (fun c4 => ?_)
  · skip
    refine ga_iconst (pc := 43) dX8_shelf_43 ?_
    exact mm_iret hE dX8_shelf_44 (⟨_, rfl, by dsimp only; rw [if_neg (by omega)]; exact ⟨rfl, rfl, rfl⟩⟩)
  · skip
    refine ga_iload_n (pc := 7) dX8_shelf_7 rfl ?_
    refine ga_i2l (pc := 8) dX8_shelf_8 (by omega) ?_
    refine ga_lconst (pc := 9) 0 dX8_shelf_9 rfl ?_
    refine ga_ldc2 (pc := 10) (2) dX8_shelf_10 q1743 rfl ?_
    refine k_X8_in (pc := 13) (a := w) (b := 0) (c := (2)) (by omega) (rfl) ⟨Nat.le_of_ble_eq_true rfl, Nat.le_of_ble_eq_true rfl⟩ ⟨Nat.le_of_ble_eq_true rfl, Nat.le_of_ble_eq_true rfl⟩ (Nat.le_of_ble_eq_true rfl) dX8_shelf_13 ?_
    refine ga_ifb_eq (pc := 16) (tgt := 43) dX8_shelf_16 rfl (fun c16 => ?_) (fun c16 => ?_)
    · skip
      refine ga_iconst (pc := 43) dX8_shelf_43 ?_
      exact mm_iret hE dX8_shelf_44 (⟨_, rfl, by dsimp only; rw [if_neg (by omega)]; exact ⟨rfl, rfl, rfl⟩⟩)
    · skip
      have jn45 : ((w = 0 → 0 ≤ k9 ∧ k9 < I 5) ∧ (w = 1 → 0 ≤ k9 ∧ k9 ≤ 3)) → G X (gR 2) RX8 4 cX8_shelf (mH mo ad I A) 0 0 45 [some (.ref mo), some (.int (iI s)), some (.int (iI w)), some (.int (iI k9))] [] := by
        intro hg
        have jn69 : ∀ (x : Int), (x = if w = 1 ∧ A 34 k9 < 0 then 2 else w) → G X (gR 2) RX8 4 cX8_shelf (mH mo ad I A) 0 0 69 [some (.ref mo), some (.int (iI s)), some (.int (iI w)), some (.int (iI k9))] [.int (iI x), .int (iI s), .ref (ad 38)] := by
          intro x hx
          refine mm_ast38 (pc := 69) (f := A 38) (A1 := (uN A 38 (uZ (A 38) s x))) ok (by omega) rfl (rfl) dX8_shelf_69 ?_
          have jn90 : ∀ (y : Int), (y = if w = 1 then A 34 k9 else k9) → G X (gR 2) RX8 4 cX8_shelf (mH mo ad I (uN A 38 (uZ (A 38) s x))) 0 0 90 [some (.ref mo), some (.int (iI s)), some (.int (iI w)), some (.int (iI k9))] [.int (iI y), .int (iI s), .ref (ad 39)] := by
            intro y hy
            refine mm_ast39 (pc := 90) (f := A 39) (A1 := (uN (uN A 38 (uZ (A 38) s x)) 39 (uZ (A 39) s y))) ok (by omega) rfl (rfl) dX8_shelf_90 ?_
            have jn111 : ∀ (v : Int), (v = if w = 1 then A 35 k9 else 0) → G X (gR 2) RX8 4 cX8_shelf (mH mo ad I (uN (uN A 38 (uZ (A 38) s x)) 39 (uZ (A 39) s y))) 0 0 111 [some (.ref mo), some (.int (iI s)), some (.int (iI w)), some (.int (iI k9))] [.int (iI v), .int (iI s), .ref (ad 40)] := by
              intro v hv
              refine mm_ast40 (pc := 111) (f := A 40) (A1 := (uN (uN (uN A 38 (uZ (A 38) s x)) 39 (uZ (A 39) s y)) 40 (uZ (A 40) s v))) ok (by omega) rfl (rfl) dX8_shelf_111 ?_
              refine ga_iconst (pc := 112) dX8_shelf_112 ?_
              exact mm_iret hE dX8_shelf_113 (⟨_, rfl, by dsimp only; rw [if_pos (by omega)]; exact ⟨rfl, rfl, by rw [hx, hy, hv]⟩⟩)
            refine ga_aload_n (pc := 91) dX8_shelf_91 rfl ?_
            refine mm_g40 (pc := 92) dX8_shelf_92 ?_
            refine ga_iload_n (pc := 95) dX8_shelf_95 rfl ?_
            refine ga_iload_n (pc := 96) dX8_shelf_96 rfl ?_
            refine ga_iconst (pc := 97) dX8_shelf_97 ?_
            refine ga_icmp_ne (pc := 98) (tgt := 110) dX8_shelf_98 rfl (by omega) (by omega) (fun c98 => ?_) (fun c98 => ?_)
            · skip
              refine ga_iconst (pc := 110) dX8_shelf_110 ?_
              exact jn111 0 (by first | rw [if_pos (by omega)] | rw [if_neg (by omega)])
            · skip
              refine ga_aload_n (pc := 101) dX8_shelf_101 rfl ?_
              refine mm_g35 (pc := 102) dX8_shelf_102 ?_
              refine ga_iload_n (pc := 105) dX8_shelf_105 rfl ?_
              refine mm_ald35 (pc := 106) (x := A 35 k9) ok (by omega) (rfl) dX8_shelf_106 ?_
              refine ga_goto (pc := 107) (tgt := 111) dX8_shelf_107 rfl ?_
              exact jn111 (A 35 k9) (by first | rw [if_pos (by omega)] | rw [if_neg (by omega)])
          refine ga_aload_n (pc := 70) dX8_shelf_70 rfl ?_
          refine mm_g39 (pc := 71) dX8_shelf_71 ?_
          refine ga_iload_n (pc := 74) dX8_shelf_74 rfl ?_
          refine ga_iload_n (pc := 75) dX8_shelf_75 rfl ?_
          refine ga_iconst (pc := 76) dX8_shelf_76 ?_
          refine ga_icmp_ne (pc := 77) (tgt := 89) dX8_shelf_77 rfl (by omega) (by omega) (fun c77 => ?_) (fun c77 => ?_)
          · skip
            refine ga_iload_n (pc := 89) dX8_shelf_89 rfl ?_
            exact jn90 k9 (by first | rw [if_pos (by omega)] | rw [if_neg (by omega)])
          · skip
            refine ga_aload_n (pc := 80) dX8_shelf_80 rfl ?_
            refine mm_g34 (pc := 81) dX8_shelf_81 ?_
            refine ga_iload_n (pc := 84) dX8_shelf_84 rfl ?_
            refine mm_ald34 (pc := 85) (x := A 34 k9) ok (by omega) (rfl) dX8_shelf_85 ?_
            refine ga_goto (pc := 86) (tgt := 90) dX8_shelf_86 rfl ?_
            exact jn90 (A 34 k9) (by first | rw [if_pos (by omega)] | rw [if_neg (by omega)])
        refine ga_aload_n (pc := 45) dX8_shelf_45 rfl ?_
        refine mm_g38 (pc := 46) dX8_shelf_46 ?_
        refine ga_iload_n (pc := 49) dX8_shelf_49 rfl ?_
        refine ga_iload_n (pc := 50) dX8_shelf_50 rfl ?_
        refine ga_iconst (pc := 51) dX8_shelf_51 ?_
        refine ga_icmp_ne (pc := 52) (tgt := 68) dX8_shelf_52 rfl (by omega) (by omega) (fun c52 => ?_) (fun c52 => ?_)
        · skip
          refine ga_iload_n (pc := 68) dX8_shelf_68 rfl ?_
          exact jn69 w (by first | rw [if_pos (by omega)] | rw [if_neg (by omega)])
        · skip
          have hs1 := hsh k9 (by omega) (by omega)
          refine ga_aload_n (pc := 55) dX8_shelf_55 rfl ?_
          refine mm_g34 (pc := 56) dX8_shelf_56 ?_
          refine ga_iload_n (pc := 59) dX8_shelf_59 rfl ?_
          refine mm_ald34 (pc := 60) (x := A 34 k9) ok (by omega) (rfl) dX8_shelf_60 ?_
          refine ga_if_ge (pc := 61) (tgt := 68) dX8_shelf_61 rfl (by omega) (fun c61 => ?_) (fun c61 => ?_)
          · skip
            refine ga_iload_n (pc := 68) dX8_shelf_68 rfl ?_
            exact jn69 w (by first | rw [if_pos (by omega)] | rw [if_neg (by omega)])
          · skip
            refine ga_iconst (pc := 64) dX8_shelf_64 ?_
            refine ga_goto (pc := 65) (tgt := 69) dX8_shelf_65 rfl ?_
            exact jn69 2 (by first | rw [if_pos (by omega)] | rw [if_neg (by omega)])
      refine ga_iload_n (pc := 19) dX8_shelf_19 rfl ?_
      refine ga_if_ne (pc := 20) (tgt := 31) dX8_shelf_20 rfl (by omega) (fun c20 => ?_) (fun c20 => ?_)
      · skip
        refine ga_iload_n (pc := 31) dX8_shelf_31 rfl ?_
        refine ga_iconst (pc := 32) dX8_shelf_32 ?_
        refine ga_icmp_ne (pc := 33) (tgt := 45) dX8_shelf_33 rfl (by omega) (by omega) (fun c33 => ?_) (fun c33 => ?_)
        · skip
          exact jn45 (by omega)
        · skip
          refine ga_iload_n (pc := 36) dX8_shelf_36 rfl ?_
          refine k_X8_isSheet (pc := 37) (b := k9) (by omega) (rfl) ⟨Nat.le_of_ble_eq_true rfl, Nat.le_of_ble_eq_true rfl⟩ ⟨Nat.le_of_ble_eq_true rfl, Nat.le_of_ble_eq_true rfl⟩ (Nat.le_of_ble_eq_true rfl) dX8_shelf_37 ?_
          refine ga_ifb_ne (pc := 40) (tgt := 45) dX8_shelf_40 rfl (fun c40 => ?_) (fun c40 => ?_)
          · skip
            exact jn45 (by omega)
          · skip
            refine ga_iconst (pc := 43) dX8_shelf_43 ?_
            exact mm_iret hE dX8_shelf_44 (⟨_, rfl, by dsimp only; rw [if_neg (by omega)]; exact ⟨rfl, rfl, rfl⟩⟩)
      · skip
        refine ga_aload_n (pc := 23) dX8_shelf_23 rfl ?_
        refine ga_iload_n (pc := 24) dX8_shelf_24 rfl ?_
        refine k_X8_isEquation (pc := 25) (e := k9) ok (by first | exact hq | omega) (by first | exact h1 | omega) (rfl) ⟨Nat.le_of_ble_eq_true rfl, Nat.le_of_ble_eq_true rfl⟩ (Nat.le_of_ble_eq_true rfl) dX8_shelf_25 ?_
        refine ga_ifb_eq (pc := 28) (tgt := 43) dX8_shelf_28 rfl (fun c28 => ?_) (fun c28 => ?_)
        · skip
          refine ga_iconst (pc := 43) dX8_shelf_43 ?_
          exact mm_iret hE dX8_shelf_44 (⟨_, rfl, by dsimp only; rw [if_neg (by omega)]; exact ⟨rfl, rfl, rfl⟩⟩)
        · skip
          refine ga_iload_n (pc := 31) dX8_shelf_31 rfl ?_
          refine ga_iconst (pc := 32) dX8_shelf_32 ?_
          refine ga_icmp_ne (pc := 33) (tgt := 45) dX8_shelf_33 rfl (by omega) (by omega) (fun c33 => ?_) (fun c33 => ?_)
          · skip
            exact jn45 (by omega)
          · skip
            refine ga_iload_n (pc := 36) dX8_shelf_36 rfl ?_
            refine k_X8_isSheet (pc := 37) (b := k9) (by omega) (rfl) ⟨Nat.le_of_ble_eq_true rfl, Nat.le_of_ble_eq_true rfl⟩ ⟨Nat.le_of_ble_eq_true rfl, Nat.le_of_ble_eq_true rfl⟩ (Nat.le_of_ble_eq_true rfl) dX8_shelf_37 ?_
            refine ga_ifb_ne (pc := 40) (tgt := 45) dX8_shelf_40 rfl (fun c40 => ?_) (fun c40 => ?_)
            · skip
              exact jn45 (by omega)
            · skip
              refine ga_iconst (pc := 43) dX8_shelf_43 ?_
              exact mm_iret hE dX8_shelf_44 (⟨_, rfl, by dsimp only; rw [if_neg (by omega)]; exact ⟨rfl, rfl, rfl⟩⟩)
set_option maxHeartbeats 4000000 in
set_option maxRecDepth 100000 in
theorem m_X8_heldBy (l : Launch) (D : ga_G) (mo : Nat) (ad : Nat → Nat) (I : Nat → Int) (A : Nat → Int → Int) (s : Int) (hhl : mHl A) (hq : 0 ≤ I 5 ∧ I 5 ≤ 6) (h1 : 0 ≤ s ∧ s ≤ 3) : mM l D yX8_heldBy (ws_ yX8_heldBy cX8_heldBy 2 (some .int)) (gR 2) [.int (iI s)] mo ad I A (mI (fun r I1 A1 => r = (mHb I A s) ∧ I1 = I ∧ A1 = A)) := by
  refine mm_met 0 rfl (Nat.le_of_ble_eq_true rfl) (L0 := [some (.ref mo), some (.int (iI s))]) rfl (fun X ok hE => ?_)
  have hh := hhl s h1.1 h1.2
  refine ga_aload_n (pc := 0) dX8_heldBy_0 rfl ?_
  refine mm_g38 (pc := 1) dX8_heldBy_1 ?_
  refine ga_iload_n (pc := 4) dX8_heldBy_4 rfl ?_
  refine mm_ald38 (pc := 5) (x := A 38 s) ok (by omega) (rfl) dX8_heldBy_5 ?_
  refine ga_if_ne (pc := 6) (tgt := 26) dX8_heldBy_6 rfl (by omega) (fun c6 => ?_) (fun c6 => ?_)
  · skip
    refine ga_aload_n (pc := 26) dX8_heldBy_26 rfl ?_
    refine mm_g38 (pc := 27) dX8_heldBy_27 ?_
    refine ga_iload_n (pc := 30) dX8_heldBy_30 rfl ?_
    refine mm_ald38 (pc := 31) (x := A 38 s) ok (by omega) (rfl) dX8_heldBy_31 ?_
    exact mm_iret hE dX8_heldBy_32 (⟨_, rfl, by unfold mHb; (repeat' split) <;> first | rfl | (exfalso; omega) | omega, rfl, rfl⟩)
  · skip
    refine ga_aload_n (pc := 9) dX8_heldBy_9 rfl ?_
    refine ga_aload_n (pc := 10) dX8_heldBy_10 rfl ?_
    refine mm_g39 (pc := 11) dX8_heldBy_11 ?_
    refine ga_iload_n (pc := 14) dX8_heldBy_14 rfl ?_
    refine mm_ald39 (pc := 15) (x := A 39 s) ok (by omega) (rfl) dX8_heldBy_15 ?_
    refine k_X8_isEquation (pc := 16) (e := (A 39 s)) ok (by first | exact hq | omega) (by first | exact h1 | omega) (rfl) ⟨Nat.le_of_ble_eq_true rfl, Nat.le_of_ble_eq_true rfl⟩ (Nat.le_of_ble_eq_true rfl) dX8_heldBy_16 ?_
    refine ga_ifb_ne (pc := 19) (tgt := 26) dX8_heldBy_19 rfl (fun c19 => ?_) (fun c19 => ?_)
    · skip
      refine ga_aload_n (pc := 26) dX8_heldBy_26 rfl ?_
      refine mm_g38 (pc := 27) dX8_heldBy_27 ?_
      refine ga_iload_n (pc := 30) dX8_heldBy_30 rfl ?_
      refine mm_ald38 (pc := 31) (x := A 38 s) ok (by omega) (rfl) dX8_heldBy_31 ?_
      exact mm_iret hE dX8_heldBy_32 (⟨_, rfl, by unfold mHb; (repeat' split) <;> first | rfl | (exfalso; omega) | omega, rfl, rfl⟩)
    · skip
      refine ga_iconst (pc := 22) dX8_heldBy_22 ?_
      refine ga_goto (pc := 23) (tgt := 32) dX8_heldBy_23 rfl ?_
      exact mm_iret hE dX8_heldBy_32 (⟨_, rfl, by unfold mHb; (repeat' split) <;> first | rfl | (exfalso; omega) | omega, rfl, rfl⟩)
theorem k_X8_heldBy {X : ga_X} {nL : Nat} {cc : ByteArray} {mo : Nat} {ad : Nat → Nat} {I : Nat → Int} {A : Nat → Int → Int} {d pc : Nat} {L : List (Option Value)} {st : List Value} {s : Int} {z : Int} (ok : mOk mo ad) (hhl : mHl A) (hq : 0 ≤ I 5 ∧ I 5 ≤ 6) (h1 : 0 ≤ s ∧ s ≤ 3) (hz : (mHb I A s) = z) (hR : 2 + 1 ≤ d ∧ 19 + 2 + 64 * 2 ≤ 64 * d) (hs : (st.map fun v => v.category).sum ≤ 8) (dd : decode cc pc = .ok (.invokevirtual 342, 3)) (kk : G X (gR d) RX8 nL cc (mH mo ad I A) 0 0 (pc + 3) L (.int (iI z) :: st)) : G X (gR d) RX8 nL cc (mH mo ad I A) 0 0 pc L (.int (iI s) :: .ref mo :: st) :=
  mm_run ok (m_X8_heldBy _ _ mo ad I A s hhl hq h1) (lw_V q2074 q2076 qs87 q113 q2077) rfl (show ga_nn' yX8_heldBy 1 from (by unfold ga_nn'; decide +kernel)) hR hs dd rfl (fun v I1 A1 hp => by
    obtain ⟨r, rfl, hp⟩ := hp
    obtain ⟨e1, rfl, rfl⟩ := hp
    subst hz
    rw [e1]
    exact kk)
set_option maxHeartbeats 4000000 in
set_option maxRecDepth 100000 in
theorem m_X8_taken (l : Launch) (D : ga_G) (mo : Nat) (ad : Nat → Nat) (I : Nat → Int) (A : Nat → Int → Int) (s a : Int) (hhl : mHl A) (heq : mEq I A) (h1 : (-2147483648 ≤ s ∧ s < 2147483648) ∧ (-2147483648 ≤ a ∧ a < 2147483648)) : mM l D yX8_taken (ws_ yX8_taken cX8_taken 4 (some .int)) (gR 3) [.int (iI s), .int (iI a)] mo ad I A (mI (fun r I1 A1 => r = (mTkn I A s a) ∧ I1 = I ∧ A1 = A)) := by
  refine mm_met 1 rfl (Nat.le_of_ble_eq_true rfl) (L0 := [some (.ref mo), some (.int (iI s)), some (.int (iI a)), none]) rfl (fun X ok hE => ?_)
  refine ga_iload_n (pc := 0) dX8_taken_0 rfl ?_
  refine k_X8_isShelf (pc := 1) (b := s) (by omega) (rfl) ⟨Nat.le_of_ble_eq_true rfl, Nat.le_of_ble_eq_true rfl⟩ ⟨Nat.le_of_ble_eq_true rfl, Nat.le_of_ble_eq_true rfl⟩ (Nat.le_of_ble_eq_true rfl) dX8_taken_1 ?_
  refine ga_ifb_eq (pc := 4) (tgt := 28) dX8_taken_4 rfl (fun c4 => ?_) (fun c4 => ?_)
  · skip
    refine ga_iconst (pc := 28) dX8_taken_28 ?_
    exact mm_iret hE dX8_taken_29 (⟨_, rfl, by unfold mTkn; (repeat' split) <;> first | rfl | (exfalso; omega) | omega, rfl, rfl⟩)
  · skip
    refine ga_iload_n (pc := 7) dX8_taken_7 rfl ?_
    refine k_X8_isKind (pc := 8) (b := a) (by omega) (rfl) ⟨Nat.le_of_ble_eq_true rfl, Nat.le_of_ble_eq_true rfl⟩ ⟨Nat.le_of_ble_eq_true rfl, Nat.le_of_ble_eq_true rfl⟩ (Nat.le_of_ble_eq_true rfl) dX8_taken_8 ?_
    refine ga_ifb_ne (pc := 11) (tgt := 30) dX8_taken_11 rfl (fun c11 => ?_) (fun c11 => ?_)
    · skip
      have hh := hhl s (by omega) (by omega)
      have hhb : mHb I A s = A 38 s ∨ mHb I A s = 2 := by unfold mHb; split <;> omega
      have hhc : mHb I A s = 0 → 0 ≤ A 39 s ∧ A 39 s < I 5 := fun z => by unfold mHb at z; split at z <;> omega
      refine ga_aload_n (pc := 30) dX8_taken_30 rfl ?_
      refine ga_iload_n (pc := 31) dX8_taken_31 rfl ?_
      refine k_X8_heldBy (pc := 32) (s := s) (z := mHb I A s) ok (by first | exact hhl | omega) (by first | exact hq | omega) (by first | exact h1 | omega) (rfl) ⟨Nat.le_of_ble_eq_true rfl, Nat.le_of_ble_eq_true rfl⟩ (Nat.le_of_ble_eq_true rfl) dX8_taken_32 ?_
      refine ga_istore_n (pc := 35) (L1 := [some (.ref mo), some (.int (iI s)), some (.int (iI a)), some (.int (iI (mHb I A s)))]) dX8_taken_35 rfl (by decide) rfl ?_
      refine ga_iload_n (pc := 36) dX8_taken_36 rfl ?_
      refine ga_iconst (pc := 37) dX8_taken_37 ?_
      refine ga_icmp_ne (pc := 38) (tgt := 44) dX8_taken_38 rfl (by omega) (by omega) (fun c38 => ?_) (fun c38 => ?_)
      · skip
        refine ga_iload_n (pc := 44) dX8_taken_44 rfl ?_
        refine ga_if_ne (pc := 45) (tgt := 84) dX8_taken_45 rfl (by omega) (fun c45 => ?_) (fun c45 => ?_)
        · skip
          refine ga_iload_n (pc := 84) dX8_taken_84 rfl ?_
          refine ga_bipush (pc := 85) dX8_taken_85 rfl ?_
          refine ga_aload_n (pc := 87) dX8_taken_87 rfl ?_
          refine mm_g39 (pc := 88) dX8_taken_88 ?_
          refine ga_iload_n (pc := 91) dX8_taken_91 rfl ?_
          refine mm_ald39 (pc := 92) (x := A 39 s) ok (by omega) (rfl) dX8_taken_92 ?_
          refine ga_iadd (pc := 93) dX8_taken_93 ?_
          refine ga_icmp_ne (pc := 94) (tgt := 106) dX8_taken_94 rfl (by omega) (by omega) (fun c94 => ?_) (fun c94 => ?_)
          · skip
            refine ga_bipush (pc := 106) dX8_taken_106 rfl ?_
            exact mm_iret hE dX8_taken_108 (⟨_, rfl, by unfold mTkn; (repeat' split) <;> first | rfl | (exfalso; omega) | omega, rfl, rfl⟩)
          · skip
            refine ga_aload_n (pc := 97) dX8_taken_97 rfl ?_
            refine mm_g40 (pc := 98) dX8_taken_98 ?_
            refine ga_iload_n (pc := 101) dX8_taken_101 rfl ?_
            refine mm_ald40 (pc := 102) (x := A 40 s) ok (by omega) (rfl) dX8_taken_102 ?_
            refine ga_goto (pc := 103) (tgt := 108) dX8_taken_103 rfl ?_
            exact mm_iret hE dX8_taken_108 (⟨_, rfl, by unfold mTkn; (repeat' split) <;> first | rfl | (exfalso; omega) | omega, rfl, rfl⟩)
        · skip
          refine ga_iload_n (pc := 48) dX8_taken_48 rfl ?_
          refine ga_bipush (pc := 49) dX8_taken_49 rfl ?_
          refine ga_icmp_gt (pc := 51) (tgt := 81) dX8_taken_51 rfl (by omega) (by omega) (fun c51 => ?_) (fun c51 => ?_)
          · skip
            refine ga_bipush (pc := 81) dX8_taken_81 rfl ?_
            exact mm_iret hE dX8_taken_83 (⟨_, rfl, by unfold mTkn; (repeat' split) <;> first | rfl | (exfalso; omega) | omega, rfl, rfl⟩)
          · skip
            have hk9 := heq.2 (A 39 s) (by omega) (by omega)
            refine ga_aload_n (pc := 54) dX8_taken_54 rfl ?_
            refine mm_g11 (pc := 55) dX8_taken_55 ?_
            refine ga_aload_n (pc := 58) dX8_taken_58 rfl ?_
            refine mm_g39 (pc := 59) dX8_taken_59 ?_
            refine ga_iload_n (pc := 62) dX8_taken_62 rfl ?_
            refine mm_ald39 (pc := 63) (x := A 39 s) ok (by omega) (rfl) dX8_taken_63 ?_
            refine mm_ald11 (pc := 64) (x := A 11 (A 39 s)) ok (by omega) (rfl) dX8_taken_64 ?_
            refine ga_iload_n (pc := 65) dX8_taken_65 rfl ?_
            refine k_X8_isUnder (pc := 66) (a := (A 11 (A 39 s))) (b := a) (by omega) (rfl) ⟨Nat.le_of_ble_eq_true rfl, Nat.le_of_ble_eq_true rfl⟩ ⟨Nat.le_of_ble_eq_true rfl, Nat.le_of_ble_eq_true rfl⟩ (Nat.le_of_ble_eq_true rfl) dX8_taken_66 ?_
            refine ga_ifb_eq (pc := 69) (tgt := 81) dX8_taken_69 rfl (fun c69 => ?_) (fun c69 => ?_)
            · skip
              refine ga_bipush (pc := 81) dX8_taken_81 rfl ?_
              exact mm_iret hE dX8_taken_83 (⟨_, rfl, by unfold mTkn; (repeat' split) <;> first | rfl | (exfalso; omega) | omega, rfl, rfl⟩)
            · skip
              refine ga_aload_n (pc := 72) dX8_taken_72 rfl ?_
              refine mm_g39 (pc := 73) dX8_taken_73 ?_
              refine ga_iload_n (pc := 76) dX8_taken_76 rfl ?_
              refine mm_ald39 (pc := 77) (x := A 39 s) ok (by omega) (rfl) dX8_taken_77 ?_
              refine ga_goto (pc := 78) (tgt := 83) dX8_taken_78 rfl ?_
              exact mm_iret hE dX8_taken_83 (⟨_, rfl, by unfold mTkn; (repeat' split) <;> first | rfl | (exfalso; omega) | omega, rfl, rfl⟩)
      · skip
        refine ga_bipush (pc := 41) dX8_taken_41 rfl ?_
        exact mm_iret hE dX8_taken_43 (⟨_, rfl, by unfold mTkn; (repeat' split) <;> first | rfl | (exfalso; omega) | omega, rfl, rfl⟩)
    · skip
      refine ga_iload_n (pc := 14) dX8_taken_14 rfl ?_
      refine ga_i2l (pc := 15) dX8_taken_15 (by omega) ?_
      refine ga_ldc2 (pc := 16) (10) dX8_taken_16 q2072 rfl ?_
      refine ga_ldc2 (pc := 19) (13) dX8_taken_19 q2073 rfl ?_
      refine k_X8_in (pc := 22) (a := a) (b := (10)) (c := (13)) (by omega) (rfl) ⟨Nat.le_of_ble_eq_true rfl, Nat.le_of_ble_eq_true rfl⟩ ⟨Nat.le_of_ble_eq_true rfl, Nat.le_of_ble_eq_true rfl⟩ (Nat.le_of_ble_eq_true rfl) dX8_taken_22 ?_
      refine ga_ifb_ne (pc := 25) (tgt := 30) dX8_taken_25 rfl (fun c25 => ?_) (fun c25 => ?_)
      · skip
        have hh := hhl s (by omega) (by omega)
        have hhb : mHb I A s = A 38 s ∨ mHb I A s = 2 := by unfold mHb; split <;> omega
        have hhc : mHb I A s = 0 → 0 ≤ A 39 s ∧ A 39 s < I 5 := fun z => by unfold mHb at z; split at z <;> omega
        refine ga_aload_n (pc := 30) dX8_taken_30 rfl ?_
        refine ga_iload_n (pc := 31) dX8_taken_31 rfl ?_
        refine k_X8_heldBy (pc := 32) (s := s) (z := mHb I A s) ok (by first | exact hhl | omega) (by first | exact hq | omega) (by first | exact h1 | omega) (rfl) ⟨Nat.le_of_ble_eq_true rfl, Nat.le_of_ble_eq_true rfl⟩ (Nat.le_of_ble_eq_true rfl) dX8_taken_32 ?_
        refine ga_istore_n (pc := 35) (L1 := [some (.ref mo), some (.int (iI s)), some (.int (iI a)), some (.int (iI (mHb I A s)))]) dX8_taken_35 rfl (by decide) rfl ?_
        refine ga_iload_n (pc := 36) dX8_taken_36 rfl ?_
        refine ga_iconst (pc := 37) dX8_taken_37 ?_
        refine ga_icmp_ne (pc := 38) (tgt := 44) dX8_taken_38 rfl (by omega) (by omega) (fun c38 => ?_) (fun c38 => ?_)
        · skip
          refine ga_iload_n (pc := 44) dX8_taken_44 rfl ?_
          refine ga_if_ne (pc := 45) (tgt := 84) dX8_taken_45 rfl (by omega) (fun c45 => ?_) (fun c45 => ?_)
          · skip
            refine ga_iload_n (pc := 84) dX8_taken_84 rfl ?_
            refine ga_bipush (pc := 85) dX8_taken_85 rfl ?_
            refine ga_aload_n (pc := 87) dX8_taken_87 rfl ?_
            refine mm_g39 (pc := 88) dX8_taken_88 ?_
            refine ga_iload_n (pc := 91) dX8_taken_91 rfl ?_
            refine mm_ald39 (pc := 92) (x := A 39 s) ok (by omega) (rfl) dX8_taken_92 ?_
            refine ga_iadd (pc := 93) dX8_taken_93 ?_
            refine ga_icmp_ne (pc := 94) (tgt := 106) dX8_taken_94 rfl (by omega) (by omega) (fun c94 => ?_) (fun c94 => ?_)
            · skip
              refine ga_bipush (pc := 106) dX8_taken_106 rfl ?_
              exact mm_iret hE dX8_taken_108 (⟨_, rfl, by unfold mTkn; (repeat' split) <;> first | rfl | (exfalso; omega) | omega, rfl, rfl⟩)
            · skip
              refine ga_aload_n (pc := 97) dX8_taken_97 rfl ?_
              refine mm_g40 (pc := 98) dX8_taken_98 ?_
              refine ga_iload_n (pc := 101) dX8_taken_101 rfl ?_
              refine mm_ald40 (pc := 102) (x := A 40 s) ok (by omega) (rfl) dX8_taken_102 ?_
              refine ga_goto (pc := 103) (tgt := 108) dX8_taken_103 rfl ?_
              exact mm_iret hE dX8_taken_108 (⟨_, rfl, by unfold mTkn; (repeat' split) <;> first | rfl | (exfalso; omega) | omega, rfl, rfl⟩)
          · skip
            refine ga_iload_n (pc := 48) dX8_taken_48 rfl ?_
            refine ga_bipush (pc := 49) dX8_taken_49 rfl ?_
            refine ga_icmp_gt (pc := 51) (tgt := 81) dX8_taken_51 rfl (by omega) (by omega) (fun c51 => ?_) (fun c51 => ?_)
            · skip
              refine ga_bipush (pc := 81) dX8_taken_81 rfl ?_
              exact mm_iret hE dX8_taken_83 (⟨_, rfl, by unfold mTkn; (repeat' split) <;> first | rfl | (exfalso; omega) | omega, rfl, rfl⟩)
            · skip
              have hk9 := heq.2 (A 39 s) (by omega) (by omega)
              refine ga_aload_n (pc := 54) dX8_taken_54 rfl ?_
              refine mm_g11 (pc := 55) dX8_taken_55 ?_
              refine ga_aload_n (pc := 58) dX8_taken_58 rfl ?_
              refine mm_g39 (pc := 59) dX8_taken_59 ?_
              refine ga_iload_n (pc := 62) dX8_taken_62 rfl ?_
              refine mm_ald39 (pc := 63) (x := A 39 s) ok (by omega) (rfl) dX8_taken_63 ?_
              refine mm_ald11 (pc := 64) (x := A 11 (A 39 s)) ok (by omega) (rfl) dX8_taken_64 ?_
              refine ga_iload_n (pc := 65) dX8_taken_65 rfl ?_
              refine k_X8_isUnder (pc := 66) (a := (A 11 (A 39 s))) (b := a) (by omega) (rfl) ⟨Nat.le_of_ble_eq_true rfl, Nat.le_of_ble_eq_true rfl⟩ ⟨Nat.le_of_ble_eq_true rfl, Nat.le_of_ble_eq_true rfl⟩ (Nat.le_of_ble_eq_true rfl) dX8_taken_66 ?_
              refine ga_ifb_eq (pc := 69) (tgt := 81) dX8_taken_69 rfl (fun c69 => ?_) (fun c69 => ?_)
              · skip
                refine ga_bipush (pc := 81) dX8_taken_81 rfl ?_
                exact mm_iret hE dX8_taken_83 (⟨_, rfl, by unfold mTkn; (repeat' split) <;> first | rfl | (exfalso; omega) | omega, rfl, rfl⟩)
              · skip
                refine ga_aload_n (pc := 72) dX8_taken_72 rfl ?_
                refine mm_g39 (pc := 73) dX8_taken_73 ?_
                refine ga_iload_n (pc := 76) dX8_taken_76 rfl ?_
                refine mm_ald39 (pc := 77) (x := A 39 s) ok (by omega) (rfl) dX8_taken_77 ?_
                refine ga_goto (pc := 78) (tgt := 83) dX8_taken_78 rfl ?_
                exact mm_iret hE dX8_taken_83 (⟨_, rfl, by unfold mTkn; (repeat' split) <;> first | rfl | (exfalso; omega) | omega, rfl, rfl⟩)
        · skip
          refine ga_bipush (pc := 41) dX8_taken_41 rfl ?_
          exact mm_iret hE dX8_taken_43 (⟨_, rfl, by unfold mTkn; (repeat' split) <;> first | rfl | (exfalso; omega) | omega, rfl, rfl⟩)
      · skip
        refine ga_iconst (pc := 28) dX8_taken_28 ?_
        exact mm_iret hE dX8_taken_29 (⟨_, rfl, by unfold mTkn; (repeat' split) <;> first | rfl | (exfalso; omega) | omega, rfl, rfl⟩)
