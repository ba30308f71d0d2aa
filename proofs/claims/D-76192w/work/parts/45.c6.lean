/-! THE CLASS: parts of fractions; a term of the sum -/
theorem zPart_v {a b : Int} : zPart a b 0 = if (a < 0 ∧ 0 ≤ b) ∨ (0 ≤ a ∧ b < 0) then -((a.natAbs / Int.gcd a b : Nat) : Int) else ((a.natAbs / Int.gcd a b : Nat) : Int) := by
  have key : a.tdiv (Int.gcd a b : Int) = if a < 0 then -((a.natAbs / Int.gcd a b : Nat) : Int) else ((a.natAbs / Int.gcd a b : Nat) : Int) := by
    split
    · exact zTd (by omega)
    · rw [Int.tdiv_eq_ediv_of_nonneg (by omega)]
      have e : a = ((a.natAbs : Nat) : Int) := by omega
      conv => lhs; rw [e]
      rw [show Int.gcd ((a.natAbs : Nat) : Int) b = Int.gcd a b by show Nat.gcd _ _ = Nat.gcd _ _; rw [Int.natAbs_natCast]]
      rfl
  unfold zPart
  rw [if_pos rfl]
  by_cases hb : b < 0
  · rw [if_pos hb, Int.tdiv_neg, key]
    by_cases ha : a < 0
    · rw [if_pos ha, if_neg (by omega), Int.neg_neg]
    · rw [if_neg ha, if_pos (by omega)]
  · rw [if_neg hb, key]
    by_cases ha : a < 0
    · rw [if_pos ha, if_pos (by omega)]
    · rw [if_neg ha, if_neg (by omega)]
theorem zg_l (a b : Int) : Int.gcd (-(a.natAbs : Int)) (-(b.natAbs : Int)) = Int.gcd a b := by
  rw [Int.neg_gcd, Int.gcd_neg]
  show Nat.gcd _ _ = Nat.gcd _ _
  rw [Int.natAbs_natCast, Int.natAbs_natCast]
def zAd (f : Int → Int) (r co v : Int) : Int → Int := if co = 0 then f else uZ f (10 * r + ((co.natAbs : Int) - 1)) (f (10 * r + ((co.natAbs : Int) - 1)) + (if 0 < co then v else -v))
set_option maxHeartbeats 4000000 in
set_option maxRecDepth 100000 in
theorem m_X0_partOf (l : Launch) (D : ga_G) (a b part : Int) (h1 : (-9223372036854775808 < a ∧ a < 9223372036854775808) ∧ -9223372036854775808 < b ∧ b < 9223372036854775808) (h0 : b ≠ 0) (h2 : (-2147483648 ≤ part ∧ part < 2147483648)) : pS l D yX0_partOf (ws_ yX0_partOf cX0_partOf 9 (some .long)) (gR 1) [.long (lI a), .long (lI b), .int (iI part)] (some (.long (lI (zPart a b part)))) := by
  intro h
  refine ga_met (own := RX0) 4 (by decide) rfl (Nat.le_of_ble_eq_true rfl) (L0 := [some (.long (lI a)), none, some (.long (lI b)), none, some (.int (iI part)), none, none, none, none]) rfl (fun X _ _ hE => ?_)
  refine ga_lload_n (pc := 0) dX0_partOf_0 rfl ?_
  refine k_X0_lowered (pc := 1) (v := a) (by omega) (rfl) ⟨Nat.le_of_ble_eq_true rfl, Nat.le_of_ble_eq_true rfl⟩ ⟨Nat.le_of_ble_eq_true rfl, Nat.le_of_ble_eq_true rfl⟩ (Nat.le_of_ble_eq_true rfl) dX0_partOf_1 ?_
  refine ga_lload_n (pc := 4) dX0_partOf_4 rfl ?_
  refine k_X0_lowered (pc := 5) (v := b) (by omega) (rfl) ⟨Nat.le_of_ble_eq_true rfl, Nat.le_of_ble_eq_true rfl⟩ ⟨Nat.le_of_ble_eq_true rfl, Nat.le_of_ble_eq_true rfl⟩ (Nat.le_of_ble_eq_true rfl) dX0_partOf_5 ?_
  have hgb := zg_b (a := a) h0 (by omega)
  refine k_X0_common (pc := 8) (a := (-(a.natAbs : Int))) (b := (-(b.natAbs : Int))) (z := -(Int.gcd a b : Int)) (by omega) (by rw [zg_l]) ⟨Nat.le_of_ble_eq_true rfl, Nat.le_of_ble_eq_true rfl⟩ ⟨Nat.le_of_ble_eq_true rfl, Nat.le_of_ble_eq_true rfl⟩ (Nat.le_of_ble_eq_true rfl) dX0_partOf_8 ?_
  refine ga_lstore (pc := 11) (L1 := [some (.long (lI a)), none, some (.long (lI b)), none, some (.int (iI part)), some (.long (lI (-(Int.gcd a b : Int)))), none, none, none]) dX0_partOf_11 rfl (by decide) rfl ?_
  have jn23 : ∀ (x : Int), (x = if part = 0 then a else b) → G X (gR 1) RX0 9 cX0_partOf h 0 0 23 [some (.long (lI a)), none, some (.long (lI b)), none, some (.int (iI part)), some (.long (lI (-(Int.gcd a b : Int)))), none, none, none] [.long (lI x)] := by
    intro x hx
    refine k_X0_lowered (pc := 23) (v := x) (by omega) (rfl) ⟨Nat.le_of_ble_eq_true rfl, Nat.le_of_ble_eq_true rfl⟩ ⟨Nat.le_of_ble_eq_true rfl, Nat.le_of_ble_eq_true rfl⟩ (Nat.le_of_ble_eq_true rfl) dX0_partOf_23 ?_
    refine ga_lload (pc := 26) dX0_partOf_26 rfl ?_
    have hxr : -9223372036854775808 < x ∧ x < 9223372036854775808 := by rw [hx]; split <;> omega
    refine k_X0_parted (pc := 28) (v := (-(x.natAbs : Int))) (b := (-(Int.gcd a b : Int))) (z := -((x.natAbs / Int.gcd a b : Nat) : Int)) (by omega) (by omega) (by rw [if_neg (by omega), Int.neg_neg]; exact zTd rfl) ⟨Nat.le_of_ble_eq_true rfl, Nat.le_of_ble_eq_true rfl⟩ ⟨Nat.le_of_ble_eq_true rfl, Nat.le_of_ble_eq_true rfl⟩ (Nat.le_of_ble_eq_true rfl) dX0_partOf_28 ?_
    refine ga_lstore (pc := 31) (L1 := [some (.long (lI a)), none, some (.long (lI b)), none, some (.int (iI part)), some (.long (lI (-(Int.gcd a b : Int)))), none, some (.long (lI (-((x.natAbs / Int.gcd a b : Nat) : Int)))), none]) dX0_partOf_31 rfl (by decide) rfl ?_
    refine ga_iload (pc := 33) dX0_partOf_33 rfl ?_
    refine ga_if_ne (pc := 35) (tgt := 68) dX0_partOf_35 rfl (by omega) (fun c35 => ?_) (fun c35 => ?_)
    · skip
      refine ga_lload (pc := 68) dX0_partOf_68 rfl ?_
      refine k_J3_negateExact_X0 (pc := 70) (a := (-((x.natAbs / Int.gcd a b : Nat) : Int))) (by have := Nat.div_le_self x.natAbs (Int.gcd a b); generalize x.natAbs / Int.gcd a b = z at *; omega) (rfl) ⟨Nat.le_of_ble_eq_true rfl, Nat.le_of_ble_eq_true rfl⟩ ⟨Nat.le_of_ble_eq_true rfl, Nat.le_of_ble_eq_true rfl⟩ (Nat.le_of_ble_eq_true rfl) dX0_partOf_70 ?_
      exact ga_lret hE dX0_partOf_73 (Nat.le_of_ble_eq_true rfl) (Nat.le_of_ble_eq_true rfl) (⟨congrArg (fun z => some (Value.long (lI z))) (by first | (rw [show part = 0 by omega] at hx ⊢; rw [if_pos rfl] at hx; subst hx; rw [zPart_v]; revert hy hw; (repeat' split) <;> omega) | (have hp0 : part ≠ 0 := (by omega); rw [if_neg hp0] at hx; subst hx; rw [show zPart a x part = zPart a x 1 by unfold zPart; simp only [if_neg hp0, if_neg (show ¬ (1 : Int) = 0 by decide)], zPart_1 h0, Int.neg_neg])), rfl⟩)
    · skip
      have jn49 : ∀ (y : Int), (y = if a < 0 then 1 else 0) → G X (gR 1) RX0 9 cX0_partOf h 0 0 49 [some (.long (lI a)), none, some (.long (lI b)), none, some (.int (iI part)), none, none, some (.long (lI (-((x.natAbs / Int.gcd a b : Nat) : Int)))), none] [.int (iI y)] := by
        intro y hy
        have jn60 : ∀ (w : Int), (w = if b < 0 then 1 else 0) → G X (gR 1) RX0 9 cX0_partOf h 0 0 60 [some (.long (lI a)), none, some (.long (lI b)), none, some (.int (iI part)), none, none, some (.long (lI (-((x.natAbs / Int.gcd a b : Nat) : Int)))), none] [.int (iI w), .int (iI y)] := by
          intro w hw
          refine ga_icmp_eq (pc := 60) (tgt := 68) dX0_partOf_60 rfl (by omega) (by omega) (fun c60 => ?_) (fun c60 => ?_)
          · skip
            refine ga_lload (pc := 68) dX0_partOf_68 rfl ?_
            refine k_J3_negateExact_X0 (pc := 70) (a := (-((x.natAbs / Int.gcd a b : Nat) : Int))) (by have := Nat.div_le_self x.natAbs (Int.gcd a b); generalize x.natAbs / Int.gcd a b = z at *; omega) (rfl) ⟨Nat.le_of_ble_eq_true rfl, Nat.le_of_ble_eq_true rfl⟩ ⟨Nat.le_of_ble_eq_true rfl, Nat.le_of_ble_eq_true rfl⟩ (Nat.le_of_ble_eq_true rfl) dX0_partOf_70 ?_
            exact ga_lret hE dX0_partOf_73 (Nat.le_of_ble_eq_true rfl) (Nat.le_of_ble_eq_true rfl) (⟨congrArg (fun z => some (Value.long (lI z))) (by first | (rw [show part = 0 by omega] at hx ⊢; rw [if_pos rfl] at hx; subst hx; rw [zPart_v]; revert hy hw; (repeat' split) <;> omega) | (have hp0 : part ≠ 0 := (by omega); rw [if_neg hp0] at hx; subst hx; rw [show zPart a x part = zPart a x 1 by unfold zPart; simp only [if_neg hp0, if_neg (show ¬ (1 : Int) = 0 by decide)], zPart_1 h0, Int.neg_neg])), rfl⟩)
          · skip
            refine ga_lload (pc := 63) dX0_partOf_63 rfl ?_
            refine ga_goto (pc := 65) (tgt := 73) dX0_partOf_65 rfl ?_
            exact ga_lret hE dX0_partOf_73 (Nat.le_of_ble_eq_true rfl) (Nat.le_of_ble_eq_true rfl) (⟨congrArg (fun z => some (Value.long (lI z))) (by first | (rw [show part = 0 by omega] at hx ⊢; rw [if_pos rfl] at hx; subst hx; rw [zPart_v]; revert hy hw; (repeat' split) <;> omega) | (have hp0 : part ≠ 0 := (by omega); rw [if_neg hp0] at hx; subst hx; rw [show zPart a x part = zPart a x 1 by unfold zPart; simp only [if_neg hp0, if_neg (show ¬ (1 : Int) = 0 by decide)], zPart_1 h0, Int.neg_neg])), rfl⟩)
        refine ga_lload_n (pc := 49) dX0_partOf_49 rfl ?_
        refine ga_lconst (pc := 50) 0 dX0_partOf_50 rfl ?_
        refine ga_lcmp (pc := 51) dX0_partOf_51 (by omega) (by omega) ?_
        refine ga_ifc_ge (pc := 52) (tgt := 59) dX0_partOf_52 rfl (fun c52 => ?_) (fun c52 => ?_)
        · skip
          refine ga_iconst (pc := 59) dX0_partOf_59 ?_
          exact jn60 0 (by first | (rw [if_pos (by omega)]; done) | rw [if_neg (by omega)])
        · skip
          refine ga_iconst (pc := 55) dX0_partOf_55 ?_
          refine ga_goto (pc := 56) (tgt := 60) dX0_partOf_56 rfl ?_
          exact jn60 1 (by first | (rw [if_pos (by omega)]; done) | rw [if_neg (by omega)])
      refine ga_lload_n (pc := 38) dX0_partOf_38 rfl ?_
      refine ga_lconst (pc := 39) 0 dX0_partOf_39 rfl ?_
      refine ga_lcmp (pc := 40) dX0_partOf_40 (by omega) (by omega) ?_
      refine ga_ifc_ge (pc := 41) (tgt := 48) dX0_partOf_41 rfl (fun c41 => ?_) (fun c41 => ?_)
      · skip
        refine ga_iconst (pc := 48) dX0_partOf_48 ?_
        refine ga_kill (pc := 49) 5 (L1 := [some (.long (lI a)), none, some (.long (lI b)), none, some (.int (iI part)), none, none, some (.long (lI (-((x.natAbs / Int.gcd a b : Nat) : Int)))), none]) rfl ?_
        exact jn49 0 (by first | (rw [if_pos (by omega)]; done) | rw [if_neg (by omega)])
      · skip
        refine ga_iconst (pc := 44) dX0_partOf_44 ?_
        refine ga_goto (pc := 45) (tgt := 49) dX0_partOf_45 rfl ?_
        refine ga_kill (pc := 49) 5 (L1 := [some (.long (lI a)), none, some (.long (lI b)), none, some (.int (iI part)), none, none, some (.long (lI (-((x.natAbs / Int.gcd a b : Nat) : Int)))), none]) rfl ?_
        exact jn49 1 (by first | (rw [if_pos (by omega)]; done) | rw [if_neg (by omega)])
  refine ga_iload (pc := 13) dX0_partOf_13 rfl ?_
  refine ga_if_ne (pc := 15) (tgt := 22) dX0_partOf_15 rfl (by omega) (fun c15 => ?_) (fun c15 => ?_)
  · skip
    refine ga_lload_n (pc := 22) dX0_partOf_22 rfl ?_
    exact jn23 b (by first | (rw [if_pos (by omega)]; done) | rw [if_neg (by omega)])
  · skip
    refine ga_lload_n (pc := 18) dX0_partOf_18 rfl ?_
    refine ga_goto (pc := 19) (tgt := 23) dX0_partOf_19 rfl ?_
    exact jn23 a (by first | (rw [if_pos (by omega)]; done) | rw [if_neg (by omega)])
theorem k_X0_partOf {X : ga_X} {R : Room} {nL : Nat} {cc : ByteArray} {h : ga_H} {k n pc : Nat} {L : List (Option Value)} {st : List Value} {a b part : Int} {z : Int} (h1 : (-9223372036854775808 < a ∧ a < 9223372036854775808) ∧ -9223372036854775808 < b ∧ b < 9223372036854775808) (h0 : b ≠ 0) (h2 : (-2147483648 ≤ part ∧ part < 2147483648)) (hz : (zPart a b part) = z) (hR : 1 + 1 ≤ R.frames ∧ 19 + 9 + 64 * 1 ≤ R.locals) (hk : k ≤ R.cells ∧ n ≤ R.slots) (hs : (st.map fun v => v.category).sum ≤ 8) (d : decode cc pc = .ok (.invokestatic 390, 3)) (kk : G X R RX0 nL cc h k n (pc + 3) L (.long (lI z) :: st)) : G X R RX0 nL cc h k n pc L (.int (iI part) :: .long (lI b) :: .long (lI a) :: st) := by
  subst hz
  exact ps_run (m_X0_partOf _ _ a b part h1 h0 h2) (lw_S q691 q692 q102 q693) (show ga_nn' yX0_partOf 3 from (by unfold ga_nn'; decide +kernel)) hR hk hs d rfl kk
set_option maxHeartbeats 4000000 in
set_option maxRecDepth 100000 in
theorem m_X0_adds (l : Launch) (D : ga_G) (ad : Nat → Nat) (J : Nat → Int) (B : Nat → Int → Int) (Q : Nat → Int → Option Nat) (Z : ga_H) (ro co v : Int) (h1 : (0 ≤ ro ∧ ro ≤ 9) ∧ (-10 ≤ co ∧ co ≤ 10) ∧ -100 ≤ v ∧ v ≤ 100) (hen : ∀ x9 : Int, 0 ≤ x9 → x9 < 100 → z40 (B 10 x9)) : cM l D yX0_adds (ws_ yX0_adds cX0_adds 6 none) (gR 1) [.ref (ad 0), .int (iI ro), .int (iI co), .long (lI v)] ad J B Q Z (mV (fun J1 B1 => J1 = J ∧ B1 = (uN B 10 (zAd (B 10) ro co v)))) := by
  refine cc_met (own := RX0) 1 (by decide) rfl (Nat.le_of_ble_eq_true rfl) (L0 := [some (.ref (ad 0)), some (.int (iI ro)), some (.int (iI co)), some (.long (lI v)), none, none]) rfl (fun X h hc hE => ?_)
  refine ga_iload_n (pc := 0) dX0_adds_0 rfl ?_
  refine ga_if_ne (pc := 1) (tgt := 5) dX0_adds_1 rfl (by omega) (fun c1 => ?_) (fun c1 => ?_)
  · skip
    refine ga_iload_n (pc := 5) dX0_adds_5 rfl ?_
    refine k_J3_abs_X0 (pc := 6) (a := co) (by omega) (rfl) ⟨Nat.le_of_ble_eq_true rfl, Nat.le_of_ble_eq_true rfl⟩ ⟨Nat.le_of_ble_eq_true rfl, Nat.le_of_ble_eq_true rfl⟩ (Nat.le_of_ble_eq_true rfl) dX0_adds_6 ?_
    refine ga_iconst (pc := 9) dX0_adds_9 ?_
    refine ga_isub (pc := 10) dX0_adds_10 ?_
    refine ga_istore (pc := 11) (L1 := [some (.ref (ad 0)), some (.int (iI ro)), some (.int (iI co)), some (.long (lI v)), none, some (.int (iI ((co.natAbs : Int) - 1)))]) dX0_adds_11 rfl (by decide) rfl ?_
    refine ga_aload_n (pc := 13) dX0_adds_13 rfl ?_
    refine cc_g_grid (pc := 14) hc dX0_adds_14 ?_
    refine ga_bipush (pc := 17) dX0_adds_17 rfl ?_
    refine ga_iload_n (pc := 19) dX0_adds_19 rfl ?_
    refine ga_imul (pc := 20) dX0_adds_20 ?_
    refine ga_iload (pc := 21) dX0_adds_21 rfl ?_
    refine ga_iadd (pc := 23) dX0_adds_23 ?_
    have jn46 : ∀ (x : Int), ∀ h : ga_H, cOn h ad J B Q Z → (x = if 0 < co then v else -v) → G X (gR 1) RX0 6 cX0_adds h 0 0 46 [some (.ref (ad 0)), some (.int (iI ro)), some (.int (iI co)), some (.long (lI v)), none, some (.int (iI ((co.natAbs : Int) - 1)))] [.long (lI x), .long (lI (B 10 ((10 * ro) + ((co.natAbs : Int) - 1)))), .int (iI ((10 * ro) + ((co.natAbs : Int) - 1))), .ref (ad 29)] := by
      intro x h hc hx
      have he1 := hen (10 * ro + ((co.natAbs : Int) - 1)) (by omega) (by omega)
      have hxr : -100 ≤ x ∧ x ≤ 100 := by rw [hx]; split <;> omega
      refine k_J3_addExact_X0 (pc := 46) (a := (B 10 ((10 * ro) + ((co.natAbs : Int) - 1)))) (b := x) (by omega) (by omega) (rfl) ⟨Nat.le_of_ble_eq_true rfl, Nat.le_of_ble_eq_true rfl⟩ ⟨Nat.le_of_ble_eq_true rfl, Nat.le_of_ble_eq_true rfl⟩ (Nat.le_of_ble_eq_true rfl) dX0_adds_46 ?_
      refine cc_ast10 (pc := 49) (B1 := (uN B 10 (uZ (B 10) ((10 * ro) + ((co.natAbs : Int) - 1)) ((B 10 ((10 * ro) + ((co.natAbs : Int) - 1))) + x)))) hc (by omega) (rfl) dX0_adds_49 (fun h hc => ?_)
      exact cc_vret hc hE dX0_adds_50 (⟨rfl, rfl, by funext j; by_cases e0 : j = 10; (subst e0; exact (show (uZ (B 10) ((10 * ro) + ((co.natAbs : Int) - 1)) ((B 10 ((10 * ro) + ((co.natAbs : Int) - 1))) + x)) = (zAd (B 10) ro co v) from by unfold zAd; rw [if_neg (by omega), hx])); simp only [uN, if_neg e0]⟩)
    refine ga_aload_n (pc := 24) dX0_adds_24 rfl ?_
    refine cc_g_grid (pc := 25) hc dX0_adds_25 ?_
    refine ga_bipush (pc := 28) dX0_adds_28 rfl ?_
    refine ga_iload_n (pc := 30) dX0_adds_30 rfl ?_
    refine ga_imul (pc := 31) dX0_adds_31 ?_
    refine ga_iload (pc := 32) dX0_adds_32 rfl ?_
    refine ga_iadd (pc := 34) dX0_adds_34 ?_
    have he1 := hen (10 * ro + ((co.natAbs : Int) - 1)) (by omega) (by omega)
    refine cc_ald10 (pc := 35) (x := B 10 ((10 * ro) + ((co.natAbs : Int) - 1))) hc (by omega) (rfl) dX0_adds_35 ?_
    refine ga_iload_n (pc := 36) dX0_adds_36 rfl ?_
    refine ga_if_le (pc := 37) (tgt := 44) dX0_adds_37 rfl (by omega) (fun c37 => ?_) (fun c37 => ?_)
    · skip
      refine ga_lload_n (pc := 44) dX0_adds_44 rfl ?_
      refine ga_lneg (pc := 45) dX0_adds_45 ?_
      exact jn46 (-v) h hc (by first | (rw [if_pos (by omega)]; done) | rw [if_neg (by omega)])
    · skip
      refine ga_lload_n (pc := 40) dX0_adds_40 rfl ?_
      refine ga_goto (pc := 41) (tgt := 46) dX0_adds_41 rfl ?_
      exact jn46 v h hc (by first | (rw [if_pos (by omega)]; done) | rw [if_neg (by omega)])
  · skip
    exact cc_vret hc hE dX0_adds_4 (⟨rfl, rfl, by funext j; by_cases e0 : j = 10; (subst e0; exact (show (B 10) = (zAd (B 10) ro co v) from by unfold zAd; rw [if_pos (by omega)])); simp only [uN, if_neg e0]⟩)
theorem k_X0_adds {X : ga_X} {R : Room} {nL : Nat} {cc : ByteArray} {h : ga_H} {ad : Nat → Nat} {J : Nat → Int} {B : Nat → Int → Int} {Q : Nat → Int → Option Nat} {Z : ga_H} {k n pc : Nat} {L : List (Option Value)} {st : List Value} {ro co v : Int}  {B2 : Nat → Int → Int} (hc : cOn h ad J B Q Z) (h1 : (0 ≤ ro ∧ ro ≤ 9) ∧ (-10 ≤ co ∧ co ≤ 10) ∧ -100 ≤ v ∧ v ≤ 100) (hen : ∀ x9 : Int, 0 ≤ x9 → x9 < 100 → z40 (B 10 x9))  (hB2 : (uN B 10 (zAd (B 10) ro co v)) = B2) (hR : 1 + 1 ≤ R.frames ∧ 19 + 6 + 64 * 1 ≤ R.locals) (hk : k ≤ R.cells ∧ n ≤ R.slots) (hs : (st.map fun v => v.category).sum ≤ 8) (dd : decode cc pc = .ok (.invokevirtual 306, 3)) (kk : ∀ h : ga_H, cOn h ad J B2 Q Z → G X R RX0 nL cc h k n (pc + 3) L st) : G X R RX0 nL cc h k n pc L (.long (lI v) :: .int (iI co) :: .int (iI ro) :: .ref (ad 0) :: st) :=
  cc_run hc (m_X0_adds _ _ ad J B Q Z ro co v h1 hen) (lw_V q935 q937 qs20 q102 q938) rfl (show ga_nn' yX0_adds 3 from (by unfold ga_nn'; decide +kernel)) hR hk hs dd rfl (fun v hX J1 B1 hcX hp => by
    obtain ⟨rfl, hp⟩ := hp
    obtain ⟨rfl, rfl⟩ := hp
    subst hB2
    exact kk hX hcX)
