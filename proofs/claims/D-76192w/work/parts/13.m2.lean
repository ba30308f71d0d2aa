/-! THE REFERENCE: common divisors; the text's tokens and entries -/
theorem zg_s {p q : Int} (h0 : 0 ≤ p) (h1 : 0 ≤ q) : Int.gcd q (p.tmod q) = Int.gcd p q := by
  show Nat.gcd q.natAbs (p.tmod q).natAbs = Nat.gcd p.natAbs q.natAbs
  rw [Int.natAbs_tmod, Nat.gcd_comm p.natAbs q.natAbs, Nat.gcd_comm q.natAbs (p.natAbs % q.natAbs), Nat.gcd_rec q.natAbs p.natAbs]
theorem zg_0 {p : Int} (h0 : 0 ≤ p) : (Int.gcd p 0 : Int) = p := by
  rw [Int.gcd_zero_right]
  omega
theorem zg_r {p q : Int} (h0 : 0 ≤ p) (h1 : 0 < q) : 0 ≤ p.tmod q ∧ p.tmod q < q := ⟨Int.tmod_nonneg _ h0, Int.tmod_lt_of_pos _ h1⟩
def zPart (a b part : Int) : Int := if part = 0 then a.tdiv (if b < 0 then -(Int.gcd a b : Int) else (Int.gcd a b : Int)) else b.tdiv (if b < 0 then -(Int.gcd a b : Int) else (Int.gcd a b : Int))
theorem zg_b {a b : Int} (hb : b ≠ 0) (hr : -9223372036854775808 < b ∧ b < 9223372036854775808) : 0 < (Int.gcd a b : Int) ∧ (Int.gcd a b : Int) < 9223372036854775808 := by
  have h1 : 0 < Int.gcd a b := Int.gcd_pos_of_ne_zero_right _ hb
  have h2 : (Int.gcd a b : Int) ∣ b := Int.gcd_dvd_right a b
  have h3 : Int.gcd a b ≤ b.natAbs := Nat.le_of_dvd (by omega) (Int.natAbs_dvd_natAbs.mpr h2)
  omega
/-- the text: where the next token begins, and where it ends -/
def tkS (T : Int → Int) (N : Int) : Nat → Int → Int
  | 0, p => p
  | f + 1, p => if p < N ∧ T p = 32 then tkS T N f (p + 1) else p
theorem tkS_t {T : Int → Int} {N k : Int} (h : k < N ∧ T k = 32) : tkS T N (N - k).toNat k = tkS T N (N - (k + 1)).toNat (k + 1) := by
  rw [show (N - k).toNat = (N - (k + 1)).toNat + 1 by omega]
  show (if k < N ∧ T k = 32 then _ else _) = _
  rw [if_pos h]
theorem tkS_f {T : Int → Int} {N k : Int} (h : ¬ (k < N ∧ T k = 32)) : tkS T N (N - k).toNat k = k := by
  cases hf : (N - k).toNat with
  | zero => rfl
  | succ f =>
    show (if k < N ∧ T k = 32 then _ else _) = _
    rw [if_neg h]
def tkFrom (T : Int → Int) (N p : Int) : Int := tkS T N (N - p).toNat p
abbrev tkC (c x : Int) : Prop := ((97 ≤ c ∧ c ≤ 122) ∧ 97 ≤ x ∧ x ≤ 122) ∨ ((48 ≤ c ∧ c ≤ 57) ∧ 48 ≤ x ∧ x ≤ 57)
def tkE (T : Int → Int) (N c : Int) : Nat → Int → Int
  | 0, p => p
  | f + 1, p => if p < N ∧ tkC c (T p) then tkE T N c f (p + 1) else p
theorem tkE_t {T : Int → Int} {N c k : Int} (h : k < N ∧ tkC c (T k)) : tkE T N c (N - k).toNat k = tkE T N c (N - (k + 1)).toNat (k + 1) := by
  rw [show (N - k).toNat = (N - (k + 1)).toNat + 1 by omega]
  show (if k < N ∧ tkC c (T k) then _ else _) = _
  rw [if_pos h]
theorem tkE_f {T : Int → Int} {N c k : Int} (h : ¬ (k < N ∧ tkC c (T k))) : tkE T N c (N - k).toNat k = k := by
  cases hf : (N - k).toNat with
  | zero => rfl
  | succ f =>
    show (if k < N ∧ tkC c (T k) then _ else _) = _
    rw [if_neg h]
def tkTo (T : Int → Int) (N p : Int) : Int := if tkFrom T N p < N then tkE T N (T (tkFrom T N p)) (N - (tkFrom T N p + 1)).toNat (tkFrom T N p + 1) else tkFrom T N p
theorem tkS_r (T : Int → Int) (N : Int) : ∀ (f : Nat) (p : Int), p ≤ tkS T N f p ∧ (p ≤ N → tkS T N f p ≤ N) := by
  intro f
  induction f with
  | zero => intro p; exact ⟨Int.le_refl _, fun h => h⟩
  | succ f ih =>
    intro p
    unfold tkS
    split
    · rename_i h
      have := ih (p + 1)
      exact ⟨by omega, fun _ => this.2 (by omega)⟩
    · exact ⟨Int.le_refl _, fun h => h⟩
theorem tkE_r (T : Int → Int) (N c : Int) : ∀ (f : Nat) (p : Int), p ≤ tkE T N c f p ∧ (p ≤ N → tkE T N c f p ≤ N) := by
  intro f
  induction f with
  | zero => intro p; exact ⟨Int.le_refl _, fun h => h⟩
  | succ f ih =>
    intro p
    unfold tkE
    split
    · rename_i h
      have := ih (p + 1)
      exact ⟨by omega, fun _ => this.2 (by omega)⟩
    · exact ⟨Int.le_refl _, fun h => h⟩
theorem tk_r (T : Int → Int) {N p : Int} (hp : p ≤ N) : p ≤ tkFrom T N p ∧ tkFrom T N p ≤ tkTo T N p ∧ tkTo T N p ≤ N ∧ (tkFrom T N p < N → tkFrom T N p < tkTo T N p) := by
  have h1 := tkS_r T N (N - p).toNat p
  have h2 : p ≤ tkFrom T N p := h1.1
  have h3 : tkFrom T N p ≤ N := h1.2 hp
  unfold tkTo
  split
  · rename_i h
    have h4 := tkE_r T N (T (tkFrom T N p)) (N - (tkFrom T N p + 1)).toNat (tkFrom T N p + 1)
    exact ⟨h2, by omega, h4.2 (by omega), fun _ => by omega⟩
  · exact ⟨h2, Int.le_refl _, h3, fun h => absurd h ‹_›⟩
abbrev mBy (A : Nat → Int → Int) : Prop := ∀ k : Int, -128 ≤ A 16 k ∧ A 16 k ≤ 127
abbrev mTk (I : Nat → Int) : Prop := 0 ≤ I 18 ∧ I 18 ≤ I 19 ∧ I 19 ≤ I 17 ∧ I 17 ≤ 200
set_option maxHeartbeats 4000000 in
set_option maxRecDepth 100000 in
theorem m_X8_common (l : Launch) (D : ga_G) (a b : Int) (h1 : (-9223372036854775808 < a ∧ a < 9223372036854775808) ∧ (-9223372036854775808 < b ∧ b < 9223372036854775808)) : pS l D yX8_common (ws_ yX8_common cX8_common 10 (some .long)) (gR 0) [.long (lI a), .long (lI b)] (some (.long (lI (Int.gcd a b : Int)))) := by
  intro h
  refine ga_met (own := RX8) 6 (by decide) rfl (Nat.le_of_ble_eq_true rfl) (L0 := [some (.long (lI a)), none, some (.long (lI b)), none, none, none, none, none, none, none]) rfl (fun X _ _ hE => ?_)
  have jn12 : ∀ (p : Int), (0 ≤ p ∧ p < 9223372036854775808 ∧ p.natAbs = a.natAbs) → G X (gR 0) RX8 10 cX8_common h 0 0 12 [some (.long (lI a)), none, some (.long (lI b)), none, none, none, none, none, none, none] [.long (lI p)] := by
    intro p hp
    refine ga_lstore (pc := 12) (L1 := [some (.long (lI a)), none, some (.long (lI b)), none, some (.long (lI p)), none, none, none, none, none]) dX8_common_12 rfl (by decide) rfl ?_
    have jn26 : ∀ (q : Int), (0 ≤ q ∧ q < 9223372036854775808 ∧ q.natAbs = b.natAbs) → G X (gR 0) RX8 10 cX8_common h 0 0 26 [some (.long (lI a)), none, some (.long (lI b)), none, some (.long (lI p)), none, none, none, none, none] [.long (lI q)] := by
      intro q hq
      refine ga_lstore (pc := 26) (L1 := [some (.long (lI a)), none, some (.long (lI b)), none, some (.long (lI p)), none, some (.long (lI q)), none, none, none]) dX8_common_26 rfl (by decide) rfl ?_
      refine ga_kill (pc := 28) 0 (L1 := [none, none, some (.long (lI b)), none, some (.long (lI p)), none, some (.long (lI q)), none, none, none]) rfl ?_
      refine ga_kill (pc := 28) 2 (L1 := [none, none, none, none, some (.long (lI p)), none, some (.long (lI q)), none, none, none]) rfl ?_
      have lp28 : ∀ (N28 : Nat) (u v : Int), (0 ≤ u ∧ u < 9223372036854775808) → (0 ≤ v ∧ v < 9223372036854775808) → (Int.gcd u v = Int.gcd a b) → v.toNat < N28 → G X (gR 0) RX8 10 cX8_common h 0 0 28 [none, none, none, none, some (.long (lI u)), none, some (.long (lI v)), none, none, none] [] := by
        intro N28
        induction N28 with
        | zero => intro u v hu hv hg hN28; exact absurd hN28 (Nat.not_lt_zero _)
        | succ N28 ih28 =>
          intro u v hu hv hg hN28
          refine ga_lload (pc := 28) dX8_common_28 rfl ?_
          refine ga_lconst (pc := 30) 0 dX8_common_30 rfl ?_
          refine ga_lcmp (pc := 31) dX8_common_31 (by omega) (by omega) ?_
          refine ga_ifc_eq (pc := 32) (tgt := 53) dX8_common_32 rfl (fun c32 => ?_) (fun c32 => ?_)
          · skip
            obtain rfl : v = 0 := by omega
            refine ga_lload (pc := 53) dX8_common_53 rfl ?_
            exact ga_lret hE dX8_common_55 (Nat.le_of_ble_eq_true rfl) (Nat.le_of_ble_eq_true rfl) (⟨congrArg (fun z => some (Value.long (lI z))) (by rw [← hg]; exact (zg_0 hu.1).symm), rfl⟩)
          · skip
            refine ga_lload (pc := 35) dX8_common_35 rfl ?_
            refine ga_lload (pc := 37) dX8_common_37 rfl ?_
            refine ga_lrem (pc := 39) dX8_common_39 (by omega) (by omega) (by omega) ?_
            refine ga_lstore (pc := 40) (L1 := [none, none, none, none, some (.long (lI u)), none, some (.long (lI v)), none, some (.long (lI (u.tmod v))), none]) dX8_common_40 rfl (by decide) rfl ?_
            refine ga_lload (pc := 42) dX8_common_42 rfl ?_
            have hr := zg_r hu.1 (show 0 < v by omega)
            refine ga_lstore (pc := 44) (L1 := [none, none, none, none, some (.long (lI v)), none, some (.long (lI v)), none, some (.long (lI (u.tmod v))), none]) dX8_common_44 rfl (by decide) rfl ?_
            refine ga_lload (pc := 46) dX8_common_46 rfl ?_
            refine ga_lstore (pc := 48) (L1 := [none, none, none, none, some (.long (lI v)), none, some (.long (lI (u.tmod v))), none, some (.long (lI (u.tmod v))), none]) dX8_common_48 rfl (by decide) rfl ?_
            refine ga_goto (pc := 50) (tgt := 28) dX8_common_50 rfl ?_
            refine ga_kill (pc := 28) 8 (L1 := [none, none, none, none, some (.long (lI v)), none, some (.long (lI (u.tmod v))), none, none, none]) rfl ?_
            exact ih28 v (u.tmod v) (by omega) (by omega) (by rw [zg_s hu.1 hv.1]; exact hg) (by omega)
      exact lp28 _ p q (by omega) (by omega) (by show Nat.gcd _ _ = Nat.gcd _ _; rw [hp.2.2, hq.2.2]) (Nat.lt_succ_self _)
    refine ga_lload_n (pc := 14) dX8_common_14 rfl ?_
    refine ga_lconst (pc := 15) 0 dX8_common_15 rfl ?_
    refine ga_lcmp (pc := 16) dX8_common_16 (by omega) (by omega) ?_
    refine ga_ifc_ge (pc := 17) (tgt := 25) dX8_common_17 rfl (fun c17 => ?_) (fun c17 => ?_)
    · skip
      refine ga_lload_n (pc := 25) dX8_common_25 rfl ?_
      exact jn26 b (by omega)
    · skip
      refine ga_lload_n (pc := 20) dX8_common_20 rfl ?_
      refine ga_lneg (pc := 21) dX8_common_21 ?_
      refine ga_goto (pc := 22) (tgt := 26) dX8_common_22 rfl ?_
      exact jn26 (-b) (by omega)
  refine ga_lload_n (pc := 0) dX8_common_0 rfl ?_
  refine ga_lconst (pc := 1) 0 dX8_common_1 rfl ?_
  refine ga_lcmp (pc := 2) dX8_common_2 (by omega) (by omega) ?_
  refine ga_ifc_ge (pc := 3) (tgt := 11) dX8_common_3 rfl (fun c3 => ?_) (fun c3 => ?_)
  · skip
    refine ga_lload_n (pc := 11) dX8_common_11 rfl ?_
    exact jn12 a (by omega)
  · skip
    refine ga_lload_n (pc := 6) dX8_common_6 rfl ?_
    refine ga_lneg (pc := 7) dX8_common_7 ?_
    refine ga_goto (pc := 8) (tgt := 12) dX8_common_8 rfl ?_
    exact jn12 (-a) (by omega)
theorem k_X8_common {X : ga_X} {R : Room} {nL : Nat} {cc : ByteArray} {h : ga_H} {k n pc : Nat} {L : List (Option Value)} {st : List Value} {a b : Int} {z : Int} (h1 : (-9223372036854775808 < a ∧ a < 9223372036854775808) ∧ (-9223372036854775808 < b ∧ b < 9223372036854775808)) (hz : (Int.gcd a b : Int) = z) (hR : 0 + 1 ≤ R.frames ∧ 19 + 10 + 64 * 0 ≤ R.locals) (hk : k ≤ R.cells ∧ n ≤ R.slots) (hs : (st.map fun v => v.category).sum ≤ 8) (d : decode cc pc = .ok (.invokestatic 93, 3)) (kk : G X R RX8 nL cc h k n (pc + 3) L (.long (lI z) :: st)) : G X R RX8 nL cc h k n pc L (.long (lI b) :: .long (lI a) :: st) := by
  subst hz
  exact ps_run (m_X8_common _ _ a b h1) (lw_S q1936 q1937 q113 q1938) (show ga_nn' yX8_common 2 from (by unfold ga_nn'; decide +kernel)) hR hk hs d rfl kk
set_option maxHeartbeats 4000000 in
set_option maxRecDepth 100000 in
theorem m_X8_partOf (l : Launch) (D : ga_G) (a b part : Int) (h1 : (-9223372036854775808 < a ∧ a < 9223372036854775808) ∧ (-9223372036854775808 < b ∧ b < 9223372036854775808)) (h0 : b ≠ 0) (h2 : (-2147483648 ≤ part ∧ part < 2147483648)) : pS l D yX8_partOf (ws_ yX8_partOf cX8_partOf 7 (some .long)) (gR 1) [.long (lI a), .long (lI b), .int (iI part)] (some (.long (lI (zPart a b part)))) := by
  intro h
  refine ga_met (own := RX8) 2 (by decide) rfl (Nat.le_of_ble_eq_true rfl) (L0 := [some (.long (lI a)), none, some (.long (lI b)), none, some (.int (iI part)), none, none]) rfl (fun X _ _ hE => ?_)
  have hg := zg_b (a := a) h0 h1.2
  have jn20 : ∀ (g : Int), (g = if b < 0 then -(Int.gcd a b : Int) else (Int.gcd a b : Int)) → (g ≠ 0 ∧ -9223372036854775808 < g ∧ g < 9223372036854775808) → G X (gR 1) RX8 7 cX8_partOf h 0 0 20 [some (.long (lI a)), none, some (.long (lI b)), none, some (.int (iI part)), none, none] [.long (lI g)] := by
    intro g hx hy
    refine ga_lstore (pc := 20) (L1 := [some (.long (lI a)), none, some (.long (lI b)), none, some (.int (iI part)), some (.long (lI g)), none]) dX8_partOf_20 rfl (by decide) rfl ?_
    refine ga_iload (pc := 22) dX8_partOf_22 rfl ?_
    refine ga_if_ne (pc := 24) (tgt := 34) dX8_partOf_24 rfl (by omega) (fun c24 => ?_) (fun c24 => ?_)
    · skip
      refine ga_lload_n (pc := 34) dX8_partOf_34 rfl ?_
      refine ga_lload (pc := 35) dX8_partOf_35 rfl ?_
      refine ga_ldiv (pc := 37) dX8_partOf_37 (by omega) (by omega) (by omega) ?_
      exact ga_lret hE dX8_partOf_38 (Nat.le_of_ble_eq_true rfl) (Nat.le_of_ble_eq_true rfl) (⟨congrArg (fun z => some (Value.long (lI z))) (by unfold zPart; rw [← hx]; first | rw [if_pos (by omega)] | rw [if_neg (by omega)]), rfl⟩)
    · skip
      refine ga_lload_n (pc := 27) dX8_partOf_27 rfl ?_
      refine ga_lload (pc := 28) dX8_partOf_28 rfl ?_
      refine ga_ldiv (pc := 30) dX8_partOf_30 (by omega) (by omega) (by omega) ?_
      refine ga_goto (pc := 31) (tgt := 38) dX8_partOf_31 rfl ?_
      exact ga_lret hE dX8_partOf_38 (Nat.le_of_ble_eq_true rfl) (Nat.le_of_ble_eq_true rfl) (⟨congrArg (fun z => some (Value.long (lI z))) (by unfold zPart; rw [← hx]; first | rw [if_pos (by omega)] | rw [if_neg (by omega)]), rfl⟩)
  refine ga_lload_n (pc := 0) dX8_partOf_0 rfl ?_
  refine ga_lconst (pc := 1) 0 dX8_partOf_1 rfl ?_
  refine ga_lcmp (pc := 2) dX8_partOf_2 (by omega) (by omega) ?_
  refine ga_ifc_ge (pc := 3) (tgt := 15) dX8_partOf_3 rfl (fun c3 => ?_) (fun c3 => ?_)
  · skip
    refine ga_lload_n (pc := 15) dX8_partOf_15 rfl ?_
    refine ga_lload_n (pc := 16) dX8_partOf_16 rfl ?_
    refine k_X8_common (pc := 17) (a := a) (b := b) (by omega) (rfl) ⟨Nat.le_of_ble_eq_true rfl, Nat.le_of_ble_eq_true rfl⟩ ⟨Nat.le_of_ble_eq_true rfl, Nat.le_of_ble_eq_true rfl⟩ (Nat.le_of_ble_eq_true rfl) dX8_partOf_17 ?_
    exact jn20 (Int.gcd a b : Int) (by first | rw [if_pos (by omega)] | rw [if_neg (by omega)]) (by omega)
  · skip
    refine ga_lload_n (pc := 6) dX8_partOf_6 rfl ?_
    refine ga_lload_n (pc := 7) dX8_partOf_7 rfl ?_
    refine k_X8_common (pc := 8) (a := a) (b := b) (by omega) (rfl) ⟨Nat.le_of_ble_eq_true rfl, Nat.le_of_ble_eq_true rfl⟩ ⟨Nat.le_of_ble_eq_true rfl, Nat.le_of_ble_eq_true rfl⟩ (Nat.le_of_ble_eq_true rfl) dX8_partOf_8 ?_
    refine ga_lneg (pc := 11) dX8_partOf_11 ?_
    refine ga_goto (pc := 12) (tgt := 20) dX8_partOf_12 rfl ?_
    exact jn20 (-(Int.gcd a b : Int)) (by first | rw [if_pos (by omega)] | rw [if_neg (by omega)]) (by omega)
theorem k_X8_partOf {X : ga_X} {R : Room} {nL : Nat} {cc : ByteArray} {h : ga_H} {k n pc : Nat} {L : List (Option Value)} {st : List Value} {a b part : Int} {z : Int} (h1 : (-9223372036854775808 < a ∧ a < 9223372036854775808) ∧ (-9223372036854775808 < b ∧ b < 9223372036854775808)) (h0 : b ≠ 0) (h2 : (-2147483648 ≤ part ∧ part < 2147483648)) (hz : (zPart a b part) = z) (hR : 1 + 1 ≤ R.frames ∧ 19 + 7 + 64 * 1 ≤ R.locals) (hk : k ≤ R.cells ∧ n ≤ R.slots) (hs : (st.map fun v => v.category).sum ≤ 8) (d : decode cc pc = .ok (.invokestatic 282, 3)) (kk : G X R RX8 nL cc h k n (pc + 3) L (.long (lI z) :: st)) : G X R RX8 nL cc h k n pc L (.int (iI part) :: .long (lI b) :: .long (lI a) :: st) := by
  subst hz
  exact ps_run (m_X8_partOf _ _ a b part h1 h0 h2) (lw_S q1933 q1934 q113 q1935) (show ga_nn' yX8_partOf 3 from (by unfold ga_nn'; decide +kernel)) hR hk hs d rfl kk
set_option maxHeartbeats 4000000 in
set_option maxRecDepth 100000 in
theorem m_X8_is (l : Launch) (D : ga_G) (mo : Nat) (ad : Nat → Nat) (I : Nat → Int) (A : Nat → Int → Int) (c : Int) (ht : 0 ≤ I 18 ∧ I 18 ≤ I 19 ∧ I 19 ≤ I 17 ∧ I 17 ≤ 200) (hb : mBy A) (h1 : (-2147483648 ≤ c ∧ c < 2147483648)) : mM l D yX8_is (ws_ yX8_is cX8_is 2 (some .boolean)) (gR 0) [.int (iI c)] mo ad I A (mI (fun r I1 A1 => r = (bI (I 19 - I 18 = 1 ∧ A 16 (I 18) = c)) ∧ I1 = I ∧ A1 = A)) := by
  refine mm_met 0 rfl (Nat.le_of_ble_eq_true rfl) (L0 := [some (.ref mo), some (.int (iI c))]) rfl (fun X ok hE => ?_)
  refine ga_aload_n (pc := 0) dX8_is_0 rfl ?_
  refine mm_g19 (pc := 1) (z := I 19) rfl dX8_is_1 ?_
  refine ga_aload_n (pc := 4) dX8_is_4 rfl ?_
  refine mm_g18 (pc := 5) (z := I 18) rfl dX8_is_5 ?_
  refine ga_isub (pc := 8) dX8_is_8 ?_
  refine ga_iconst (pc := 9) dX8_is_9 ?_
  refine ga_icmp_ne (pc := 10) (tgt := 30) dX8_is_10 rfl (by omega) (by omega) (fun c10 => ?_) (fun c10 => ?_)
  · skip
    refine ga_iconst (pc := 30) dX8_is_30 ?_
    exact mm_zret hE dX8_is_31 (by first | exact Or.inl rfl | exact Or.inr rfl) (⟨_, rfl, (bI_f (by omega)).symm, rfl, rfl⟩)
  · skip
    refine ga_aload_n (pc := 13) dX8_is_13 rfl ?_
    refine mm_g16 (pc := 14) dX8_is_14 ?_
    refine ga_aload_n (pc := 17) dX8_is_17 rfl ?_
    refine mm_g18 (pc := 18) (z := I 18) rfl dX8_is_18 ?_
    refine mm_ald16 (pc := 21) (x := A 16 (I 18)) ok (by omega) (rfl) dX8_is_21 ?_
    refine ga_iload_n (pc := 22) dX8_is_22 rfl ?_
    have hb0 := hb (I 18)
    refine ga_icmp_ne (pc := 23) (tgt := 30) dX8_is_23 rfl (by omega) (by omega) (fun c23 => ?_) (fun c23 => ?_)
    · skip
      refine ga_iconst (pc := 30) dX8_is_30 ?_
      exact mm_zret hE dX8_is_31 (by first | exact Or.inl rfl | exact Or.inr rfl) (⟨_, rfl, (bI_f (by omega)).symm, rfl, rfl⟩)
    · skip
      refine ga_iconst (pc := 26) dX8_is_26 ?_
      refine ga_goto (pc := 27) (tgt := 31) dX8_is_27 rfl ?_
      exact mm_zret hE dX8_is_31 (by first | exact Or.inl rfl | exact Or.inr rfl) (⟨_, rfl, (bI_t (by omega)).symm, rfl, rfl⟩)
theorem k_X8_is {X : ga_X} {nL : Nat} {cc : ByteArray} {mo : Nat} {ad : Nat → Nat} {I : Nat → Int} {A : Nat → Int → Int} {d pc : Nat} {L : List (Option Value)} {st : List Value} {c : Int} {z : Int} (ok : mOk mo ad) (ht : 0 ≤ I 18 ∧ I 18 ≤ I 19 ∧ I 19 ≤ I 17 ∧ I 17 ≤ 200) (hb : mBy A) (h1 : (-2147483648 ≤ c ∧ c < 2147483648)) (hz : (bI (I 19 - I 18 = 1 ∧ A 16 (I 18) = c)) = z) (hR : 0 + 1 ≤ d ∧ 19 + 2 + 64 * 0 ≤ 64 * d) (hs : (st.map fun v => v.category).sum ≤ 8) (dd : decode cc pc = .ok (.invokevirtual 170, 3)) (kk : G X (gR d) RX8 nL cc (mH mo ad I A) 0 0 (pc + 3) L (.int (iI z) :: st)) : G X (gR d) RX8 nL cc (mH mo ad I A) 0 0 pc L (.int (iI c) :: .ref mo :: st) :=
  mm_run ok (m_X8_is _ _ mo ad I A c ht hb h1) (lw_V q1826 q1828 qs58 q113 q1829) rfl (show ga_nn' yX8_is 1 from (by unfold ga_nn'; decide +kernel)) hR hs dd rfl (fun v I1 A1 hp => by
    obtain ⟨r, rfl, hp⟩ := hp
    obtain ⟨e1, rfl, rfl⟩ := hp
    subst hz
    rw [e1]
    exact kk)
set_option maxHeartbeats 4000000 in
set_option maxRecDepth 100000 in
theorem m_X8_fails (l : Launch) (D : ga_G) (mo : Nat) (ad : Nat → Nat) (I : Nat → Int) (A : Nat → Int → Int)  (h1 : -2147483648 ≤ I 20 ∧ I 20 < 0) : mM l D yX8_fails (ws_ yX8_fails cX8_fails 1 none) (gR 0) [] mo ad I A (mV (fun I1 A1 => I1 = (uN I 20 (I 18)) ∧ A1 = A)) := by
  refine mm_met 0 rfl (Nat.le_of_ble_eq_true rfl) (L0 := [some (.ref mo)]) rfl (fun X ok hE => ?_)
  refine ga_aload_n (pc := 0) dX8_fails_0 rfl ?_
  refine ga_aload_n (pc := 1) dX8_fails_1 rfl ?_
  refine mm_g20 (pc := 2) (z := I 20) rfl dX8_fails_2 ?_
  refine ga_if_ge (pc := 5) (tgt := 15) dX8_fails_5 rfl (by omega) (fun c5 => ?_) (fun c5 => ?_)
  · exact absurd c5 (by omega)
  · skip
    refine ga_aload_n (pc := 8) dX8_fails_8 rfl ?_
    refine mm_g18 (pc := 9) (z := I 18) rfl dX8_fails_9 ?_
    refine ga_goto (pc := 12) (tgt := 19) dX8_fails_12 rfl ?_
    refine mm_p20 (pc := 19) (I1 := (uN I 20 (I 18))) (rfl) dX8_fails_19 ?_
    exact mm_vret hE dX8_fails_22 (⟨rfl, rfl, rfl⟩)
theorem k_X8_fails {X : ga_X} {nL : Nat} {cc : ByteArray} {mo : Nat} {ad : Nat → Nat} {I : Nat → Int} {A : Nat → Int → Int} {d pc : Nat} {L : List (Option Value)} {st : List Value}   {I2 : Nat → Int} (ok : mOk mo ad) (h1 : -2147483648 ≤ I 20 ∧ I 20 < 0)  (hI2 : (uN I 20 (I 18)) = I2) (hR : 0 + 1 ≤ d ∧ 19 + 1 + 64 * 0 ≤ 64 * d) (hs : (st.map fun v => v.category).sum ≤ 8) (dd : decode cc pc = .ok (.invokevirtual 176, 3)) (kk : G X (gR d) RX8 nL cc (mH mo ad I2 A) 0 0 (pc + 3) L st) : G X (gR d) RX8 nL cc (mH mo ad I A) 0 0 pc L (.ref mo :: st) :=
  mm_run ok (m_X8_fails _ _ mo ad I A  h1) (lw_V q1830 q1832 qs59 q113 q1833) rfl (show ga_nn' yX8_fails 0 from (by unfold ga_nn'; decide +kernel)) hR hs dd rfl (fun v I1 A1 hp => by
    obtain ⟨rfl, hp⟩ := hp
    obtain ⟨rfl, rfl⟩ := hp
    subst hI2
    exact kk)
set_option maxHeartbeats 4000000 in
set_option maxRecDepth 100000 in
theorem m_X8_next (l : Launch) (D : ga_G) (mo : Nat) (ad : Nat → Nat) (I : Nat → Int) (A : Nat → Int → Int)  (ht : 0 ≤ I 19 ∧ I 19 ≤ I 17 ∧ I 17 ≤ 200) (hb : mBy A) : mM l D yX8_next (ws_ yX8_next cX8_next 3 none) (gR 1) [] mo ad I A (mV (fun I1 A1 => I1 = (uN (uN I 18 (tkFrom (A 16) (I 17) (I 19))) 19 (tkTo (A 16) (I 17) (I 19))) ∧ A1 = A)) := by
  refine mm_met 2 rfl (Nat.le_of_ble_eq_true rfl) (L0 := [some (.ref mo), none, none]) rfl (fun X ok hE => ?_)
  refine ga_aload_n (pc := 0) dX8_next_0 rfl ?_
  refine ga_aload_n (pc := 1) dX8_next_1 rfl ?_
  refine mm_g19 (pc := 2) (z := I 19) rfl dX8_next_2 ?_
  refine mm_p18 (pc := 5) (I1 := (uN I 18 (I 19))) (rfl) dX8_next_5 ?_
  have jn46 : ∀ (q : Int), (I 19 ≤ q ∧ q ≤ I 17) → (q = tkFrom (A 16) (I 17) (I 19)) → G X (gR 1) RX8 3 cX8_next (mH mo ad (uN I 18 q) A) 0 0 46 [some (.ref mo), none, none] [] := by
    intro q hq hF
    refine ga_aload_n (pc := 46) dX8_next_46 rfl ?_
    refine ga_aload_n (pc := 47) dX8_next_47 rfl ?_
    refine mm_g18 (pc := 48) (z := q) rfl dX8_next_48 ?_
    refine mm_p19 (pc := 51) (I1 := (uN (uN I 18 q) 19 q)) (rfl) dX8_next_51 ?_
    refine ga_aload_n (pc := 54) dX8_next_54 rfl ?_
    refine mm_g18 (pc := 55) (z := q) rfl dX8_next_55 ?_
    refine ga_aload_n (pc := 58) dX8_next_58 rfl ?_
    refine mm_g17 (pc := 59) (z := I 17) rfl dX8_next_59 ?_
    refine ga_icmp_ne (pc := 62) (tgt := 66) dX8_next_62 rfl (by omega) (by omega) (fun c62 => ?_) (fun c62 => ?_)
    · skip
      refine ga_aload_n (pc := 66) dX8_next_66 rfl ?_
      refine ga_dup (pc := 67) dX8_next_67 rfl ?_
      refine mm_g19 (pc := 68) (z := q) rfl dX8_next_68 ?_
      refine ga_iconst (pc := 71) dX8_next_71 ?_
      refine ga_iadd (pc := 72) dX8_next_72 ?_
      refine mm_p19 (pc := 73) (I1 := (uN (uN I 18 q) 19 (q + 1))) (by funext j; by_cases e0 : j = 19; (subst e0; rfl); simp only [uN, if_neg e0]) dX8_next_73 ?_
      refine ga_aload_n (pc := 76) dX8_next_76 rfl ?_
      refine mm_g16 (pc := 77) dX8_next_77 ?_
      refine ga_aload_n (pc := 80) dX8_next_80 rfl ?_
      refine mm_g18 (pc := 81) (z := q) rfl dX8_next_81 ?_
      refine mm_ald16 (pc := 84) (x := A 16 q) ok (by omega) (rfl) dX8_next_84 ?_
      have hb0 := hb q
      refine k_X8_isLetter (pc := 85) (b := (A 16 q)) (by omega) (rfl) ⟨Nat.le_of_ble_eq_true rfl, Nat.le_of_ble_eq_true rfl⟩ ⟨Nat.le_of_ble_eq_true rfl, Nat.le_of_ble_eq_true rfl⟩ (Nat.le_of_ble_eq_true rfl) dX8_next_85 ?_
      refine ga_istore_n (pc := 88) (L1 := [some (.ref mo), some (.int (iI (bI (97 ≤ (A 16 q) ∧ (A 16 q) ≤ 122)))), none]) dX8_next_88 rfl (by decide) rfl ?_
      refine ga_aload_n (pc := 89) dX8_next_89 rfl ?_
      refine mm_g16 (pc := 90) dX8_next_90 ?_
      refine ga_aload_n (pc := 93) dX8_next_93 rfl ?_
      refine mm_g18 (pc := 94) (z := q) rfl dX8_next_94 ?_
      refine mm_ald16 (pc := 97) (x := A 16 q) ok (by omega) (rfl) dX8_next_97 ?_
      refine k_X8_isDigit (pc := 98) (b := (A 16 q)) (by omega) (rfl) ⟨Nat.le_of_ble_eq_true rfl, Nat.le_of_ble_eq_true rfl⟩ ⟨Nat.le_of_ble_eq_true rfl, Nat.le_of_ble_eq_true rfl⟩ (Nat.le_of_ble_eq_true rfl) dX8_next_98 ?_
      refine ga_istore_n (pc := 101) (L1 := [some (.ref mo), some (.int (iI (bI (97 ≤ (A 16 q) ∧ (A 16 q) ≤ 122)))), some (.int (iI (bI (48 ≤ (A 16 q) ∧ (A 16 q) ≤ 57))))]) dX8_next_101 rfl (by decide) rfl ?_
      have lp102 : ∀ (N102 : Nat) (y : Int), (q < y ∧ y ≤ I 17) → (tkE (A 16) (I 17) (A 16 q) (I 17 - y).toNat y = tkTo (A 16) (I 17) (I 19)) → (I 17 - y).toNat < N102 → G X (gR 1) RX8 3 cX8_next (mH mo ad (uN (uN I 18 q) 19 y) A) 0 0 102 [some (.ref mo), some (.int (iI (bI (97 ≤ A 16 q ∧ A 16 q ≤ 122)))), some (.int (iI (bI (48 ≤ A 16 q ∧ A 16 q ≤ 57))))] [] := by
        intro N102
        induction N102 with
        | zero => intro y hy hg hN102; exact absurd hN102 (Nat.not_lt_zero _)
        | succ N102 ih102 =>
          intro y hy hg hN102
          refine ga_aload_n (pc := 102) dX8_next_102 rfl ?_
          refine mm_g19 (pc := 103) (z := y) rfl dX8_next_103 ?_
          refine ga_aload_n (pc := 106) dX8_next_106 rfl ?_
          refine mm_g17 (pc := 107) (z := I 17) rfl dX8_next_107 ?_
          refine ga_icmp_ge (pc := 110) (tgt := 164) dX8_next_110 rfl (by omega) (by omega) (fun c110 => ?_) (fun c110 => ?_)
          · skip
            exact mm_vret hE dX8_next_164 (⟨rfl, by funext j; by_cases e0 : j = 18; (subst e0; exact (show q = (tkFrom (A 16) (I 17) (I 19)) from hF)); by_cases e1 : j = 19; (subst e1; exact (show y = (tkTo (A 16) (I 17) (I 19)) from by rw [← hg, tkE_f (by omega)])); simp only [uN, if_neg e0, if_neg e1], rfl⟩)
          · skip
            refine ga_iload_n (pc := 113) dX8_next_113 rfl ?_
            refine ga_ifb_eq (pc := 114) (tgt := 132) dX8_next_114 rfl (fun c114 => ?_) (fun c114 => ?_)
            · skip
              refine ga_iload_n (pc := 132) dX8_next_132 rfl ?_
              refine ga_ifb_eq (pc := 133) (tgt := 164) dX8_next_133 rfl (fun c133 => ?_) (fun c133 => ?_)
              · skip
                exact mm_vret hE dX8_next_164 (⟨rfl, by funext j; by_cases e0 : j = 18; (subst e0; exact (show q = (tkFrom (A 16) (I 17) (I 19)) from hF)); by_cases e1 : j = 19; (subst e1; exact (show y = (tkTo (A 16) (I 17) (I 19)) from by rw [← hg, tkE_f (by omega)])); simp only [uN, if_neg e0, if_neg e1], rfl⟩)
              · skip
                refine ga_aload_n (pc := 136) dX8_next_136 rfl ?_
                refine mm_g16 (pc := 137) dX8_next_137 ?_
                refine ga_aload_n (pc := 140) dX8_next_140 rfl ?_
                refine mm_g19 (pc := 141) (z := y) rfl dX8_next_141 ?_
                refine mm_ald16 (pc := 144) (x := A 16 y) ok (by omega) (rfl) dX8_next_144 ?_
                have hb1 := hb y
                refine k_X8_isDigit (pc := 145) (b := (A 16 y)) (by omega) (rfl) ⟨Nat.le_of_ble_eq_true rfl, Nat.le_of_ble_eq_true rfl⟩ ⟨Nat.le_of_ble_eq_true rfl, Nat.le_of_ble_eq_true rfl⟩ (Nat.le_of_ble_eq_true rfl) dX8_next_145 ?_
                refine ga_ifb_eq (pc := 148) (tgt := 164) dX8_next_148 rfl (fun c148 => ?_) (fun c148 => ?_)
                · skip
                  exact mm_vret hE dX8_next_164 (⟨rfl, by funext j; by_cases e0 : j = 18; (subst e0; exact (show q = (tkFrom (A 16) (I 17) (I 19)) from hF)); by_cases e1 : j = 19; (subst e1; exact (show y = (tkTo (A 16) (I 17) (I 19)) from by rw [← hg, tkE_f (by omega)])); simp only [uN, if_neg e0, if_neg e1], rfl⟩)
                · skip
                  refine ga_aload_n (pc := 151) dX8_next_151 rfl ?_
                  refine ga_dup (pc := 152) dX8_next_152 rfl ?_
                  refine mm_g19 (pc := 153) (z := y) rfl dX8_next_153 ?_
                  refine ga_iconst (pc := 156) dX8_next_156 ?_
                  refine ga_iadd (pc := 157) dX8_next_157 ?_
                  refine mm_p19 (pc := 158) (I1 := (uN (uN I 18 q) 19 (y + 1))) (by funext j; by_cases e0 : j = 19; (subst e0; rfl); simp only [uN, if_neg e0]) dX8_next_158 ?_
                  refine ga_goto (pc := 161) (tgt := 102) dX8_next_161 rfl ?_
                  exact ih102 (y + 1) (by omega) (by rw [← tkE_t (by omega)]; exact hg) (by omega)
            · skip
              refine ga_aload_n (pc := 117) dX8_next_117 rfl ?_
              refine mm_g16 (pc := 118) dX8_next_118 ?_
              refine ga_aload_n (pc := 121) dX8_next_121 rfl ?_
              refine mm_g19 (pc := 122) (z := y) rfl dX8_next_122 ?_
              refine mm_ald16 (pc := 125) (x := A 16 y) ok (by omega) (rfl) dX8_next_125 ?_
              have hb1 := hb y
              refine k_X8_isLetter (pc := 126) (b := (A 16 y)) (by omega) (rfl) ⟨Nat.le_of_ble_eq_true rfl, Nat.le_of_ble_eq_true rfl⟩ ⟨Nat.le_of_ble_eq_true rfl, Nat.le_of_ble_eq_true rfl⟩ (Nat.le_of_ble_eq_true rfl) dX8_next_126 ?_
              refine ga_ifb_ne (pc := 129) (tgt := 151) dX8_next_129 rfl (fun c129 => ?_) (fun c129 => ?_)
              · skip
                refine ga_aload_n (pc := 151) dX8_next_151 rfl ?_
                refine ga_dup (pc := 152) dX8_next_152 rfl ?_
                refine mm_g19 (pc := 153) (z := y) rfl dX8_next_153 ?_
                refine ga_iconst (pc := 156) dX8_next_156 ?_
                refine ga_iadd (pc := 157) dX8_next_157 ?_
                refine mm_p19 (pc := 158) (I1 := (uN (uN I 18 q) 19 (y + 1))) (by funext j; by_cases e0 : j = 19; (subst e0; rfl); simp only [uN, if_neg e0]) dX8_next_158 ?_
                refine ga_goto (pc := 161) (tgt := 102) dX8_next_161 rfl ?_
                exact ih102 (y + 1) (by omega) (by rw [← tkE_t (by omega)]; exact hg) (by omega)
              · skip
                refine ga_iload_n (pc := 132) dX8_next_132 rfl ?_
                refine ga_ifb_eq (pc := 133) (tgt := 164) dX8_next_133 rfl (fun c133 => ?_) (fun c133 => ?_)
                · skip
                  exact mm_vret hE dX8_next_164 (⟨rfl, by funext j; by_cases e0 : j = 18; (subst e0; exact (show q = (tkFrom (A 16) (I 17) (I 19)) from hF)); by_cases e1 : j = 19; (subst e1; exact (show y = (tkTo (A 16) (I 17) (I 19)) from by rw [← hg, tkE_f (by omega)])); simp only [uN, if_neg e0, if_neg e1], rfl⟩)
                · skip
                  refine ga_aload_n (pc := 136) dX8_next_136 rfl ?_
                  refine mm_g16 (pc := 137) dX8_next_137 ?_
                  refine ga_aload_n (pc := 140) dX8_next_140 rfl ?_
                  refine mm_g19 (pc := 141) (z := y) rfl dX8_next_141 ?_
                  refine mm_ald16 (pc := 144) (x := A 16 y) ok (by omega) (rfl) dX8_next_144 ?_
                  have hb1 := hb y
                  refine k_X8_isDigit (pc := 145) (b := (A 16 y)) (by omega) (rfl) ⟨Nat.le_of_ble_eq_true rfl, Nat.le_of_ble_eq_true rfl⟩ ⟨Nat.le_of_ble_eq_true rfl, Nat.le_of_ble_eq_true rfl⟩ (Nat.le_of_ble_eq_true rfl) dX8_next_145 ?_
                  refine ga_ifb_eq (pc := 148) (tgt := 164) dX8_next_148 rfl (fun c148 => ?_) (fun c148 => ?_)
                  · skip
                    exact mm_vret hE dX8_next_164 (⟨rfl, by funext j; by_cases e0 : j = 18; (subst e0; exact (show q = (tkFrom (A 16) (I 17) (I 19)) from hF)); by_cases e1 : j = 19; (subst e1; exact (show y = (tkTo (A 16) (I 17) (I 19)) from by rw [← hg, tkE_f (by omega)])); simp only [uN, if_neg e0, if_neg e1], rfl⟩)
                  · skip
                    refine ga_aload_n (pc := 151) dX8_next_151 rfl ?_
                    refine ga_dup (pc := 152) dX8_next_152 rfl ?_
                    refine mm_g19 (pc := 153) (z := y) rfl dX8_next_153 ?_
                    refine ga_iconst (pc := 156) dX8_next_156 ?_
                    refine ga_iadd (pc := 157) dX8_next_157 ?_
                    refine mm_p19 (pc := 158) (I1 := (uN (uN I 18 q) 19 (y + 1))) (by funext j; by_cases e0 : j = 19; (subst e0; rfl); simp only [uN, if_neg e0]) dX8_next_158 ?_
                    refine ga_goto (pc := 161) (tgt := 102) dX8_next_161 rfl ?_
                    exact ih102 (y + 1) (by omega) (by rw [← tkE_t (by omega)]; exact hg) (by omega)
      exact lp102 _ (q + 1) (by omega) (by unfold tkTo; rw [← hF, if_pos (by omega)]) (Nat.lt_succ_self _)
    · skip
      exact mm_vret hE dX8_next_65 (⟨rfl, by funext j; by_cases e0 : j = 18; (subst e0; exact (show q = (tkFrom (A 16) (I 17) (I 19)) from hF)); by_cases e1 : j = 19; (subst e1; exact (show q = (tkTo (A 16) (I 17) (I 19)) from by unfold tkTo; rw [← hF, if_neg (by omega)])); simp only [uN, if_neg e0, if_neg e1], rfl⟩)
  have lp8 : ∀ (N8 : Nat) (q : Int), (I 19 ≤ q ∧ q ≤ I 17) → (tkS (A 16) (I 17) (I 17 - q).toNat q = tkFrom (A 16) (I 17) (I 19)) → (I 17 - q).toNat < N8 → G X (gR 1) RX8 3 cX8_next (mH mo ad (uN I 18 q) A) 0 0 8 [some (.ref mo), none, none] [] := by
    intro N8
    induction N8 with
    | zero => intro q hq hf hN8; exact absurd hN8 (Nat.not_lt_zero _)
    | succ N8 ih8 =>
      intro q hq hf hN8
      refine ga_aload_n (pc := 8) dX8_next_8 rfl ?_
      refine mm_g18 (pc := 9) (z := q) rfl dX8_next_9 ?_
      refine ga_aload_n (pc := 12) dX8_next_12 rfl ?_
      refine mm_g17 (pc := 13) (z := I 17) rfl dX8_next_13 ?_
      refine ga_icmp_ge (pc := 16) (tgt := 46) dX8_next_16 rfl (by omega) (by omega) (fun c16 => ?_) (fun c16 => ?_)
      · skip
        exact jn46 q (by omega) (by rw [← hf, tkS_f (by omega)])
      · skip
        refine ga_aload_n (pc := 19) dX8_next_19 rfl ?_
        refine mm_g16 (pc := 20) dX8_next_20 ?_
        refine ga_aload_n (pc := 23) dX8_next_23 rfl ?_
        refine mm_g18 (pc := 24) (z := q) rfl dX8_next_24 ?_
        refine mm_ald16 (pc := 27) (x := A 16 q) ok (by omega) (rfl) dX8_next_27 ?_
        have hb0 := hb q
        refine ga_bipush (pc := 28) dX8_next_28 rfl ?_
        refine ga_icmp_ne (pc := 30) (tgt := 46) dX8_next_30 rfl (by omega) (by omega) (fun c30 => ?_) (fun c30 => ?_)
        · skip
          exact jn46 q (by omega) (by rw [← hf, tkS_f (by omega)])
        · skip
          refine ga_aload_n (pc := 33) dX8_next_33 rfl ?_
          refine ga_dup (pc := 34) dX8_next_34 rfl ?_
          refine mm_g18 (pc := 35) (z := q) rfl dX8_next_35 ?_
          refine ga_iconst (pc := 38) dX8_next_38 ?_
          refine ga_iadd (pc := 39) dX8_next_39 ?_
          refine mm_p18 (pc := 40) (I1 := (uN I 18 (q + 1))) (by funext j; by_cases e0 : j = 18; (subst e0; rfl); simp only [uN, if_neg e0]) dX8_next_40 ?_
          refine ga_goto (pc := 43) (tgt := 8) dX8_next_43 rfl ?_
          exact ih8 (q + 1) (by omega) (by rw [← tkS_t (by omega)]; exact hf) (by omega)
  exact lp8 _ (I 19) (by omega) (rfl) (Nat.lt_succ_self _)
theorem k_X8_next {X : ga_X} {nL : Nat} {cc : ByteArray} {mo : Nat} {ad : Nat → Nat} {I : Nat → Int} {A : Nat → Int → Int} {d pc : Nat} {L : List (Option Value)} {st : List Value}   {I2 : Nat → Int} (ok : mOk mo ad) (ht : 0 ≤ I 19 ∧ I 19 ≤ I 17 ∧ I 17 ≤ 200) (hb : mBy A)  (hI2 : (uN (uN I 18 (tkFrom (A 16) (I 17) (I 19))) 19 (tkTo (A 16) (I 17) (I 19))) = I2) (hR : 1 + 1 ≤ d ∧ 19 + 3 + 64 * 1 ≤ 64 * d) (hs : (st.map fun v => v.category).sum ≤ 8) (dd : decode cc pc = .ok (.invokevirtual 173, 3)) (kk : G X (gR d) RX8 nL cc (mH mo ad I2 A) 0 0 (pc + 3) L st) : G X (gR d) RX8 nL cc (mH mo ad I A) 0 0 pc L (.ref mo :: st) :=
  mm_run ok (m_X8_next _ _ mo ad I A  ht hb) (lw_V q1812 q1814 qs56 q113 q1815) rfl (show ga_nn' yX8_next 0 from (by unfold ga_nn'; decide +kernel)) hR hs dd rfl (fun v I1 A1 hp => by
    obtain ⟨rfl, hp⟩ := hp
    obtain ⟨rfl, rfl⟩ := hp
    subst hI2
    exact kk)
