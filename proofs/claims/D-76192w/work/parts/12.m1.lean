/-! THE REFERENCE: small methods -/
def mRows (I : Nat → Int) (t : Int) : Int := if t = 1 then I 4 else I 3
def mCols (I : Nat → Int) (t : Int) : Int := if t = 0 then I 3 else I 4
theorem mRows_r {I : Nat → Int} (hm : (1 ≤ I 3 ∧ I 3 ≤ 3) ∧ 1 ≤ I 4 ∧ I 4 ≤ 3) (t : Int) : 1 ≤ mRows I t ∧ mRows I t ≤ 3 := by unfold mRows; split <;> omega
theorem mCols_r {I : Nat → Int} (hm : (1 ≤ I 3 ∧ I 3 ≤ 3) ∧ 1 ≤ I 4 ∧ I 4 ≤ 3) (t : Int) : 1 ≤ mCols I t ∧ mCols I t ≤ 3 := by unfold mCols; split <;> omega
abbrev mPl (I : Nat → Int) (t i j : Int) : Prop := (0 ≤ t ∧ t ≤ 2) ∧ (0 ≤ i ∧ i < mRows I t) ∧ 0 ≤ j ∧ j < mCols I t
/-- the entry at t, i, j -/
def mE (A : Nat → Int → Int) (t i j : Int) : Int := A 0 (9 * t + 3 * i + j)
def mX (A : Nat → Int → Int) (t i p j q : Int) : Int := mE A t i j * mE A t p q - mE A t i q * mE A t p j
def mDet (I : Nat → Int) (A : Nat → Int → Int) (t : Int) : Int := if mRows I t = 1 then mE A t 0 0 else if mRows I t = 2 then mX A t 0 1 0 1 else mE A t 0 0 * mX A t 1 2 1 2 - mE A t 0 1 * mX A t 1 2 0 2 + mE A t 0 2 * mX A t 1 2 0 1
/-- a sum over 0 .. n-1 -/
def zsum (f : Int → Int) : Nat → Int
  | 0 => 0
  | k + 1 => zsum f k + f k
theorem zsum_0 (f : Int → Int) : zsum f (0 : Int).toNat = 0 := rfl
theorem zsum_s (f : Int → Int) {k : Int} (hk : 0 ≤ k) : zsum f (k + 1).toNat = zsum f k.toNat + f k := by
  rw [show (k + 1).toNat = k.toNat + 1 by omega]
  show zsum f k.toNat + f (k.toNat : Int) = _
  rw [show ((k.toNat : Nat) : Int) = k by omega]
theorem zsum_c {f g : Int → Int} (n : Nat) (h : ∀ x : Int, 0 ≤ x → x < n → f x = g x) : zsum f n = zsum g n := by
  induction n with
  | zero => rfl
  | succ n ih =>
    show zsum f n + f n = zsum g n + g n
    rw [ih (fun x h0 h1 => h x h0 (by omega)), h n (by omega) (by omega)]
theorem zsum_z (f : Int → Int) (n : Nat) (h : ∀ x : Int, 0 ≤ x → x < n → f x = 0) : zsum f n = 0 := by
  induction n with
  | zero => rfl
  | succ n ih =>
    show zsum f n + f n = 0
    rw [ih (fun x h0 h1 => h x h0 (by omega)), h n (by omega) (by omega)]
    rfl
def mTr (I : Nat → Int) (A : Nat → Int → Int) (t : Int) : Int := zsum (fun x => mE A t x x) (mRows I t).toNat
def mPi (I : Nat → Int) (A : Nat → Int → Int) (t i : Int) : Int → Int := fun j => if i < j then mX A t i j i j else 0
def mPairs (I : Nat → Int) (A : Nat → Int → Int) (t : Int) : Int := zsum (fun i => zsum (mPi I A t i) (mRows I t).toNat) (mRows I t).toNat
theorem mPi_0 (I : Nat → Int) (A : Nat → Int → Int) (t : Int) {i : Int} (hi : 0 ≤ i) : zsum (mPi I A t i) (i + 1).toNat = 0 := zsum_z _ _ (fun x h0 h1 => by unfold mPi; rw [if_neg (by omega)])
def mChar (I : Nat → Int) (A : Nat → Int → Int) (t k : Int) : Int := if (0 ≤ t ∧ t ≤ 1) ∧ 0 ≤ k ∧ k ≤ mRows I t then (if k = 0 then (if (mRows I t - k).tmod 2 = 0 then mDet I A t else -mDet I A t) else if mRows I t - k = 0 then 1 else if mRows I t - k = 1 then -mTr I A t else mPairs I A t) else -4000000000000000001
/-- the entries are small -/
def mEn (A : Nat → Int → Int) : Prop := ∀ k : Int, -50 ≤ A 0 k ∧ A 0 k ≤ 50
set_option maxHeartbeats 4000000 in
set_option maxRecDepth 100000 in
theorem m_X8_in (l : Launch) (D : ga_G) (a b c : Int) (h1 : (-9223372036854775808 ≤ a ∧ a < 9223372036854775808) ∧ (-9223372036854775808 ≤ b ∧ b < 9223372036854775808) ∧ (-9223372036854775808 ≤ c ∧ c < 9223372036854775808)) : pS l D yX8_in (ws_ yX8_in cX8_in 6 (some .boolean)) (gR 0) [.long (lI a), .long (lI b), .long (lI c)] (some (.int (iI (bI (b ≤ a ∧ a ≤ c))))) := by
  intro h
  refine ga_met (own := RX8) 0 (by decide) rfl (Nat.le_of_ble_eq_true rfl) (L0 := [some (.long (lI a)), none, some (.long (lI b)), none, some (.long (lI c)), none]) rfl (fun X _ _ hE => ?_)
  refine ga_lload_n (pc := 0) dX8_in_0 rfl ?_
  refine ga_lload_n (pc := 1) dX8_in_1 rfl ?_
  refine ga_lcmp (pc := 2) dX8_in_2 (by omega) (by omega) ?_
  refine ga_ifc_lt (pc := 3) (tgt := 17) dX8_in_3 rfl (fun c3 => ?_) (fun c3 => ?_)
  · skip
    refine ga_iconst (pc := 17) dX8_in_17 ?_
    exact ga_zret hE dX8_in_18 (Nat.le_of_ble_eq_true rfl) (Nat.le_of_ble_eq_true rfl) (by first | exact Or.inl rfl | exact Or.inr rfl) (⟨congrArg (fun z => some (Value.int (iI z))) ((bI_f (by omega)).symm), rfl⟩)
  · skip
    refine ga_lload_n (pc := 6) dX8_in_6 rfl ?_
    refine ga_lload (pc := 7) dX8_in_7 rfl ?_
    refine ga_lcmp (pc := 9) dX8_in_9 (by omega) (by omega) ?_
    refine ga_ifc_gt (pc := 10) (tgt := 17) dX8_in_10 rfl (fun c10 => ?_) (fun c10 => ?_)
    · skip
      refine ga_iconst (pc := 17) dX8_in_17 ?_
      exact ga_zret hE dX8_in_18 (Nat.le_of_ble_eq_true rfl) (Nat.le_of_ble_eq_true rfl) (by first | exact Or.inl rfl | exact Or.inr rfl) (⟨congrArg (fun z => some (Value.int (iI z))) ((bI_f (by omega)).symm), rfl⟩)
    · skip
      refine ga_iconst (pc := 13) dX8_in_13 ?_
      refine ga_goto (pc := 14) (tgt := 18) dX8_in_14 rfl ?_
      exact ga_zret hE dX8_in_18 (Nat.le_of_ble_eq_true rfl) (Nat.le_of_ble_eq_true rfl) (by first | exact Or.inl rfl | exact Or.inr rfl) (⟨congrArg (fun z => some (Value.int (iI z))) ((bI_t (by omega)).symm), rfl⟩)
theorem k_X8_in {X : ga_X} {R : Room} {nL : Nat} {cc : ByteArray} {h : ga_H} {k n pc : Nat} {L : List (Option Value)} {st : List Value} {a b c : Int} {z : Int} (h1 : (-9223372036854775808 ≤ a ∧ a < 9223372036854775808) ∧ (-9223372036854775808 ≤ b ∧ b < 9223372036854775808) ∧ (-9223372036854775808 ≤ c ∧ c < 9223372036854775808)) (hz : (bI (b ≤ a ∧ a ≤ c)) = z) (hR : 0 + 1 ≤ R.frames ∧ 19 + 6 + 64 * 0 ≤ R.locals) (hk : k ≤ R.cells ∧ n ≤ R.slots) (hs : (st.map fun v => v.category).sum ≤ 8) (d : decode cc pc = .ok (.invokestatic 99, 3)) (kk : G X R RX8 nL cc h k n (pc + 3) L (.int (iI z) :: st)) : G X R RX8 nL cc h k n pc L (.long (lI c) :: .long (lI b) :: .long (lI a) :: st) := by
  subst hz
  exact ps_run (m_X8_in _ _ a b c h1) (lw_S q1732 q1733 q113 q1734) (show ga_nn' yX8_in 3 from (by unfold ga_nn'; decide +kernel)) hR hk hs d rfl kk
set_option maxHeartbeats 4000000 in
set_option maxRecDepth 100000 in
theorem m_X8_told (l : Launch) (D : ga_G) (a : Int) (h1 : (-2147483648 ≤ a ∧ a < 2147483648)) : pS l D yX8_told (ws_ yX8_told cX8_told 1 (some .long)) (gR 0) [.int (iI a)] (some (.long (lI (a - 4000000000000000000)))) := by
  intro h
  refine ga_met (own := RX8) 0 (by decide) rfl (Nat.le_of_ble_eq_true rfl) (L0 := [some (.int (iI a))]) rfl (fun X _ _ hE => ?_)
  refine ga_iload_n (pc := 0) dX8_told_0 rfl ?_
  refine ga_i2l (pc := 1) dX8_told_1 (by omega) ?_
  refine ga_ldc2 (pc := 2) (4000000000000000000) dX8_told_2 q1782 rfl ?_
  refine ga_lsub (pc := 5) dX8_told_5 ?_
  exact ga_lret hE dX8_told_6 (Nat.le_of_ble_eq_true rfl) (Nat.le_of_ble_eq_true rfl) (⟨congrArg (fun z => some (Value.long (lI z))) (by first | rfl | omega | ((repeat' split) <;> omega)), rfl⟩)
theorem k_X8_told {X : ga_X} {R : Room} {nL : Nat} {cc : ByteArray} {h : ga_H} {k n pc : Nat} {L : List (Option Value)} {st : List Value} {a : Int} {z : Int} (h1 : (-2147483648 ≤ a ∧ a < 2147483648)) (hz : (a - 4000000000000000000) = z) (hR : 0 + 1 ≤ R.frames ∧ 19 + 1 + 64 * 0 ≤ R.locals) (hk : k ≤ R.cells ∧ n ≤ R.slots) (hs : (st.map fun v => v.category).sum ≤ 8) (d : decode cc pc = .ok (.invokestatic 140, 3)) (kk : G X R RX8 nL cc h k n (pc + 3) L (.long (lI z) :: st)) : G X R RX8 nL cc h k n pc L (.int (iI a) :: st) := by
  subst hz
  exact ps_run (m_X8_told _ _ a h1) (lw_S q1779 q1780 q113 q1781) (show ga_nn' yX8_told 1 from (by unfold ga_nn'; decide +kernel)) hR hk hs d rfl kk
set_option maxHeartbeats 4000000 in
set_option maxRecDepth 100000 in
theorem m_X8_isEntry (l : Launch) (D : ga_G) (t v : Int) (h1 : (-2147483648 ≤ t ∧ t < 2147483648) ∧ (-2147483648 ≤ v ∧ v < 2147483648)) : pS l D yX8_isEntry (ws_ yX8_isEntry cX8_isEntry 2 (some .boolean)) (gR 1) [.int (iI t), .int (iI v)] (some (.int (iI (bI ((t = 2 ∧ -50 ≤ v ∧ v ≤ 50) ∨ (t ≠ 2 ∧ -5 ≤ v ∧ v ≤ 5)))))) := by
  intro h
  refine ga_met (own := RX8) 0 (by decide) rfl (Nat.le_of_ble_eq_true rfl) (L0 := [some (.int (iI t)), some (.int (iI v))]) rfl (fun X _ _ hE => ?_)
  refine ga_iload_n (pc := 0) dX8_isEntry_0 rfl ?_
  refine ga_iconst (pc := 1) dX8_isEntry_1 ?_
  refine ga_icmp_ne (pc := 2) (tgt := 19) dX8_isEntry_2 rfl (by omega) (by omega) (fun c2 => ?_) (fun c2 => ?_)
  · skip
    refine ga_iload_n (pc := 19) dX8_isEntry_19 rfl ?_
    refine ga_i2l (pc := 20) dX8_isEntry_20 (by omega) ?_
    refine ga_ldc2 (pc := 21) (-5) dX8_isEntry_21 q1757 rfl ?_
    refine ga_ldc2 (pc := 24) (5) dX8_isEntry_24 q1758 rfl ?_
    refine k_X8_in (pc := 27) (a := v) (b := (-5)) (c := (5)) (by omega) (rfl) ⟨Nat.le_of_ble_eq_true rfl, Nat.le_of_ble_eq_true rfl⟩ ⟨Nat.le_of_ble_eq_true rfl, Nat.le_of_ble_eq_true rfl⟩ (Nat.le_of_ble_eq_true rfl) dX8_isEntry_27 ?_
    exact ga_zret hE dX8_isEntry_30 (Nat.le_of_ble_eq_true rfl) (Nat.le_of_ble_eq_true rfl) (by unfold bI; split <;> simp) (⟨congrArg (fun z => some (Value.int (iI z))) (bI_c (by omega)), rfl⟩)
  · skip
    refine ga_iload_n (pc := 5) dX8_isEntry_5 rfl ?_
    refine ga_i2l (pc := 6) dX8_isEntry_6 (by omega) ?_
    refine ga_ldc2 (pc := 7) (-50) dX8_isEntry_7 q1755 rfl ?_
    refine ga_ldc2 (pc := 10) (50) dX8_isEntry_10 q1756 rfl ?_
    refine k_X8_in (pc := 13) (a := v) (b := (-50)) (c := (50)) (by omega) (rfl) ⟨Nat.le_of_ble_eq_true rfl, Nat.le_of_ble_eq_true rfl⟩ ⟨Nat.le_of_ble_eq_true rfl, Nat.le_of_ble_eq_true rfl⟩ (Nat.le_of_ble_eq_true rfl) dX8_isEntry_13 ?_
    refine ga_goto (pc := 16) (tgt := 30) dX8_isEntry_16 rfl ?_
    exact ga_zret hE dX8_isEntry_30 (Nat.le_of_ble_eq_true rfl) (Nat.le_of_ble_eq_true rfl) (by unfold bI; split <;> simp) (⟨congrArg (fun z => some (Value.int (iI z))) (bI_c (by omega)), rfl⟩)
theorem k_X8_isEntry {X : ga_X} {R : Room} {nL : Nat} {cc : ByteArray} {h : ga_H} {k n pc : Nat} {L : List (Option Value)} {st : List Value} {t v : Int} {z : Int} (h1 : (-2147483648 ≤ t ∧ t < 2147483648) ∧ (-2147483648 ≤ v ∧ v < 2147483648)) (hz : (bI ((t = 2 ∧ -50 ≤ v ∧ v ≤ 50) ∨ (t ≠ 2 ∧ -5 ≤ v ∧ v ≤ 5))) = z) (hR : 1 + 1 ≤ R.frames ∧ 19 + 2 + 64 * 1 ≤ R.locals) (hk : k ≤ R.cells ∧ n ≤ R.slots) (hs : (st.map fun v => v.category).sum ≤ 8) (d : decode cc pc = .ok (.invokestatic 124, 3)) (kk : G X R RX8 nL cc h k n (pc + 3) L (.int (iI z) :: st)) : G X R RX8 nL cc h k n pc L (.int (iI v) :: .int (iI t) :: st) := by
  subst hz
  exact ps_run (m_X8_isEntry _ _ t v h1) (lw_S q1752 q1753 q113 q1754) (show ga_nn' yX8_isEntry 2 from (by unfold ga_nn'; decide +kernel)) hR hk hs d rfl kk
set_option maxHeartbeats 4000000 in
set_option maxRecDepth 100000 in
theorem m_X8_isDigit (l : Launch) (D : ga_G) (b : Int) (h1 : (-2147483648 ≤ b ∧ b < 2147483648)) : pS l D yX8_isDigit (ws_ yX8_isDigit cX8_isDigit 1 (some .boolean)) (gR 0) [.int (iI b)] (some (.int (iI (bI (48 ≤ b ∧ b ≤ 57))))) := by
  intro h
  refine ga_met (own := RX8) 0 (by decide) rfl (Nat.le_of_ble_eq_true rfl) (L0 := [some (.int (iI b))]) rfl (fun X _ _ hE => ?_)
  refine ga_iload_n (pc := 0) dX8_isDigit_0 rfl ?_
  refine ga_bipush (pc := 1) dX8_isDigit_1 rfl ?_
  refine ga_icmp_lt (pc := 3) (tgt := 16) dX8_isDigit_3 rfl (by omega) (by omega) (fun c3 => ?_) (fun c3 => ?_)
  · skip
    refine ga_iconst (pc := 16) dX8_isDigit_16 ?_
    exact ga_zret hE dX8_isDigit_17 (Nat.le_of_ble_eq_true rfl) (Nat.le_of_ble_eq_true rfl) (by first | exact Or.inl rfl | exact Or.inr rfl) (⟨congrArg (fun z => some (Value.int (iI z))) ((bI_f (by omega)).symm), rfl⟩)
  · skip
    refine ga_iload_n (pc := 6) dX8_isDigit_6 rfl ?_
    refine ga_bipush (pc := 7) dX8_isDigit_7 rfl ?_
    refine ga_icmp_gt (pc := 9) (tgt := 16) dX8_isDigit_9 rfl (by omega) (by omega) (fun c9 => ?_) (fun c9 => ?_)
    · skip
      refine ga_iconst (pc := 16) dX8_isDigit_16 ?_
      exact ga_zret hE dX8_isDigit_17 (Nat.le_of_ble_eq_true rfl) (Nat.le_of_ble_eq_true rfl) (by first | exact Or.inl rfl | exact Or.inr rfl) (⟨congrArg (fun z => some (Value.int (iI z))) ((bI_f (by omega)).symm), rfl⟩)
    · skip
      refine ga_iconst (pc := 12) dX8_isDigit_12 ?_
      refine ga_goto (pc := 13) (tgt := 17) dX8_isDigit_13 rfl ?_
      exact ga_zret hE dX8_isDigit_17 (Nat.le_of_ble_eq_true rfl) (Nat.le_of_ble_eq_true rfl) (by first | exact Or.inl rfl | exact Or.inr rfl) (⟨congrArg (fun z => some (Value.int (iI z))) ((bI_t (by omega)).symm), rfl⟩)
theorem k_X8_isDigit {X : ga_X} {R : Room} {nL : Nat} {cc : ByteArray} {h : ga_H} {k n pc : Nat} {L : List (Option Value)} {st : List Value} {b : Int} {z : Int} (h1 : (-2147483648 ≤ b ∧ b < 2147483648)) (hz : (bI (48 ≤ b ∧ b ≤ 57)) = z) (hR : 0 + 1 ≤ R.frames ∧ 19 + 1 + 64 * 0 ≤ R.locals) (hk : k ≤ R.cells ∧ n ≤ R.slots) (hs : (st.map fun v => v.category).sum ≤ 8) (d : decode cc pc = .ok (.invokestatic 164, 3)) (kk : G X R RX8 nL cc h k n (pc + 3) L (.int (iI z) :: st)) : G X R RX8 nL cc h k n pc L (.int (iI b) :: st) := by
  subst hz
  exact ps_run (m_X8_isDigit _ _ b h1) (lw_S q1819 q1820 q113 q1821) (show ga_nn' yX8_isDigit 1 from (by unfold ga_nn'; decide +kernel)) hR hk hs d rfl kk
set_option maxHeartbeats 4000000 in
set_option maxRecDepth 100000 in
theorem m_X8_isLetter (l : Launch) (D : ga_G) (b : Int) (h1 : (-2147483648 ≤ b ∧ b < 2147483648)) : pS l D yX8_isLetter (ws_ yX8_isLetter cX8_isLetter 1 (some .boolean)) (gR 0) [.int (iI b)] (some (.int (iI (bI (97 ≤ b ∧ b ≤ 122))))) := by
  intro h
  refine ga_met (own := RX8) 0 (by decide) rfl (Nat.le_of_ble_eq_true rfl) (L0 := [some (.int (iI b))]) rfl (fun X _ _ hE => ?_)
  refine ga_iload_n (pc := 0) dX8_isLetter_0 rfl ?_
  refine ga_bipush (pc := 1) dX8_isLetter_1 rfl ?_
  refine ga_icmp_lt (pc := 3) (tgt := 16) dX8_isLetter_3 rfl (by omega) (by omega) (fun c3 => ?_) (fun c3 => ?_)
  · skip
    refine ga_iconst (pc := 16) dX8_isLetter_16 ?_
    exact ga_zret hE dX8_isLetter_17 (Nat.le_of_ble_eq_true rfl) (Nat.le_of_ble_eq_true rfl) (by first | exact Or.inl rfl | exact Or.inr rfl) (⟨congrArg (fun z => some (Value.int (iI z))) ((bI_f (by omega)).symm), rfl⟩)
  · skip
    refine ga_iload_n (pc := 6) dX8_isLetter_6 rfl ?_
    refine ga_bipush (pc := 7) dX8_isLetter_7 rfl ?_
    refine ga_icmp_gt (pc := 9) (tgt := 16) dX8_isLetter_9 rfl (by omega) (by omega) (fun c9 => ?_) (fun c9 => ?_)
    · skip
      refine ga_iconst (pc := 16) dX8_isLetter_16 ?_
      exact ga_zret hE dX8_isLetter_17 (Nat.le_of_ble_eq_true rfl) (Nat.le_of_ble_eq_true rfl) (by first | exact Or.inl rfl | exact Or.inr rfl) (⟨congrArg (fun z => some (Value.int (iI z))) ((bI_f (by omega)).symm), rfl⟩)
    · skip
      refine ga_iconst (pc := 12) dX8_isLetter_12 ?_
      refine ga_goto (pc := 13) (tgt := 17) dX8_isLetter_13 rfl ?_
      exact ga_zret hE dX8_isLetter_17 (Nat.le_of_ble_eq_true rfl) (Nat.le_of_ble_eq_true rfl) (by first | exact Or.inl rfl | exact Or.inr rfl) (⟨congrArg (fun z => some (Value.int (iI z))) ((bI_t (by omega)).symm), rfl⟩)
theorem k_X8_isLetter {X : ga_X} {R : Room} {nL : Nat} {cc : ByteArray} {h : ga_H} {k n pc : Nat} {L : List (Option Value)} {st : List Value} {b : Int} {z : Int} (h1 : (-2147483648 ≤ b ∧ b < 2147483648)) (hz : (bI (97 ≤ b ∧ b ≤ 122)) = z) (hR : 0 + 1 ≤ R.frames ∧ 19 + 1 + 64 * 0 ≤ R.locals) (hk : k ≤ R.cells ∧ n ≤ R.slots) (hs : (st.map fun v => v.category).sum ≤ 8) (d : decode cc pc = .ok (.invokestatic 160, 3)) (kk : G X R RX8 nL cc h k n (pc + 3) L (.int (iI z) :: st)) : G X R RX8 nL cc h k n pc L (.int (iI b) :: st) := by
  subst hz
  exact ps_run (m_X8_isLetter _ _ b h1) (lw_S q1816 q1817 q113 q1818) (show ga_nn' yX8_isLetter 1 from (by unfold ga_nn'; decide +kernel)) hR hk hs d rfl kk
set_option maxHeartbeats 4000000 in
set_option maxRecDepth 100000 in
theorem m_X8_isKind (l : Launch) (D : ga_G) (b : Int) (h1 : (-2147483648 ≤ b ∧ b < 2147483648)) : pS l D yX8_isKind (ws_ yX8_isKind cX8_isKind 1 (some .boolean)) (gR 1) [.int (iI b)] (some (.int (iI (bI (0 ≤ b ∧ b ≤ 6))))) := by
  intro h
  refine ga_met (own := RX8) 0 (by decide) rfl (Nat.le_of_ble_eq_true rfl) (L0 := [some (.int (iI b))]) rfl (fun X _ _ hE => ?_)
  refine ga_iload_n (pc := 0) dX8_isKind_0 rfl ?_
  refine ga_i2l (pc := 1) dX8_isKind_1 (by omega) ?_
  refine ga_lconst (pc := 2) 0 dX8_isKind_2 rfl ?_
  refine ga_ldc2 (pc := 3) (6) dX8_isKind_3 q1845 rfl ?_
  refine k_X8_in (pc := 6) (a := b) (b := 0) (c := (6)) (by omega) (rfl) ⟨Nat.le_of_ble_eq_true rfl, Nat.le_of_ble_eq_true rfl⟩ ⟨Nat.le_of_ble_eq_true rfl, Nat.le_of_ble_eq_true rfl⟩ (Nat.le_of_ble_eq_true rfl) dX8_isKind_6 ?_
  exact ga_zret hE dX8_isKind_9 (Nat.le_of_ble_eq_true rfl) (Nat.le_of_ble_eq_true rfl) (by unfold bI; split <;> simp) (⟨congrArg (fun z => some (Value.int (iI z))) (bI_c (by omega)), rfl⟩)
theorem k_X8_isKind {X : ga_X} {R : Room} {nL : Nat} {cc : ByteArray} {h : ga_H} {k n pc : Nat} {L : List (Option Value)} {st : List Value} {b : Int} {z : Int} (h1 : (-2147483648 ≤ b ∧ b < 2147483648)) (hz : (bI (0 ≤ b ∧ b ≤ 6)) = z) (hR : 1 + 1 ≤ R.frames ∧ 19 + 1 + 64 * 1 ≤ R.locals) (hk : k ≤ R.cells ∧ n ≤ R.slots) (hs : (st.map fun v => v.category).sum ≤ 8) (d : decode cc pc = .ok (.invokestatic 198, 3)) (kk : G X R RX8 nL cc h k n (pc + 3) L (.int (iI z) :: st)) : G X R RX8 nL cc h k n pc L (.int (iI b) :: st) := by
  subst hz
  exact ps_run (m_X8_isKind _ _ b h1) (lw_S q1842 q1843 q113 q1844) (show ga_nn' yX8_isKind 1 from (by unfold ga_nn'; decide +kernel)) hR hk hs d rfl kk
set_option maxHeartbeats 4000000 in
set_option maxRecDepth 100000 in
theorem m_X8_isSheet (l : Launch) (D : ga_G) (b : Int) (h1 : (-2147483648 ≤ b ∧ b < 2147483648)) : pS l D yX8_isSheet (ws_ yX8_isSheet cX8_isSheet 1 (some .boolean)) (gR 1) [.int (iI b)] (some (.int (iI (bI (0 ≤ b ∧ b ≤ 3))))) := by
  intro h
  refine ga_met (own := RX8) 0 (by decide) rfl (Nat.le_of_ble_eq_true rfl) (L0 := [some (.int (iI b))]) rfl (fun X _ _ hE => ?_)
  refine ga_iload_n (pc := 0) dX8_isSheet_0 rfl ?_
  refine ga_i2l (pc := 1) dX8_isSheet_1 (by omega) ?_
  refine ga_lconst (pc := 2) 0 dX8_isSheet_2 rfl ?_
  refine ga_ldc2 (pc := 3) (3) dX8_isSheet_3 q1731 rfl ?_
  refine k_X8_in (pc := 6) (a := b) (b := 0) (c := (3)) (by omega) (rfl) ⟨Nat.le_of_ble_eq_true rfl, Nat.le_of_ble_eq_true rfl⟩ ⟨Nat.le_of_ble_eq_true rfl, Nat.le_of_ble_eq_true rfl⟩ (Nat.le_of_ble_eq_true rfl) dX8_isSheet_6 ?_
  exact ga_zret hE dX8_isSheet_9 (Nat.le_of_ble_eq_true rfl) (Nat.le_of_ble_eq_true rfl) (by unfold bI; split <;> simp) (⟨congrArg (fun z => some (Value.int (iI z))) (bI_c (by omega)), rfl⟩)
theorem k_X8_isSheet {X : ga_X} {R : Room} {nL : Nat} {cc : ByteArray} {h : ga_H} {k n pc : Nat} {L : List (Option Value)} {st : List Value} {b : Int} {z : Int} (h1 : (-2147483648 ≤ b ∧ b < 2147483648)) (hz : (bI (0 ≤ b ∧ b ≤ 3)) = z) (hR : 1 + 1 ≤ R.frames ∧ 19 + 1 + 64 * 1 ≤ R.locals) (hk : k ≤ R.cells ∧ n ≤ R.slots) (hs : (st.map fun v => v.category).sum ≤ 8) (d : decode cc pc = .ok (.invokestatic 303, 3)) (kk : G X R RX8 nL cc h k n (pc + 3) L (.int (iI z) :: st)) : G X R RX8 nL cc h k n pc L (.int (iI b) :: st) := by
  subst hz
  exact ps_run (m_X8_isSheet _ _ b h1) (lw_S q1991 q1992 q113 q1993) (show ga_nn' yX8_isSheet 1 from (by unfold ga_nn'; decide +kernel)) hR hk hs d rfl kk
set_option maxHeartbeats 4000000 in
set_option maxRecDepth 100000 in
theorem m_X8_isShelf (l : Launch) (D : ga_G) (b : Int) (h1 : (-2147483648 ≤ b ∧ b < 2147483648)) : pS l D yX8_isShelf (ws_ yX8_isShelf cX8_isShelf 1 (some .boolean)) (gR 1) [.int (iI b)] (some (.int (iI (bI (0 ≤ b ∧ b ≤ 3))))) := by
  intro h
  refine ga_met (own := RX8) 0 (by decide) rfl (Nat.le_of_ble_eq_true rfl) (L0 := [some (.int (iI b))]) rfl (fun X _ _ hE => ?_)
  refine ga_iload_n (pc := 0) dX8_isShelf_0 rfl ?_
  refine ga_i2l (pc := 1) dX8_isShelf_1 (by omega) ?_
  refine ga_lconst (pc := 2) 0 dX8_isShelf_2 rfl ?_
  refine ga_ldc2 (pc := 3) (3) dX8_isShelf_3 q1731 rfl ?_
  refine k_X8_in (pc := 6) (a := b) (b := 0) (c := (3)) (by omega) (rfl) ⟨Nat.le_of_ble_eq_true rfl, Nat.le_of_ble_eq_true rfl⟩ ⟨Nat.le_of_ble_eq_true rfl, Nat.le_of_ble_eq_true rfl⟩ (Nat.le_of_ble_eq_true rfl) dX8_isShelf_6 ?_
  exact ga_zret hE dX8_isShelf_9 (Nat.le_of_ble_eq_true rfl) (Nat.le_of_ble_eq_true rfl) (by unfold bI; split <;> simp) (⟨congrArg (fun z => some (Value.int (iI z))) (bI_c (by omega)), rfl⟩)
theorem k_X8_isShelf {X : ga_X} {R : Room} {nL : Nat} {cc : ByteArray} {h : ga_H} {k n pc : Nat} {L : List (Option Value)} {st : List Value} {b : Int} {z : Int} (h1 : (-2147483648 ≤ b ∧ b < 2147483648)) (hz : (bI (0 ≤ b ∧ b ≤ 3)) = z) (hR : 1 + 1 ≤ R.frames ∧ 19 + 1 + 64 * 1 ≤ R.locals) (hk : k ≤ R.cells ∧ n ≤ R.slots) (hs : (st.map fun v => v.category).sum ≤ 8) (d : decode cc pc = .ok (.invokestatic 335, 3)) (kk : G X R RX8 nL cc h k n (pc + 3) L (.int (iI z) :: st)) : G X R RX8 nL cc h k n pc L (.int (iI b) :: st) := by
  subst hz
  exact ps_run (m_X8_isShelf _ _ b h1) (lw_S q2065 q2066 q113 q2067) (show ga_nn' yX8_isShelf 1 from (by unfold ga_nn'; decide +kernel)) hR hk hs d rfl kk
set_option maxHeartbeats 4000000 in
set_option maxRecDepth 100000 in
theorem m_X8_isUnder (l : Launch) (D : ga_G) (a b : Int) (h1 : (-2147483648 ≤ a ∧ a < 2147483648) ∧ (-2147483648 ≤ b ∧ b < 2147483648)) : pS l D yX8_isUnder (ws_ yX8_isUnder cX8_isUnder 2 (some .boolean)) (gR 0) [.int (iI a), .int (iI b)] (some (.int (iI (bI (b = 0 ∨ a = b ∨ (b = 2 ∧ a = 4) ∨ (b = 3 ∧ 5 ≤ a) ∨ (b = 5 ∧ a = 6)))))) := by
  intro h
  refine ga_met (own := RX8) 0 (by decide) rfl (Nat.le_of_ble_eq_true rfl) (L0 := [some (.int (iI a)), some (.int (iI b))]) rfl (fun X _ _ hE => ?_)
  refine ga_iload_n (pc := 0) dX8_isUnder_0 rfl ?_
  refine ga_if_eq (pc := 1) (tgt := 40) dX8_isUnder_1 rfl (by omega) (fun c1 => ?_) (fun c1 => ?_)
  · skip
    refine ga_iconst (pc := 40) dX8_isUnder_40 ?_
    refine ga_goto (pc := 41) (tgt := 45) dX8_isUnder_41 rfl ?_
    exact ga_zret hE dX8_isUnder_45 (Nat.le_of_ble_eq_true rfl) (Nat.le_of_ble_eq_true rfl) (by first | exact Or.inl rfl | exact Or.inr rfl) (⟨congrArg (fun z => some (Value.int (iI z))) ((bI_t (by omega)).symm), rfl⟩)
  · skip
    refine ga_iload_n (pc := 4) dX8_isUnder_4 rfl ?_
    refine ga_iload_n (pc := 5) dX8_isUnder_5 rfl ?_
    refine ga_icmp_eq (pc := 6) (tgt := 40) dX8_isUnder_6 rfl (by omega) (by omega) (fun c6 => ?_) (fun c6 => ?_)
    · skip
      refine ga_iconst (pc := 40) dX8_isUnder_40 ?_
      refine ga_goto (pc := 41) (tgt := 45) dX8_isUnder_41 rfl ?_
      exact ga_zret hE dX8_isUnder_45 (Nat.le_of_ble_eq_true rfl) (Nat.le_of_ble_eq_true rfl) (by first | exact Or.inl rfl | exact Or.inr rfl) (⟨congrArg (fun z => some (Value.int (iI z))) ((bI_t (by omega)).symm), rfl⟩)
    · skip
      refine ga_iload_n (pc := 9) dX8_isUnder_9 rfl ?_
      refine ga_iconst (pc := 10) dX8_isUnder_10 ?_
      refine ga_icmp_ne (pc := 11) (tgt := 19) dX8_isUnder_11 rfl (by omega) (by omega) (fun c11 => ?_) (fun c11 => ?_)
      · skip
        refine ga_iload_n (pc := 19) dX8_isUnder_19 rfl ?_
        refine ga_iconst (pc := 20) dX8_isUnder_20 ?_
        refine ga_icmp_ne (pc := 21) (tgt := 29) dX8_isUnder_21 rfl (by omega) (by omega) (fun c21 => ?_) (fun c21 => ?_)
        · skip
          refine ga_iload_n (pc := 29) dX8_isUnder_29 rfl ?_
          refine ga_iconst (pc := 30) dX8_isUnder_30 ?_
          refine ga_icmp_ne (pc := 31) (tgt := 44) dX8_isUnder_31 rfl (by omega) (by omega) (fun c31 => ?_) (fun c31 => ?_)
          · skip
            refine ga_iconst (pc := 44) dX8_isUnder_44 ?_
            exact ga_zret hE dX8_isUnder_45 (Nat.le_of_ble_eq_true rfl) (Nat.le_of_ble_eq_true rfl) (by first | exact Or.inl rfl | exact Or.inr rfl) (⟨congrArg (fun z => some (Value.int (iI z))) ((bI_f (by omega)).symm), rfl⟩)
          · skip
            refine ga_iload_n (pc := 34) dX8_isUnder_34 rfl ?_
            refine ga_bipush (pc := 35) dX8_isUnder_35 rfl ?_
            refine ga_icmp_ne (pc := 37) (tgt := 44) dX8_isUnder_37 rfl (by omega) (by omega) (fun c37 => ?_) (fun c37 => ?_)
            · skip
              refine ga_iconst (pc := 44) dX8_isUnder_44 ?_
              exact ga_zret hE dX8_isUnder_45 (Nat.le_of_ble_eq_true rfl) (Nat.le_of_ble_eq_true rfl) (by first | exact Or.inl rfl | exact Or.inr rfl) (⟨congrArg (fun z => some (Value.int (iI z))) ((bI_f (by omega)).symm), rfl⟩)
            · skip
              refine ga_iconst (pc := 40) dX8_isUnder_40 ?_
              refine ga_goto (pc := 41) (tgt := 45) dX8_isUnder_41 rfl ?_
              exact ga_zret hE dX8_isUnder_45 (Nat.le_of_ble_eq_true rfl) (Nat.le_of_ble_eq_true rfl) (by first | exact Or.inl rfl | exact Or.inr rfl) (⟨congrArg (fun z => some (Value.int (iI z))) ((bI_t (by omega)).symm), rfl⟩)
        · skip
          refine ga_iload_n (pc := 24) dX8_isUnder_24 rfl ?_
          refine ga_iconst (pc := 25) dX8_isUnder_25 ?_
          refine ga_icmp_ge (pc := 26) (tgt := 40) dX8_isUnder_26 rfl (by omega) (by omega) (fun c26 => ?_) (fun c26 => ?_)
          · skip
            refine ga_iconst (pc := 40) dX8_isUnder_40 ?_
            refine ga_goto (pc := 41) (tgt := 45) dX8_isUnder_41 rfl ?_
            exact ga_zret hE dX8_isUnder_45 (Nat.le_of_ble_eq_true rfl) (Nat.le_of_ble_eq_true rfl) (by first | exact Or.inl rfl | exact Or.inr rfl) (⟨congrArg (fun z => some (Value.int (iI z))) ((bI_t (by omega)).symm), rfl⟩)
          · skip
            refine ga_iload_n (pc := 29) dX8_isUnder_29 rfl ?_
            refine ga_iconst (pc := 30) dX8_isUnder_30 ?_
            refine ga_icmp_ne (pc := 31) (tgt := 44) dX8_isUnder_31 rfl (by omega) (by omega) (fun c31 => ?_) (fun c31 => ?_)
            · skip
              refine ga_iconst (pc := 44) dX8_isUnder_44 ?_
              exact ga_zret hE dX8_isUnder_45 (Nat.le_of_ble_eq_true rfl) (Nat.le_of_ble_eq_true rfl) (by first | exact Or.inl rfl | exact Or.inr rfl) (⟨congrArg (fun z => some (Value.int (iI z))) ((bI_f (by omega)).symm), rfl⟩)
            · skip
              refine ga_iload_n (pc := 34) dX8_isUnder_34 rfl ?_
              refine ga_bipush (pc := 35) dX8_isUnder_35 rfl ?_
              refine ga_icmp_ne (pc := 37) (tgt := 44) dX8_isUnder_37 rfl (by omega) (by omega) (fun c37 => ?_) (fun c37 => ?_)
              · skip
                refine ga_iconst (pc := 44) dX8_isUnder_44 ?_
                exact ga_zret hE dX8_isUnder_45 (Nat.le_of_ble_eq_true rfl) (Nat.le_of_ble_eq_true rfl) (by first | exact Or.inl rfl | exact Or.inr rfl) (⟨congrArg (fun z => some (Value.int (iI z))) ((bI_f (by omega)).symm), rfl⟩)
              · skip
                refine ga_iconst (pc := 40) dX8_isUnder_40 ?_
                refine ga_goto (pc := 41) (tgt := 45) dX8_isUnder_41 rfl ?_
                exact ga_zret hE dX8_isUnder_45 (Nat.le_of_ble_eq_true rfl) (Nat.le_of_ble_eq_true rfl) (by first | exact Or.inl rfl | exact Or.inr rfl) (⟨congrArg (fun z => some (Value.int (iI z))) ((bI_t (by omega)).symm), rfl⟩)
      · skip
        refine ga_iload_n (pc := 14) dX8_isUnder_14 rfl ?_
        refine ga_iconst (pc := 15) dX8_isUnder_15 ?_
        refine ga_icmp_eq (pc := 16) (tgt := 40) dX8_isUnder_16 rfl (by omega) (by omega) (fun c16 => ?_) (fun c16 => ?_)
        · skip
          refine ga_iconst (pc := 40) dX8_isUnder_40 ?_
          refine ga_goto (pc := 41) (tgt := 45) dX8_isUnder_41 rfl ?_
          exact ga_zret hE dX8_isUnder_45 (Nat.le_of_ble_eq_true rfl) (Nat.le_of_ble_eq_true rfl) (by first | exact Or.inl rfl | exact Or.inr rfl) (⟨congrArg (fun z => some (Value.int (iI z))) ((bI_t (by omega)).symm), rfl⟩)
        · skip
          refine ga_iload_n (pc := 19) dX8_isUnder_19 rfl ?_
          refine ga_iconst (pc := 20) dX8_isUnder_20 ?_
          refine ga_icmp_ne (pc := 21) (tgt := 29) dX8_isUnder_21 rfl (by omega) (by omega) (fun c21 => ?_) (fun c21 => ?_)
          · skip
            refine ga_iload_n (pc := 29) dX8_isUnder_29 rfl ?_
            refine ga_iconst (pc := 30) dX8_isUnder_30 ?_
            refine ga_icmp_ne (pc := 31) (tgt := 44) dX8_isUnder_31 rfl (by omega) (by omega) (fun c31 => ?_) (fun c31 => ?_)
            · skip
              refine ga_iconst (pc := 44) dX8_isUnder_44 ?_
              exact ga_zret hE dX8_isUnder_45 (Nat.le_of_ble_eq_true rfl) (Nat.le_of_ble_eq_true rfl) (by first | exact Or.inl rfl | exact Or.inr rfl) (⟨congrArg (fun z => some (Value.int (iI z))) ((bI_f (by omega)).symm), rfl⟩)
            · skip
              refine ga_iload_n (pc := 34) dX8_isUnder_34 rfl ?_
              refine ga_bipush (pc := 35) dX8_isUnder_35 rfl ?_
              refine ga_icmp_ne (pc := 37) (tgt := 44) dX8_isUnder_37 rfl (by omega) (by omega) (fun c37 => ?_) (fun c37 => ?_)
              · skip
                refine ga_iconst (pc := 44) dX8_isUnder_44 ?_
                exact ga_zret hE dX8_isUnder_45 (Nat.le_of_ble_eq_true rfl) (Nat.le_of_ble_eq_true rfl) (by first | exact Or.inl rfl | exact Or.inr rfl) (⟨congrArg (fun z => some (Value.int (iI z))) ((bI_f (by omega)).symm), rfl⟩)
              · skip
                refine ga_iconst (pc := 40) dX8_isUnder_40 ?_
                refine ga_goto (pc := 41) (tgt := 45) dX8_isUnder_41 rfl ?_
                exact ga_zret hE dX8_isUnder_45 (Nat.le_of_ble_eq_true rfl) (Nat.le_of_ble_eq_true rfl) (by first | exact Or.inl rfl | exact Or.inr rfl) (⟨congrArg (fun z => some (Value.int (iI z))) ((bI_t (by omega)).symm), rfl⟩)
          · skip
            refine ga_iload_n (pc := 24) dX8_isUnder_24 rfl ?_
            refine ga_iconst (pc := 25) dX8_isUnder_25 ?_
            refine ga_icmp_ge (pc := 26) (tgt := 40) dX8_isUnder_26 rfl (by omega) (by omega) (fun c26 => ?_) (fun c26 => ?_)
            · skip
              refine ga_iconst (pc := 40) dX8_isUnder_40 ?_
              refine ga_goto (pc := 41) (tgt := 45) dX8_isUnder_41 rfl ?_
              exact ga_zret hE dX8_isUnder_45 (Nat.le_of_ble_eq_true rfl) (Nat.le_of_ble_eq_true rfl) (by first | exact Or.inl rfl | exact Or.inr rfl) (⟨congrArg (fun z => some (Value.int (iI z))) ((bI_t (by omega)).symm), rfl⟩)
            · skip
              refine ga_iload_n (pc := 29) dX8_isUnder_29 rfl ?_
              refine ga_iconst (pc := 30) dX8_isUnder_30 ?_
              refine ga_icmp_ne (pc := 31) (tgt := 44) dX8_isUnder_31 rfl (by omega) (by omega) (fun c31 => ?_) (fun c31 => ?_)
              · skip
                refine ga_iconst (pc := 44) dX8_isUnder_44 ?_
                exact ga_zret hE dX8_isUnder_45 (Nat.le_of_ble_eq_true rfl) (Nat.le_of_ble_eq_true rfl) (by first | exact Or.inl rfl | exact Or.inr rfl) (⟨congrArg (fun z => some (Value.int (iI z))) ((bI_f (by omega)).symm), rfl⟩)
              · skip
                refine ga_iload_n (pc := 34) dX8_isUnder_34 rfl ?_
                refine ga_bipush (pc := 35) dX8_isUnder_35 rfl ?_
                refine ga_icmp_ne (pc := 37) (tgt := 44) dX8_isUnder_37 rfl (by omega) (by omega) (fun c37 => ?_) (fun c37 => ?_)
                · skip
                  refine ga_iconst (pc := 44) dX8_isUnder_44 ?_
                  exact ga_zret hE dX8_isUnder_45 (Nat.le_of_ble_eq_true rfl) (Nat.le_of_ble_eq_true rfl) (by first | exact Or.inl rfl | exact Or.inr rfl) (⟨congrArg (fun z => some (Value.int (iI z))) ((bI_f (by omega)).symm), rfl⟩)
                · skip
                  refine ga_iconst (pc := 40) dX8_isUnder_40 ?_
                  refine ga_goto (pc := 41) (tgt := 45) dX8_isUnder_41 rfl ?_
                  exact ga_zret hE dX8_isUnder_45 (Nat.le_of_ble_eq_true rfl) (Nat.le_of_ble_eq_true rfl) (by first | exact Or.inl rfl | exact Or.inr rfl) (⟨congrArg (fun z => some (Value.int (iI z))) ((bI_t (by omega)).symm), rfl⟩)
theorem k_X8_isUnder {X : ga_X} {R : Room} {nL : Nat} {cc : ByteArray} {h : ga_H} {k n pc : Nat} {L : List (Option Value)} {st : List Value} {a b : Int} {z : Int} (h1 : (-2147483648 ≤ a ∧ a < 2147483648) ∧ (-2147483648 ≤ b ∧ b < 2147483648)) (hz : (bI (b = 0 ∨ a = b ∨ (b = 2 ∧ a = 4) ∨ (b = 3 ∧ 5 ≤ a) ∨ (b = 5 ∧ a = 6))) = z) (hR : 0 + 1 ≤ R.frames ∧ 19 + 2 + 64 * 0 ≤ R.locals) (hk : k ≤ R.cells ∧ n ≤ R.slots) (hs : (st.map fun v => v.category).sum ≤ 8) (d : decode cc pc = .ok (.invokestatic 345, 3)) (kk : G X R RX8 nL cc h k n (pc + 3) L (.int (iI z) :: st)) : G X R RX8 nL cc h k n pc L (.int (iI b) :: .int (iI a) :: st) := by
  subst hz
  exact ps_run (m_X8_isUnder _ _ a b h1) (lw_S q2078 q2079 q113 q2080) (show ga_nn' yX8_isUnder 2 from (by unfold ga_nn'; decide +kernel)) hR hk hs d rfl kk
set_option maxHeartbeats 4000000 in
set_option maxRecDepth 100000 in
theorem m_X8_rowsOf (l : Launch) (D : ga_G) (mo : Nat) (ad : Nat → Nat) (I : Nat → Int) (A : Nat → Int → Int) (t : Int) (h1 : (-2147483648 ≤ t ∧ t < 2147483648)) : mM l D yX8_rowsOf (ws_ yX8_rowsOf cX8_rowsOf 2 (some .int)) (gR 0) [.int (iI t)] mo ad I A (mI (fun r I1 A1 => r = (mRows I t) ∧ I1 = I ∧ A1 = A)) := by
  refine mm_met 0 rfl (Nat.le_of_ble_eq_true rfl) (L0 := [some (.ref mo), some (.int (iI t))]) rfl (fun X ok hE => ?_)
  refine ga_iload_n (pc := 0) dX8_rowsOf_0 rfl ?_
  refine ga_iconst (pc := 1) dX8_rowsOf_1 ?_
  refine ga_icmp_ne (pc := 2) (tgt := 12) dX8_rowsOf_2 rfl (by omega) (by omega) (fun c2 => ?_) (fun c2 => ?_)
  · skip
    refine ga_aload_n (pc := 12) dX8_rowsOf_12 rfl ?_
    refine mm_g3 (pc := 13) (z := I 3) rfl dX8_rowsOf_13 ?_
    exact mm_iret hE dX8_rowsOf_16 (⟨_, rfl, by unfold mRows; split <;> first | rfl | omega, rfl, rfl⟩)
  · skip
    refine ga_aload_n (pc := 5) dX8_rowsOf_5 rfl ?_
    refine mm_g4 (pc := 6) (z := I 4) rfl dX8_rowsOf_6 ?_
    refine ga_goto (pc := 9) (tgt := 16) dX8_rowsOf_9 rfl ?_
    exact mm_iret hE dX8_rowsOf_16 (⟨_, rfl, by unfold mRows; split <;> first | rfl | omega, rfl, rfl⟩)
theorem k_X8_rowsOf {X : ga_X} {nL : Nat} {cc : ByteArray} {mo : Nat} {ad : Nat → Nat} {I : Nat → Int} {A : Nat → Int → Int} {d pc : Nat} {L : List (Option Value)} {st : List Value} {t : Int} {z : Int} (ok : mOk mo ad) (h1 : (-2147483648 ≤ t ∧ t < 2147483648)) (hz : (mRows I t) = z) (hR : 0 + 1 ≤ d ∧ 19 + 2 + 64 * 0 ≤ 64 * d) (hs : (st.map fun v => v.category).sum ≤ 8) (dd : decode cc pc = .ok (.invokevirtual 103, 3)) (kk : G X (gR d) RX8 nL cc (mH mo ad I A) 0 0 (pc + 3) L (.int (iI z) :: st)) : G X (gR d) RX8 nL cc (mH mo ad I A) 0 0 pc L (.int (iI t) :: .ref mo :: st) :=
  mm_run ok (m_X8_rowsOf _ _ mo ad I A t h1) (lw_V q1744 q1746 qs48 q113 q1747) rfl (show ga_nn' yX8_rowsOf 1 from (by unfold ga_nn'; decide +kernel)) hR hs dd rfl (fun v I1 A1 hp => by
    obtain ⟨r, rfl, hp⟩ := hp
    obtain ⟨e1, rfl, rfl⟩ := hp
    subst hz
    rw [e1]
    exact kk)
set_option maxHeartbeats 4000000 in
set_option maxRecDepth 100000 in
theorem m_X8_columnsOf (l : Launch) (D : ga_G) (mo : Nat) (ad : Nat → Nat) (I : Nat → Int) (A : Nat → Int → Int) (t : Int) (h1 : (-2147483648 ≤ t ∧ t < 2147483648)) : mM l D yX8_columnsOf (ws_ yX8_columnsOf cX8_columnsOf 2 (some .int)) (gR 0) [.int (iI t)] mo ad I A (mI (fun r I1 A1 => r = (mCols I t) ∧ I1 = I ∧ A1 = A)) := by
  refine mm_met 0 rfl (Nat.le_of_ble_eq_true rfl) (L0 := [some (.ref mo), some (.int (iI t))]) rfl (fun X ok hE => ?_)
  refine ga_iload_n (pc := 0) dX8_columnsOf_0 rfl ?_
  refine ga_if_ne (pc := 1) (tgt := 11) dX8_columnsOf_1 rfl (by omega) (fun c1 => ?_) (fun c1 => ?_)
  · skip
    refine ga_aload_n (pc := 11) dX8_columnsOf_11 rfl ?_
    refine mm_g4 (pc := 12) (z := I 4) rfl dX8_columnsOf_12 ?_
    exact mm_iret hE dX8_columnsOf_15 (⟨_, rfl, by unfold mCols; split <;> first | rfl | omega, rfl, rfl⟩)
  · skip
    refine ga_aload_n (pc := 4) dX8_columnsOf_4 rfl ?_
    refine mm_g3 (pc := 5) (z := I 3) rfl dX8_columnsOf_5 ?_
    refine ga_goto (pc := 8) (tgt := 15) dX8_columnsOf_8 rfl ?_
    exact mm_iret hE dX8_columnsOf_15 (⟨_, rfl, by unfold mCols; split <;> first | rfl | omega, rfl, rfl⟩)
theorem k_X8_columnsOf {X : ga_X} {nL : Nat} {cc : ByteArray} {mo : Nat} {ad : Nat → Nat} {I : Nat → Int} {A : Nat → Int → Int} {d pc : Nat} {L : List (Option Value)} {st : List Value} {t : Int} {z : Int} (ok : mOk mo ad) (h1 : (-2147483648 ≤ t ∧ t < 2147483648)) (hz : (mCols I t) = z) (hR : 0 + 1 ≤ d ∧ 19 + 2 + 64 * 0 ≤ 64 * d) (hs : (st.map fun v => v.category).sum ≤ 8) (dd : decode cc pc = .ok (.invokevirtual 107, 3)) (kk : G X (gR d) RX8 nL cc (mH mo ad I A) 0 0 (pc + 3) L (.int (iI z) :: st)) : G X (gR d) RX8 nL cc (mH mo ad I A) 0 0 pc L (.int (iI t) :: .ref mo :: st) :=
  mm_run ok (m_X8_columnsOf _ _ mo ad I A t h1) (lw_V q1748 q1750 qs49 q113 q1751) rfl (show ga_nn' yX8_columnsOf 1 from (by unfold ga_nn'; decide +kernel)) hR hs dd rfl (fun v I1 A1 hp => by
    obtain ⟨r, rfl, hp⟩ := hp
    obtain ⟨e1, rfl, rfl⟩ := hp
    subst hz
    rw [e1]
    exact kk)
set_option maxHeartbeats 4000000 in
set_option maxRecDepth 100000 in
theorem m_X8_its (l : Launch) (D : ga_G) (mo : Nat) (ad : Nat → Nat) (I : Nat → Int) (A : Nat → Int → Int) (t i j : Int) (h1 : (0 ≤ t ∧ t ≤ 2) ∧ (0 ≤ i ∧ i ≤ 2) ∧ 0 ≤ j ∧ j ≤ 2) : mM l D yX8_its (ws_ yX8_its cX8_its 4 (some .int)) (gR 0) [.int (iI t), .int (iI i), .int (iI j)] mo ad I A (mI (fun r I1 A1 => r = (mE A t i j) ∧ I1 = I ∧ A1 = A)) := by
  refine mm_met 0 rfl (Nat.le_of_ble_eq_true rfl) (L0 := [some (.ref mo), some (.int (iI t)), some (.int (iI i)), some (.int (iI j))]) rfl (fun X ok hE => ?_)
  refine ga_aload_n (pc := 0) dX8_its_0 rfl ?_
  refine mm_g0 (pc := 1) dX8_its_1 ?_
  refine ga_bipush (pc := 4) dX8_its_4 rfl ?_
  refine ga_iload_n (pc := 6) dX8_its_6 rfl ?_
  refine ga_imul (pc := 7) dX8_its_7 ?_
  refine ga_iconst (pc := 8) dX8_its_8 ?_
  refine ga_iload_n (pc := 9) dX8_its_9 rfl ?_
  refine ga_imul (pc := 10) dX8_its_10 ?_
  refine ga_iadd (pc := 11) dX8_its_11 ?_
  refine ga_iload_n (pc := 12) dX8_its_12 rfl ?_
  refine ga_iadd (pc := 13) dX8_its_13 ?_
  refine mm_ald0 (pc := 14) (x := A 0 (((9 * t) + (3 * i)) + j)) ok (by omega) (rfl) dX8_its_14 ?_
  exact mm_iret hE dX8_its_15 (⟨_, rfl, by first | rfl | omega | ((repeat' split) <;> omega), rfl, rfl⟩)
theorem k_X8_its {X : ga_X} {nL : Nat} {cc : ByteArray} {mo : Nat} {ad : Nat → Nat} {I : Nat → Int} {A : Nat → Int → Int} {d pc : Nat} {L : List (Option Value)} {st : List Value} {t i j : Int} {z : Int} (ok : mOk mo ad) (h1 : (0 ≤ t ∧ t ≤ 2) ∧ (0 ≤ i ∧ i ≤ 2) ∧ 0 ≤ j ∧ j ≤ 2) (hz : (mE A t i j) = z) (hR : 0 + 1 ≤ d ∧ 19 + 4 + 64 * 0 ≤ 64 * d) (hs : (st.map fun v => v.category).sum ≤ 8) (dd : decode cc pc = .ok (.invokevirtual 128, 3)) (kk : G X (gR d) RX8 nL cc (mH mo ad I A) 0 0 (pc + 3) L (.int (iI z) :: st)) : G X (gR d) RX8 nL cc (mH mo ad I A) 0 0 pc L (.int (iI j) :: .int (iI i) :: .int (iI t) :: .ref mo :: st) :=
  mm_run ok (m_X8_its _ _ mo ad I A t i j h1) (lw_V q1759 q1761 qs50 q113 q1762) rfl (show ga_nn' yX8_its 3 from (by unfold ga_nn'; decide +kernel)) hR hs dd rfl (fun v I1 A1 hp => by
    obtain ⟨r, rfl, hp⟩ := hp
    obtain ⟨e1, rfl, rfl⟩ := hp
    subst hz
    rw [e1]
    exact kk)
set_option maxHeartbeats 4000000 in
set_option maxRecDepth 100000 in
theorem m_X8_isPlace (l : Launch) (D : ga_G) (mo : Nat) (ad : Nat → Nat) (I : Nat → Int) (A : Nat → Int → Int) (t i j : Int) (hm : (1 ≤ I 3 ∧ I 3 ≤ 3) ∧ 1 ≤ I 4 ∧ I 4 ≤ 3) (h1 : (-2147483648 ≤ t ∧ t < 2147483648) ∧ (-2147483648 ≤ i ∧ i < 2147483648) ∧ (-2147483648 ≤ j ∧ j < 2147483648)) : mM l D yX8_isPlace (ws_ yX8_isPlace cX8_isPlace 4 (some .boolean)) (gR 1) [.int (iI t), .int (iI i), .int (iI j)] mo ad I A (mI (fun r I1 A1 => r = (bI (mPl I t i j)) ∧ I1 = I ∧ A1 = A)) := by
  refine mm_met 0 rfl (Nat.le_of_ble_eq_true rfl) (L0 := [some (.ref mo), some (.int (iI t)), some (.int (iI i)), some (.int (iI j))]) rfl (fun X ok hE => ?_)
  have hr := mRows_r hm t
  have hc := mCols_r hm t
  refine ga_iload_n (pc := 0) dX8_isPlace_0 rfl ?_
  refine ga_i2l (pc := 1) dX8_isPlace_1 (by omega) ?_
  refine ga_lconst (pc := 2) 0 dX8_isPlace_2 rfl ?_
  refine ga_ldc2 (pc := 3) (2) dX8_isPlace_3 q1743 rfl ?_
  refine k_X8_in (pc := 6) (a := t) (b := 0) (c := (2)) (by omega) (rfl) ⟨Nat.le_of_ble_eq_true rfl, Nat.le_of_ble_eq_true rfl⟩ ⟨Nat.le_of_ble_eq_true rfl, Nat.le_of_ble_eq_true rfl⟩ (Nat.le_of_ble_eq_true rfl) dX8_isPlace_6 ?_
  refine ga_ifb_eq (pc := 9) (tgt := 50) dX8_isPlace_9 rfl (fun c9 => ?_) (fun c9 => ?_)
  · skip
    refine ga_iconst (pc := 50) dX8_isPlace_50 ?_
    exact mm_zret hE dX8_isPlace_51 (by first | exact Or.inl rfl | exact Or.inr rfl) (⟨_, rfl, (bI_f (by omega)).symm, rfl, rfl⟩)
  · skip
    refine ga_iload_n (pc := 12) dX8_isPlace_12 rfl ?_
    refine ga_i2l (pc := 13) dX8_isPlace_13 (by omega) ?_
    refine ga_lconst (pc := 14) 0 dX8_isPlace_14 rfl ?_
    refine ga_aload_n (pc := 15) dX8_isPlace_15 rfl ?_
    refine ga_iload_n (pc := 16) dX8_isPlace_16 rfl ?_
    refine k_X8_rowsOf (pc := 17) (t := t) (z := mRows I t) ok (by first | exact h1 | omega) (rfl) ⟨Nat.le_of_ble_eq_true rfl, Nat.le_of_ble_eq_true rfl⟩ (Nat.le_of_ble_eq_true rfl) dX8_isPlace_17 ?_
    refine ga_iconst (pc := 20) dX8_isPlace_20 ?_
    refine ga_isub (pc := 21) dX8_isPlace_21 ?_
    refine ga_i2l (pc := 22) dX8_isPlace_22 (by omega) ?_
    refine k_X8_in (pc := 23) (a := i) (b := 0) (c := ((mRows I t) - 1)) (by omega) (rfl) ⟨Nat.le_of_ble_eq_true rfl, Nat.le_of_ble_eq_true rfl⟩ ⟨Nat.le_of_ble_eq_true rfl, Nat.le_of_ble_eq_true rfl⟩ (Nat.le_of_ble_eq_true rfl) dX8_isPlace_23 ?_
    refine ga_ifb_eq (pc := 26) (tgt := 50) dX8_isPlace_26 rfl (fun c26 => ?_) (fun c26 => ?_)
    · skip
      refine ga_iconst (pc := 50) dX8_isPlace_50 ?_
      exact mm_zret hE dX8_isPlace_51 (by first | exact Or.inl rfl | exact Or.inr rfl) (⟨_, rfl, (bI_f (by omega)).symm, rfl, rfl⟩)
    · skip
      refine ga_iload_n (pc := 29) dX8_isPlace_29 rfl ?_
      refine ga_i2l (pc := 30) dX8_isPlace_30 (by omega) ?_
      refine ga_lconst (pc := 31) 0 dX8_isPlace_31 rfl ?_
      refine ga_aload_n (pc := 32) dX8_isPlace_32 rfl ?_
      refine ga_iload_n (pc := 33) dX8_isPlace_33 rfl ?_
      refine k_X8_columnsOf (pc := 34) (t := t) (z := mCols I t) ok (by first | exact h1 | omega) (rfl) ⟨Nat.le_of_ble_eq_true rfl, Nat.le_of_ble_eq_true rfl⟩ (Nat.le_of_ble_eq_true rfl) dX8_isPlace_34 ?_
      refine ga_iconst (pc := 37) dX8_isPlace_37 ?_
      refine ga_isub (pc := 38) dX8_isPlace_38 ?_
      refine ga_i2l (pc := 39) dX8_isPlace_39 (by omega) ?_
      refine k_X8_in (pc := 40) (a := j) (b := 0) (c := ((mCols I t) - 1)) (by omega) (rfl) ⟨Nat.le_of_ble_eq_true rfl, Nat.le_of_ble_eq_true rfl⟩ ⟨Nat.le_of_ble_eq_true rfl, Nat.le_of_ble_eq_true rfl⟩ (Nat.le_of_ble_eq_true rfl) dX8_isPlace_40 ?_
      refine ga_ifb_eq (pc := 43) (tgt := 50) dX8_isPlace_43 rfl (fun c43 => ?_) (fun c43 => ?_)
      · skip
        refine ga_iconst (pc := 50) dX8_isPlace_50 ?_
        exact mm_zret hE dX8_isPlace_51 (by first | exact Or.inl rfl | exact Or.inr rfl) (⟨_, rfl, (bI_f (by omega)).symm, rfl, rfl⟩)
      · skip
        refine ga_iconst (pc := 46) dX8_isPlace_46 ?_
        refine ga_goto (pc := 47) (tgt := 51) dX8_isPlace_47 rfl ?_
        exact mm_zret hE dX8_isPlace_51 (by first | exact Or.inl rfl | exact Or.inr rfl) (⟨_, rfl, (bI_t (by omega)).symm, rfl, rfl⟩)
theorem k_X8_isPlace {X : ga_X} {nL : Nat} {cc : ByteArray} {mo : Nat} {ad : Nat → Nat} {I : Nat → Int} {A : Nat → Int → Int} {d pc : Nat} {L : List (Option Value)} {st : List Value} {t i j : Int} {z : Int} (ok : mOk mo ad) (hm : (1 ≤ I 3 ∧ I 3 ≤ 3) ∧ 1 ≤ I 4 ∧ I 4 ≤ 3) (h1 : (-2147483648 ≤ t ∧ t < 2147483648) ∧ (-2147483648 ≤ i ∧ i < 2147483648) ∧ (-2147483648 ≤ j ∧ j < 2147483648)) (hz : (bI (mPl I t i j)) = z) (hR : 1 + 1 ≤ d ∧ 19 + 4 + 64 * 1 ≤ 64 * d) (hs : (st.map fun v => v.category).sum ≤ 8) (dd : decode cc pc = .ok (.invokevirtual 120, 3)) (kk : G X (gR d) RX8 nL cc (mH mo ad I A) 0 0 (pc + 3) L (.int (iI z) :: st)) : G X (gR d) RX8 nL cc (mH mo ad I A) 0 0 pc L (.int (iI j) :: .int (iI i) :: .int (iI t) :: .ref mo :: st) :=
  mm_run ok (m_X8_isPlace _ _ mo ad I A t i j hm h1) (lw_V q1739 q1741 qs47 q113 q1742) rfl (show ga_nn' yX8_isPlace 3 from (by unfold ga_nn'; decide +kernel)) hR hs dd rfl (fun v I1 A1 hp => by
    obtain ⟨r, rfl, hp⟩ := hp
    obtain ⟨e1, rfl, rfl⟩ := hp
    subst hz
    rw [e1]
    exact kk)
theorem mE_0 {A : Nat → Int → Int} {t i j : Int} {f : Int → Int} (h : A 0 = f) : mE A t i j = f (9 * t + 3 * i + j) := by unfold mE; rw [h]
/-- the first k places told anew as 0 -/
def mZ (f : Int → Int) (k : Int) : Int → Int := fun x => if 0 ≤ x ∧ x < k then 0 else f x
theorem mZ_s (f : Int → Int) {k : Int} (hk : 0 ≤ k) : uZ (mZ f k) k 0 = mZ f (k + 1) := by
  funext x
  unfold uZ mZ
  by_cases h : x = k
  · rw [if_pos h, if_pos (by omega)]
  · rw [if_neg h]
    by_cases h2 : 0 ≤ x ∧ x < k
    · rw [if_pos h2, if_pos (by omega)]
    · rw [if_neg h2, if_neg (by omega)]
theorem mZ_0 (f : Int → Int) : mZ f 0 = f := by
  funext x
  unfold mZ
  rw [if_neg (by omega)]
set_option maxHeartbeats 4000000 in
set_option maxRecDepth 100000 in
theorem m_X8_size (l : Launch) (D : ga_G) (mo : Nat) (ad : Nat → Nat) (I : Nat → Int) (A : Nat → Int → Int) (a b : Int) (hm : (1 ≤ I 3 ∧ I 3 ≤ 3) ∧ 1 ≤ I 4 ∧ I 4 ≤ 3) (h1 : (-2147483648 ≤ a ∧ a < 2147483648) ∧ (-2147483648 ≤ b ∧ b < 2147483648)) : mM l D yX8_size (ws_ yX8_size cX8_size 5 (some .int)) (gR 1) [.int (iI a), .int (iI b)] mo ad I A (mI (fun r I1 A1 => if (1 ≤ a ∧ a ≤ 3) ∧ 1 ≤ b ∧ b ≤ 3 then r = 10 * I 3 + I 4 ∧ I1 = uN (uN I 3 a) 4 b ∧ A1 = uN A 0 (mZ (A 0) 27) else r = -1 ∧ I1 = I ∧ A1 = A)) := by
  refine mm_met 2 rfl (Nat.le_of_ble_eq_true rfl) (L0 := [some (.ref mo), some (.int (iI a)), some (.int (iI b)), none, none]) rfl (fun X ok hE => ?_)
  refine ga_iload_n (pc := 0) dX8_size_0 rfl ?_
  refine ga_i2l (pc := 1) dX8_size_1 (by omega) ?_
  refine ga_lconst (pc := 2) 1 dX8_size_2 rfl ?_
  refine ga_ldc2 (pc := 3) (3) dX8_size_3 q1731 rfl ?_
  refine k_X8_in (pc := 6) (a := a) (b := 1) (c := (3)) (by omega) (rfl) ⟨Nat.le_of_ble_eq_true rfl, Nat.le_of_ble_eq_true rfl⟩ ⟨Nat.le_of_ble_eq_true rfl, Nat.le_of_ble_eq_true rfl⟩ (Nat.le_of_ble_eq_true rfl) dX8_size_6 ?_
  refine ga_ifb_eq (pc := 9) (tgt := 24) dX8_size_9 rfl (fun c9 => ?_) (fun c9 => ?_)
  · skip
    refine ga_iconst (pc := 24) dX8_size_24 ?_
    exact mm_iret hE dX8_size_25 (⟨_, rfl, by dsimp only; rw [if_neg (by omega)]; exact ⟨rfl, rfl, rfl⟩⟩)
  · skip
    refine ga_iload_n (pc := 12) dX8_size_12 rfl ?_
    refine ga_i2l (pc := 13) dX8_size_13 (by omega) ?_
    refine ga_lconst (pc := 14) 1 dX8_size_14 rfl ?_
    refine ga_ldc2 (pc := 15) (3) dX8_size_15 q1731 rfl ?_
    refine k_X8_in (pc := 18) (a := b) (b := 1) (c := (3)) (by omega) (rfl) ⟨Nat.le_of_ble_eq_true rfl, Nat.le_of_ble_eq_true rfl⟩ ⟨Nat.le_of_ble_eq_true rfl, Nat.le_of_ble_eq_true rfl⟩ (Nat.le_of_ble_eq_true rfl) dX8_size_18 ?_
    refine ga_ifb_ne (pc := 21) (tgt := 26) dX8_size_21 rfl (fun c21 => ?_) (fun c21 => ?_)
    · skip
      refine ga_bipush (pc := 26) dX8_size_26 rfl ?_
      refine ga_aload_n (pc := 28) dX8_size_28 rfl ?_
      refine mm_g3 (pc := 29) (z := I 3) rfl dX8_size_29 ?_
      refine ga_imul (pc := 32) dX8_size_32 ?_
      refine ga_aload_n (pc := 33) dX8_size_33 rfl ?_
      refine mm_g4 (pc := 34) (z := I 4) rfl dX8_size_34 ?_
      refine ga_iadd (pc := 37) dX8_size_37 ?_
      refine ga_istore_n (pc := 38) (L1 := [some (.ref mo), some (.int (iI a)), some (.int (iI b)), some (.int (iI ((10 * (I 3)) + (I 4)))), none]) dX8_size_38 rfl (by decide) rfl ?_
      refine ga_aload_n (pc := 39) dX8_size_39 rfl ?_
      refine ga_iload_n (pc := 40) dX8_size_40 rfl ?_
      refine mm_p3 (pc := 41) (I1 := (uN I 3 a)) (rfl) dX8_size_41 ?_
      refine ga_aload_n (pc := 44) dX8_size_44 rfl ?_
      refine ga_iload_n (pc := 45) dX8_size_45 rfl ?_
      refine mm_p4 (pc := 46) (I1 := (uN (uN I 3 a) 4 b)) (rfl) dX8_size_46 ?_
      refine ga_iconst (pc := 49) dX8_size_49 ?_
      refine ga_istore (pc := 50) (L1 := [some (.ref mo), some (.int (iI a)), some (.int (iI b)), some (.int (iI ((10 * (I 3)) + (I 4)))), some (.int (iI 0))]) dX8_size_50 rfl (by decide) rfl ?_
      refine ga_heq (pc := 52) (h1 := mH mo ad (uN (uN I 3 a) 4 b) (uN A 0 (mZ (A 0) 0))) (congr (congrArg (mH mo ad) (rfl)) (by funext j; by_cases e0 : j = 0; (subst e0; exact (show (A 0) = (mZ (A 0) 0) from (mZ_0 _).symm)); simp only [uN, if_neg e0])) ?_
      have lp52 : ∀ (N52 : Nat) (k : Int), (0 ≤ k ∧ k ≤ 27) → (27 - k).toNat < N52 → G X (gR 1) RX8 5 cX8_size (mH mo ad (uN (uN I 3 a) 4 b) (uN A 0 (mZ (A 0) k))) 0 0 52 [some (.ref mo), some (.int (iI a)), some (.int (iI b)), some (.int (iI (10 * I 3 + I 4))), some (.int (iI k))] [] := by
        intro N52
        induction N52 with
        | zero => intro k hk hN52; exact absurd hN52 (Nat.not_lt_zero _)
        | succ N52 ih52 =>
          intro k hk hN52
          refine ga_iload (pc := 52) dX8_size_52 rfl ?_
          refine ga_bipush (pc := 54) dX8_size_54 rfl ?_
          refine ga_icmp_ge (pc := 56) (tgt := 73) dX8_size_56 rfl (by omega) (by omega) (fun c56 => ?_) (fun c56 => ?_)
          · skip
            refine ga_iload_n (pc := 73) dX8_size_73 rfl ?_
            exact mm_iret hE dX8_size_74 (⟨_, rfl, by dsimp only; (obtain rfl : k = 27 := by omega); rw [if_pos (by omega)]; exact ⟨rfl, rfl, rfl⟩⟩)
          · skip
            refine ga_aload_n (pc := 59) dX8_size_59 rfl ?_
            refine mm_g0 (pc := 60) dX8_size_60 ?_
            refine ga_iload (pc := 63) dX8_size_63 rfl ?_
            refine ga_iconst (pc := 65) dX8_size_65 ?_
            refine mm_ast0 (pc := 66) (f := mZ (A 0) k) (A1 := (uN A 0 (uZ (mZ (A 0) k) k 0))) ok (by omega) rfl (by funext j; by_cases e0 : j = 0; (subst e0; rfl); simp only [uN, if_neg e0]) dX8_size_66 ?_
            refine ga_iinc (pc := 67) (L1 := [some (.ref mo), some (.int (iI a)), some (.int (iI b)), some (.int (iI (10 * I 3 + I 4))), some (.int (iI (k + 1)))]) dX8_size_67 rfl rfl (by decide) rfl ?_
            refine ga_goto (pc := 70) (tgt := 52) dX8_size_70 rfl ?_
            refine ga_heq (pc := 52) (h1 := mH mo ad (uN (uN I 3 a) 4 b) (uN A 0 (mZ (A 0) (k + 1)))) (congr (congrArg (mH mo ad) (rfl)) (by funext j; by_cases e0 : j = 0; (subst e0; exact (show (uZ (mZ (A 0) k) k 0) = (mZ (A 0) (k + 1)) from mZ_s _ (by omega))); simp only [uN, if_neg e0])) ?_
            exact ih52 (k + 1) (by omega) (by omega)
      exact lp52 _ 0 (by omega) (Nat.lt_succ_self _)
    · skip
      refine ga_iconst (pc := 24) dX8_size_24 ?_
      exact mm_iret hE dX8_size_25 (⟨_, rfl, by dsimp only; rw [if_neg (by omega)]; exact ⟨rfl, rfl, rfl⟩⟩)
set_option maxHeartbeats 4000000 in
set_option maxRecDepth 100000 in
theorem m_X8_set (l : Launch) (D : ga_G) (mo : Nat) (ad : Nat → Nat) (I : Nat → Int) (A : Nat → Int → Int) (t i j v : Int) (hm : (1 ≤ I 3 ∧ I 3 ≤ 3) ∧ 1 ≤ I 4 ∧ I 4 ≤ 3) (h1 : (-2147483648 ≤ t ∧ t < 2147483648) ∧ (-2147483648 ≤ i ∧ i < 2147483648) ∧ (-2147483648 ≤ j ∧ j < 2147483648) ∧ (-2147483648 ≤ v ∧ v < 2147483648)) : mM l D yX8_set (ws_ yX8_set cX8_set 6 (some .int)) (gR 2) [.int (iI t), .int (iI i), .int (iI j), .int (iI v)] mo ad I A (mI (fun r I1 A1 => if mPl I t i j ∧ ((t = 2 ∧ -50 ≤ v ∧ v ≤ 50) ∨ (t ≠ 2 ∧ -5 ≤ v ∧ v ≤ 5)) then r = 100 + mE A t i j ∧ I1 = I ∧ A1 = uN A 0 (uZ (A 0) (9 * t + 3 * i + j) v) else r = -1 ∧ I1 = I ∧ A1 = A)) := by
  refine mm_met 1 rfl (Nat.le_of_ble_eq_true rfl) (L0 := [some (.ref mo), some (.int (iI t)), some (.int (iI i)), some (.int (iI j)), some (.int (iI v)), none]) rfl (fun X ok hE => ?_)
  have hr := mRows_r hm t
  have hc := mCols_r hm t
  refine ga_aload_n (pc := 0) dX8_set_0 rfl ?_
  refine ga_iload_n (pc := 1) dX8_set_1 rfl ?_
  refine ga_iload_n (pc := 2) dX8_set_2 rfl ?_
  refine ga_iload_n (pc := 3) dX8_set_3 rfl ?_
  refine k_X8_isPlace (pc := 4) (t := t) (i := i) (j := j) ok (by first | exact hm | omega) (by first | exact h1 | omega) (rfl) ⟨Nat.le_of_ble_eq_true rfl, Nat.le_of_ble_eq_true rfl⟩ (Nat.le_of_ble_eq_true rfl) dX8_set_4 ?_
  refine ga_ifb_eq (pc := 7) (tgt := 19) dX8_set_7 rfl (fun c7 => ?_) (fun c7 => ?_)
  · skip
    refine ga_iconst (pc := 19) dX8_set_19 ?_
    exact mm_iret hE dX8_set_20 (⟨_, rfl, by dsimp only; first | (rw [if_neg (by omega)]; exact ⟨rfl, rfl, rfl⟩) | (rw [if_pos (by omega)]; exact ⟨rfl, rfl, rfl⟩)⟩)
  · skip
    refine ga_iload_n (pc := 10) dX8_set_10 rfl ?_
    refine ga_iload (pc := 11) dX8_set_11 rfl ?_
    refine k_X8_isEntry (pc := 13) (t := t) (v := v) (by omega) (rfl) ⟨Nat.le_of_ble_eq_true rfl, Nat.le_of_ble_eq_true rfl⟩ ⟨Nat.le_of_ble_eq_true rfl, Nat.le_of_ble_eq_true rfl⟩ (Nat.le_of_ble_eq_true rfl) dX8_set_13 ?_
    refine ga_ifb_ne (pc := 16) (tgt := 21) dX8_set_16 rfl (fun c16 => ?_) (fun c16 => ?_)
    · skip
      refine ga_aload_n (pc := 21) dX8_set_21 rfl ?_
      refine ga_iload_n (pc := 22) dX8_set_22 rfl ?_
      refine ga_iload_n (pc := 23) dX8_set_23 rfl ?_
      refine ga_iload_n (pc := 24) dX8_set_24 rfl ?_
      refine k_X8_its (pc := 25) (t := t) (i := i) (j := j) (z := mE A t i j) ok (by first | exact h1 | omega) (rfl) ⟨Nat.le_of_ble_eq_true rfl, Nat.le_of_ble_eq_true rfl⟩ (Nat.le_of_ble_eq_true rfl) dX8_set_25 ?_
      refine ga_istore (pc := 28) (L1 := [some (.ref mo), some (.int (iI t)), some (.int (iI i)), some (.int (iI j)), some (.int (iI v)), some (.int (iI (mE A t i j)))]) dX8_set_28 rfl (by decide) rfl ?_
      refine ga_aload_n (pc := 30) dX8_set_30 rfl ?_
      refine mm_g0 (pc := 31) dX8_set_31 ?_
      refine ga_bipush (pc := 34) dX8_set_34 rfl ?_
      refine ga_iload_n (pc := 36) dX8_set_36 rfl ?_
      refine ga_imul (pc := 37) dX8_set_37 ?_
      refine ga_iconst (pc := 38) dX8_set_38 ?_
      refine ga_iload_n (pc := 39) dX8_set_39 rfl ?_
      refine ga_imul (pc := 40) dX8_set_40 ?_
      refine ga_iadd (pc := 41) dX8_set_41 ?_
      refine ga_iload_n (pc := 42) dX8_set_42 rfl ?_
      refine ga_iadd (pc := 43) dX8_set_43 ?_
      refine ga_iload (pc := 44) dX8_set_44 rfl ?_
      refine mm_ast0 (pc := 46) (f := A 0) (A1 := (uN A 0 (uZ (A 0) (((9 * t) + (3 * i)) + j) v))) ok (by omega) rfl (rfl) dX8_set_46 ?_
      refine ga_bipush (pc := 47) dX8_set_47 rfl ?_
      refine ga_iload (pc := 49) dX8_set_49 rfl ?_
      refine ga_iadd (pc := 51) dX8_set_51 ?_
      exact mm_iret hE dX8_set_52 (⟨_, rfl, by dsimp only; first | (rw [if_neg (by omega)]; exact ⟨rfl, rfl, rfl⟩) | (rw [if_pos (by omega)]; exact ⟨rfl, rfl, rfl⟩)⟩)
    · skip
      refine ga_iconst (pc := 19) dX8_set_19 ?_
      exact mm_iret hE dX8_set_20 (⟨_, rfl, by dsimp only; first | (rw [if_neg (by omega)]; exact ⟨rfl, rfl, rfl⟩) | (rw [if_pos (by omega)]; exact ⟨rfl, rfl, rfl⟩)⟩)
set_option maxHeartbeats 4000000 in
set_option maxRecDepth 100000 in
theorem m_X8_at (l : Launch) (D : ga_G) (mo : Nat) (ad : Nat → Nat) (I : Nat → Int) (A : Nat → Int → Int) (t i j : Int) (hm : (1 ≤ I 3 ∧ I 3 ≤ 3) ∧ 1 ≤ I 4 ∧ I 4 ≤ 3) (h1 : (-2147483648 ≤ t ∧ t < 2147483648) ∧ (-2147483648 ≤ i ∧ i < 2147483648) ∧ (-2147483648 ≤ j ∧ j < 2147483648)) : mM l D yX8_at (ws_ yX8_at cX8_at 4 (some .int)) (gR 2) [.int (iI t), .int (iI i), .int (iI j)] mo ad I A (mI (fun r I1 A1 => r = (if mPl I t i j then 100 + mE A t i j else -1) ∧ I1 = I ∧ A1 = A)) := by
  refine mm_met 0 rfl (Nat.le_of_ble_eq_true rfl) (L0 := [some (.ref mo), some (.int (iI t)), some (.int (iI i)), some (.int (iI j))]) rfl (fun X ok hE => ?_)
  have hr := mRows_r hm t
  have hc := mCols_r hm t
  refine ga_aload_n (pc := 0) dX8_at_0 rfl ?_
  refine ga_iload_n (pc := 1) dX8_at_1 rfl ?_
  refine ga_iload_n (pc := 2) dX8_at_2 rfl ?_
  refine ga_iload_n (pc := 3) dX8_at_3 rfl ?_
  refine k_X8_isPlace (pc := 4) (t := t) (i := i) (j := j) ok (by first | exact hm | omega) (by first | exact h1 | omega) (rfl) ⟨Nat.le_of_ble_eq_true rfl, Nat.le_of_ble_eq_true rfl⟩ (Nat.le_of_ble_eq_true rfl) dX8_at_4 ?_
  refine ga_ifb_eq (pc := 7) (tgt := 23) dX8_at_7 rfl (fun c7 => ?_) (fun c7 => ?_)
  · skip
    refine ga_iconst (pc := 23) dX8_at_23 ?_
    exact mm_iret hE dX8_at_24 (⟨_, rfl, by first | (rw [if_neg (by omega)]) | (rw [if_pos (by omega)]), rfl, rfl⟩)
  · skip
    refine ga_bipush (pc := 10) dX8_at_10 rfl ?_
    refine ga_aload_n (pc := 12) dX8_at_12 rfl ?_
    refine ga_iload_n (pc := 13) dX8_at_13 rfl ?_
    refine ga_iload_n (pc := 14) dX8_at_14 rfl ?_
    refine ga_iload_n (pc := 15) dX8_at_15 rfl ?_
    refine k_X8_its (pc := 16) (t := t) (i := i) (j := j) (z := mE A t i j) ok (by first | exact h1 | omega) (rfl) ⟨Nat.le_of_ble_eq_true rfl, Nat.le_of_ble_eq_true rfl⟩ (Nat.le_of_ble_eq_true rfl) dX8_at_16 ?_
    refine ga_iadd (pc := 19) dX8_at_19 ?_
    refine ga_goto (pc := 20) (tgt := 24) dX8_at_20 rfl ?_
    exact mm_iret hE dX8_at_24 (⟨_, rfl, by first | (rw [if_neg (by omega)]) | (rw [if_pos (by omega)]), rfl, rfl⟩)
set_option maxHeartbeats 4000000 in
set_option maxRecDepth 100000 in
theorem m_X8_cross (l : Launch) (D : ga_G) (mo : Nat) (ad : Nat → Nat) (I : Nat → Int) (A : Nat → Int → Int) (t i p j q : Int) (he : mEn A) (h1 : (0 ≤ t ∧ t ≤ 2) ∧ (0 ≤ i ∧ i ≤ 2) ∧ (0 ≤ p ∧ p ≤ 2) ∧ (0 ≤ j ∧ j ≤ 2) ∧ 0 ≤ q ∧ q ≤ 2) : mM l D yX8_cross (ws_ yX8_cross cX8_cross 6 (some .long)) (gR 1) [.int (iI t), .int (iI i), .int (iI p), .int (iI j), .int (iI q)] mo ad I A (mL (fun r I1 A1 => r = (mX A t i p j q) ∧ I1 = I ∧ A1 = A)) := by
  refine mm_met 0 rfl (Nat.le_of_ble_eq_true rfl) (L0 := [some (.ref mo), some (.int (iI t)), some (.int (iI i)), some (.int (iI p)), some (.int (iI j)), some (.int (iI q))]) rfl (fun X ok hE => ?_)
  have he0 : -50 ≤ mE A t i j ∧ mE A t i j ≤ 50 := he _
  have he1 : -50 ≤ mE A t p q ∧ mE A t p q ≤ 50 := he _
  have he2 : -50 ≤ mE A t i q ∧ mE A t i q ≤ 50 := he _
  have he3 : -50 ≤ mE A t p j ∧ mE A t p j ≤ 50 := he _
  refine ga_aload_n (pc := 0) dX8_cross_0 rfl ?_
  refine ga_iload_n (pc := 1) dX8_cross_1 rfl ?_
  refine ga_iload_n (pc := 2) dX8_cross_2 rfl ?_
  refine ga_iload (pc := 3) dX8_cross_3 rfl ?_
  refine k_X8_its (pc := 5) (t := t) (i := i) (j := j) (z := mE A t i j) ok (by first | exact h1 | omega) (rfl) ⟨Nat.le_of_ble_eq_true rfl, Nat.le_of_ble_eq_true rfl⟩ (Nat.le_of_ble_eq_true rfl) dX8_cross_5 ?_
  refine ga_i2l (pc := 8) dX8_cross_8 (by omega) ?_
  refine ga_aload_n (pc := 9) dX8_cross_9 rfl ?_
  refine ga_iload_n (pc := 10) dX8_cross_10 rfl ?_
  refine ga_iload_n (pc := 11) dX8_cross_11 rfl ?_
  refine ga_iload (pc := 12) dX8_cross_12 rfl ?_
  refine k_X8_its (pc := 14) (t := t) (i := p) (j := q) (z := mE A t p q) ok (by first | exact h1 | omega) (rfl) ⟨Nat.le_of_ble_eq_true rfl, Nat.le_of_ble_eq_true rfl⟩ (Nat.le_of_ble_eq_true rfl) dX8_cross_14 ?_
  refine ga_i2l (pc := 17) dX8_cross_17 (by omega) ?_
  refine ga_lmul (pc := 18) dX8_cross_18 ?_
  refine ga_aload_n (pc := 19) dX8_cross_19 rfl ?_
  refine ga_iload_n (pc := 20) dX8_cross_20 rfl ?_
  refine ga_iload_n (pc := 21) dX8_cross_21 rfl ?_
  refine ga_iload (pc := 22) dX8_cross_22 rfl ?_
  refine k_X8_its (pc := 24) (t := t) (i := i) (j := q) (z := mE A t i q) ok (by first | exact h1 | omega) (rfl) ⟨Nat.le_of_ble_eq_true rfl, Nat.le_of_ble_eq_true rfl⟩ (Nat.le_of_ble_eq_true rfl) dX8_cross_24 ?_
  refine ga_i2l (pc := 27) dX8_cross_27 (by omega) ?_
  refine ga_aload_n (pc := 28) dX8_cross_28 rfl ?_
  refine ga_iload_n (pc := 29) dX8_cross_29 rfl ?_
  refine ga_iload_n (pc := 30) dX8_cross_30 rfl ?_
  refine ga_iload (pc := 31) dX8_cross_31 rfl ?_
  refine k_X8_its (pc := 33) (t := t) (i := p) (j := j) (z := mE A t p j) ok (by first | exact h1 | omega) (rfl) ⟨Nat.le_of_ble_eq_true rfl, Nat.le_of_ble_eq_true rfl⟩ (Nat.le_of_ble_eq_true rfl) dX8_cross_33 ?_
  refine ga_i2l (pc := 36) dX8_cross_36 (by omega) ?_
  refine ga_lmul (pc := 37) dX8_cross_37 ?_
  refine ga_lsub (pc := 38) dX8_cross_38 ?_
  exact mm_lret hE dX8_cross_39 (⟨_, rfl, by first | rfl | omega | ((repeat' split) <;> omega), rfl, rfl⟩)
theorem k_X8_cross {X : ga_X} {nL : Nat} {cc : ByteArray} {mo : Nat} {ad : Nat → Nat} {I : Nat → Int} {A : Nat → Int → Int} {d pc : Nat} {L : List (Option Value)} {st : List Value} {t i p j q : Int} {z : Int} (ok : mOk mo ad) (he : mEn A) (h1 : (0 ≤ t ∧ t ≤ 2) ∧ (0 ≤ i ∧ i ≤ 2) ∧ (0 ≤ p ∧ p ≤ 2) ∧ (0 ≤ j ∧ j ≤ 2) ∧ 0 ≤ q ∧ q ≤ 2) (hz : (mX A t i p j q) = z) (hR : 1 + 1 ≤ d ∧ 19 + 6 + 64 * 1 ≤ 64 * d) (hs : (st.map fun v => v.category).sum ≤ 8) (dd : decode cc pc = .ok (.invokevirtual 132, 3)) (kk : G X (gR d) RX8 nL cc (mH mo ad I A) 0 0 (pc + 3) L (.long (lI z) :: st)) : G X (gR d) RX8 nL cc (mH mo ad I A) 0 0 pc L (.int (iI q) :: .int (iI j) :: .int (iI p) :: .int (iI i) :: .int (iI t) :: .ref mo :: st) :=
  mm_run ok (m_X8_cross _ _ mo ad I A t i p j q he h1) (lw_V q1775 q1777 qs52 q113 q1778) rfl (show ga_nn' yX8_cross 5 from (by unfold ga_nn'; decide +kernel)) hR hs dd rfl (fun v I1 A1 hp => by
    obtain ⟨r, rfl, hp⟩ := hp
    obtain ⟨e1, rfl, rfl⟩ := hp
    subst hz
    rw [e1]
    exact kk)
set_option maxHeartbeats 4000000 in
set_option maxRecDepth 100000 in
theorem m_X8_detOf (l : Launch) (D : ga_G) (mo : Nat) (ad : Nat → Nat) (I : Nat → Int) (A : Nat → Int → Int) (t : Int) (hm : (1 ≤ I 3 ∧ I 3 ≤ 3) ∧ 1 ≤ I 4 ∧ I 4 ≤ 3) (he : mEn A) (h1 : 0 ≤ t ∧ t ≤ 2) : mM l D yX8_detOf (ws_ yX8_detOf cX8_detOf 3 (some .long)) (gR 2) [.int (iI t)] mo ad I A (mL (fun r I1 A1 => r = (mDet I A t) ∧ I1 = I ∧ A1 = A)) := by
  refine mm_met 1 rfl (Nat.le_of_ble_eq_true rfl) (L0 := [some (.ref mo), some (.int (iI t)), none]) rfl (fun X ok hE => ?_)
  have hr := mRows_r hm t
  have he0 : -50 ≤ mE A t 0 0 ∧ mE A t 0 0 ≤ 50 := he _
  have he1 : -50 ≤ mE A t 0 1 ∧ mE A t 0 1 ≤ 50 := he _
  have he2 : -50 ≤ mE A t 0 2 ∧ mE A t 0 2 ≤ 50 := he _
  refine ga_aload_n (pc := 0) dX8_detOf_0 rfl ?_
  refine ga_iload_n (pc := 1) dX8_detOf_1 rfl ?_
  refine k_X8_rowsOf (pc := 2) (t := t) (z := mRows I t) ok (by first | exact h1 | omega) (rfl) ⟨Nat.le_of_ble_eq_true rfl, Nat.le_of_ble_eq_true rfl⟩ (Nat.le_of_ble_eq_true rfl) dX8_detOf_2 ?_
  refine ga_istore_n (pc := 5) (L1 := [some (.ref mo), some (.int (iI t)), some (.int (iI (mRows I t)))]) dX8_detOf_5 rfl (by decide) rfl ?_
  refine ga_iload_n (pc := 6) dX8_detOf_6 rfl ?_
  refine ga_iconst (pc := 7) dX8_detOf_7 ?_
  refine ga_icmp_ne (pc := 8) (tgt := 20) dX8_detOf_8 rfl (by omega) (by omega) (fun c8 => ?_) (fun c8 => ?_)
  · skip
    refine ga_iload_n (pc := 20) dX8_detOf_20 rfl ?_
    refine ga_iconst (pc := 21) dX8_detOf_21 ?_
    refine ga_icmp_ne (pc := 22) (tgt := 35) dX8_detOf_22 rfl (by omega) (by omega) (fun c22 => ?_) (fun c22 => ?_)
    · skip
      refine ga_aload_n (pc := 35) dX8_detOf_35 rfl ?_
      refine ga_iload_n (pc := 36) dX8_detOf_36 rfl ?_
      refine ga_iconst (pc := 37) dX8_detOf_37 ?_
      refine ga_iconst (pc := 38) dX8_detOf_38 ?_
      refine k_X8_its (pc := 39) (t := t) (i := 0) (j := 0) (z := mE A t 0 0) ok (by first | exact h1 | omega) (rfl) ⟨Nat.le_of_ble_eq_true rfl, Nat.le_of_ble_eq_true rfl⟩ (Nat.le_of_ble_eq_true rfl) dX8_detOf_39 ?_
      refine ga_i2l (pc := 42) dX8_detOf_42 (by omega) ?_
      refine ga_aload_n (pc := 43) dX8_detOf_43 rfl ?_
      refine ga_iload_n (pc := 44) dX8_detOf_44 rfl ?_
      refine ga_iconst (pc := 45) dX8_detOf_45 ?_
      refine ga_iconst (pc := 46) dX8_detOf_46 ?_
      refine ga_iconst (pc := 47) dX8_detOf_47 ?_
      refine ga_iconst (pc := 48) dX8_detOf_48 ?_
      refine k_X8_cross (pc := 49) (t := t) (i := 1) (p := 2) (j := 1) (q := 2) (z := mX A t 1 2 1 2) ok (by first | exact he | omega) (by first | exact h1 | omega) (rfl) ⟨Nat.le_of_ble_eq_true rfl, Nat.le_of_ble_eq_true rfl⟩ (Nat.le_of_ble_eq_true rfl) dX8_detOf_49 ?_
      refine ga_lmul (pc := 52) dX8_detOf_52 ?_
      refine ga_aload_n (pc := 53) dX8_detOf_53 rfl ?_
      refine ga_iload_n (pc := 54) dX8_detOf_54 rfl ?_
      refine ga_iconst (pc := 55) dX8_detOf_55 ?_
      refine ga_iconst (pc := 56) dX8_detOf_56 ?_
      refine k_X8_its (pc := 57) (t := t) (i := 0) (j := 1) (z := mE A t 0 1) ok (by first | exact h1 | omega) (rfl) ⟨Nat.le_of_ble_eq_true rfl, Nat.le_of_ble_eq_true rfl⟩ (Nat.le_of_ble_eq_true rfl) dX8_detOf_57 ?_
      refine ga_i2l (pc := 60) dX8_detOf_60 (by omega) ?_
      refine ga_aload_n (pc := 61) dX8_detOf_61 rfl ?_
      refine ga_iload_n (pc := 62) dX8_detOf_62 rfl ?_
      refine ga_iconst (pc := 63) dX8_detOf_63 ?_
      refine ga_iconst (pc := 64) dX8_detOf_64 ?_
      refine ga_iconst (pc := 65) dX8_detOf_65 ?_
      refine ga_iconst (pc := 66) dX8_detOf_66 ?_
      refine k_X8_cross (pc := 67) (t := t) (i := 1) (p := 2) (j := 0) (q := 2) (z := mX A t 1 2 0 2) ok (by first | exact he | omega) (by first | exact h1 | omega) (rfl) ⟨Nat.le_of_ble_eq_true rfl, Nat.le_of_ble_eq_true rfl⟩ (Nat.le_of_ble_eq_true rfl) dX8_detOf_67 ?_
      refine ga_lmul (pc := 70) dX8_detOf_70 ?_
      refine ga_lsub (pc := 71) dX8_detOf_71 ?_
      refine ga_aload_n (pc := 72) dX8_detOf_72 rfl ?_
      refine ga_iload_n (pc := 73) dX8_detOf_73 rfl ?_
      refine ga_iconst (pc := 74) dX8_detOf_74 ?_
      refine ga_iconst (pc := 75) dX8_detOf_75 ?_
      refine k_X8_its (pc := 76) (t := t) (i := 0) (j := 2) (z := mE A t 0 2) ok (by first | exact h1 | omega) (rfl) ⟨Nat.le_of_ble_eq_true rfl, Nat.le_of_ble_eq_true rfl⟩ (Nat.le_of_ble_eq_true rfl) dX8_detOf_76 ?_
      refine ga_i2l (pc := 79) dX8_detOf_79 (by omega) ?_
      refine ga_aload_n (pc := 80) dX8_detOf_80 rfl ?_
      refine ga_iload_n (pc := 81) dX8_detOf_81 rfl ?_
      refine ga_iconst (pc := 82) dX8_detOf_82 ?_
      refine ga_iconst (pc := 83) dX8_detOf_83 ?_
      refine ga_iconst (pc := 84) dX8_detOf_84 ?_
      refine ga_iconst (pc := 85) dX8_detOf_85 ?_
      refine k_X8_cross (pc := 86) (t := t) (i := 1) (p := 2) (j := 0) (q := 1) (z := mX A t 1 2 0 1) ok (by first | exact he | omega) (by first | exact h1 | omega) (rfl) ⟨Nat.le_of_ble_eq_true rfl, Nat.le_of_ble_eq_true rfl⟩ (Nat.le_of_ble_eq_true rfl) dX8_detOf_86 ?_
      refine ga_lmul (pc := 89) dX8_detOf_89 ?_
      refine ga_ladd (pc := 90) dX8_detOf_90 ?_
      exact mm_lret hE dX8_detOf_91 (⟨_, rfl, by unfold mDet; first | (rw [if_pos (by omega)]) | (rw [if_neg (by omega), if_pos (by omega)]) | (rw [if_neg (by omega), if_neg (by omega)]), rfl, rfl⟩)
    · skip
      refine ga_aload_n (pc := 25) dX8_detOf_25 rfl ?_
      refine ga_iload_n (pc := 26) dX8_detOf_26 rfl ?_
      refine ga_iconst (pc := 27) dX8_detOf_27 ?_
      refine ga_iconst (pc := 28) dX8_detOf_28 ?_
      refine ga_iconst (pc := 29) dX8_detOf_29 ?_
      refine ga_iconst (pc := 30) dX8_detOf_30 ?_
      refine k_X8_cross (pc := 31) (t := t) (i := 0) (p := 1) (j := 0) (q := 1) (z := mX A t 0 1 0 1) ok (by first | exact he | omega) (by first | exact h1 | omega) (rfl) ⟨Nat.le_of_ble_eq_true rfl, Nat.le_of_ble_eq_true rfl⟩ (Nat.le_of_ble_eq_true rfl) dX8_detOf_31 ?_
      exact mm_lret hE dX8_detOf_34 (⟨_, rfl, by unfold mDet; first | (rw [if_pos (by omega)]) | (rw [if_neg (by omega), if_pos (by omega)]) | (rw [if_neg (by omega), if_neg (by omega)]), rfl, rfl⟩)
  · skip
    refine ga_aload_n (pc := 11) dX8_detOf_11 rfl ?_
    refine ga_iload_n (pc := 12) dX8_detOf_12 rfl ?_
    refine ga_iconst (pc := 13) dX8_detOf_13 ?_
    refine ga_iconst (pc := 14) dX8_detOf_14 ?_
    refine k_X8_its (pc := 15) (t := t) (i := 0) (j := 0) (z := mE A t 0 0) ok (by first | exact h1 | omega) (rfl) ⟨Nat.le_of_ble_eq_true rfl, Nat.le_of_ble_eq_true rfl⟩ (Nat.le_of_ble_eq_true rfl) dX8_detOf_15 ?_
    refine ga_i2l (pc := 18) dX8_detOf_18 (by omega) ?_
    exact mm_lret hE dX8_detOf_19 (⟨_, rfl, by unfold mDet; first | (rw [if_pos (by omega)]) | (rw [if_neg (by omega), if_pos (by omega)]) | (rw [if_neg (by omega), if_neg (by omega)]), rfl, rfl⟩)
theorem k_X8_detOf {X : ga_X} {nL : Nat} {cc : ByteArray} {mo : Nat} {ad : Nat → Nat} {I : Nat → Int} {A : Nat → Int → Int} {d pc : Nat} {L : List (Option Value)} {st : List Value} {t : Int} {z : Int} (ok : mOk mo ad) (hm : (1 ≤ I 3 ∧ I 3 ≤ 3) ∧ 1 ≤ I 4 ∧ I 4 ≤ 3) (he : mEn A) (h1 : 0 ≤ t ∧ t ≤ 2) (hz : (mDet I A t) = z) (hR : 2 + 1 ≤ d ∧ 19 + 3 + 64 * 2 ≤ 64 * d) (hs : (st.map fun v => v.category).sum ≤ 8) (dd : decode cc pc = .ok (.invokevirtual 136, 3)) (kk : G X (gR d) RX8 nL cc (mH mo ad I A) 0 0 (pc + 3) L (.long (lI z) :: st)) : G X (gR d) RX8 nL cc (mH mo ad I A) 0 0 pc L (.int (iI t) :: .ref mo :: st) :=
  mm_run ok (m_X8_detOf _ _ mo ad I A t hm he h1) (lw_V q1771 q1773 qs51 q113 q1774) rfl (show ga_nn' yX8_detOf 1 from (by unfold ga_nn'; decide +kernel)) hR hs dd rfl (fun v I1 A1 hp => by
    obtain ⟨r, rfl, hp⟩ := hp
    obtain ⟨e1, rfl, rfl⟩ := hp
    subst hz
    rw [e1]
    exact kk)
set_option maxHeartbeats 4000000 in
set_option maxRecDepth 100000 in
theorem m_X8_sumDown (l : Launch) (D : ga_G) (mo : Nat) (ad : Nat → Nat) (I : Nat → Int) (A : Nat → Int → Int) (t : Int) (hm : (1 ≤ I 3 ∧ I 3 ≤ 3) ∧ 1 ≤ I 4 ∧ I 4 ≤ 3) (he : mEn A) (h1 : 0 ≤ t ∧ t ≤ 2) : mM l D yX8_sumDown (ws_ yX8_sumDown cX8_sumDown 5 (some .long)) (gR 1) [.int (iI t)] mo ad I A (mL (fun r I1 A1 => r = (mTr I A t) ∧ I1 = I ∧ A1 = A)) := by
  refine mm_met 3 rfl (Nat.le_of_ble_eq_true rfl) (L0 := [some (.ref mo), some (.int (iI t)), none, none, none]) rfl (fun X ok hE => ?_)
  have hr := mRows_r hm t
  refine ga_lconst (pc := 0) 0 dX8_sumDown_0 rfl ?_
  refine ga_lstore_n (pc := 1) (L1 := [some (.ref mo), some (.int (iI t)), some (.long (lI 0)), none, none]) dX8_sumDown_1 rfl (by decide) rfl ?_
  refine ga_iconst (pc := 2) dX8_sumDown_2 ?_
  refine ga_istore (pc := 3) (L1 := [some (.ref mo), some (.int (iI t)), some (.long (lI 0)), none, some (.int (iI 0))]) dX8_sumDown_3 rfl (by decide) rfl ?_
  have lp5 : ∀ (N5 : Nat) (k v : Int), (0 ≤ k ∧ k ≤ mRows I t) → (v = zsum (fun x => mE A t x x) k.toNat) → (mRows I t - k).toNat < N5 → G X (gR 1) RX8 5 cX8_sumDown (mH mo ad I A) 0 0 5 [some (.ref mo), some (.int (iI t)), some (.long (lI v)), none, some (.int (iI k))] [] := by
    intro N5
    induction N5 with
    | zero => intro k v hk hv hN5; exact absurd hN5 (Nat.not_lt_zero _)
    | succ N5 ih5 =>
      intro k v hk hv hN5
      refine ga_iload (pc := 5) dX8_sumDown_5 rfl ?_
      refine ga_aload_n (pc := 7) dX8_sumDown_7 rfl ?_
      refine ga_iload_n (pc := 8) dX8_sumDown_8 rfl ?_
      refine k_X8_rowsOf (pc := 9) (t := t) (z := mRows I t) ok (by first | exact h1 | omega) (rfl) ⟨Nat.le_of_ble_eq_true rfl, Nat.le_of_ble_eq_true rfl⟩ (Nat.le_of_ble_eq_true rfl) dX8_sumDown_9 ?_
      refine ga_icmp_ge (pc := 12) (tgt := 34) dX8_sumDown_12 rfl (by omega) (by omega) (fun c12 => ?_) (fun c12 => ?_)
      · skip
        refine ga_lload_n (pc := 34) dX8_sumDown_34 rfl ?_
        exact mm_lret hE dX8_sumDown_35 (⟨_, rfl, by unfold mTr; rw [hv, show k = mRows I t by omega], rfl, rfl⟩)
      · skip
        have he0 : -50 ≤ mE A t k k ∧ mE A t k k ≤ 50 := he _
        refine ga_lload_n (pc := 15) dX8_sumDown_15 rfl ?_
        refine ga_aload_n (pc := 16) dX8_sumDown_16 rfl ?_
        refine ga_iload_n (pc := 17) dX8_sumDown_17 rfl ?_
        refine ga_iload (pc := 18) dX8_sumDown_18 rfl ?_
        refine ga_iload (pc := 20) dX8_sumDown_20 rfl ?_
        refine k_X8_its (pc := 22) (t := t) (i := k) (j := k) (z := mE A t k k) ok (by first | exact h1 | omega) (rfl) ⟨Nat.le_of_ble_eq_true rfl, Nat.le_of_ble_eq_true rfl⟩ (Nat.le_of_ble_eq_true rfl) dX8_sumDown_22 ?_
        refine ga_i2l (pc := 25) dX8_sumDown_25 (by omega) ?_
        refine ga_ladd (pc := 26) dX8_sumDown_26 ?_
        refine ga_lstore_n (pc := 27) (L1 := [some (.ref mo), some (.int (iI t)), some (.long (lI (v + (mE A t k k)))), none, some (.int (iI k))]) dX8_sumDown_27 rfl (by decide) rfl ?_
        refine ga_iinc (pc := 28) (L1 := [some (.ref mo), some (.int (iI t)), some (.long (lI (v + (mE A t k k)))), none, some (.int (iI (k + 1)))]) dX8_sumDown_28 rfl rfl (by decide) rfl ?_
        refine ga_goto (pc := 31) (tgt := 5) dX8_sumDown_31 rfl ?_
        exact ih5 (k + 1) (v + (mE A t k k)) (by omega) (by rw [zsum_s _ hk.1, hv]) (by omega)
  exact lp5 _ 0 0 (by omega) (rfl) (Nat.lt_succ_self _)
theorem k_X8_sumDown {X : ga_X} {nL : Nat} {cc : ByteArray} {mo : Nat} {ad : Nat → Nat} {I : Nat → Int} {A : Nat → Int → Int} {d pc : Nat} {L : List (Option Value)} {st : List Value} {t : Int} {z : Int} (ok : mOk mo ad) (hm : (1 ≤ I 3 ∧ I 3 ≤ 3) ∧ 1 ≤ I 4 ∧ I 4 ≤ 3) (he : mEn A) (h1 : 0 ≤ t ∧ t ≤ 2) (hz : (mTr I A t) = z) (hR : 1 + 1 ≤ d ∧ 19 + 5 + 64 * 1 ≤ 64 * d) (hs : (st.map fun v => v.category).sum ≤ 8) (dd : decode cc pc = .ok (.invokevirtual 143, 3)) (kk : G X (gR d) RX8 nL cc (mH mo ad I A) 0 0 (pc + 3) L (.long (lI z) :: st)) : G X (gR d) RX8 nL cc (mH mo ad I A) 0 0 pc L (.int (iI t) :: .ref mo :: st) :=
  mm_run ok (m_X8_sumDown _ _ mo ad I A t hm he h1) (lw_V q1787 q1789 qs53 q113 q1790) rfl (show ga_nn' yX8_sumDown 1 from (by unfold ga_nn'; decide +kernel)) hR hs dd rfl (fun v I1 A1 hp => by
    obtain ⟨r, rfl, hp⟩ := hp
    obtain ⟨e1, rfl, rfl⟩ := hp
    subst hz
    rw [e1]
    exact kk)
set_option maxHeartbeats 4000000 in
set_option maxRecDepth 100000 in
theorem m_X8_pairs (l : Launch) (D : ga_G) (mo : Nat) (ad : Nat → Nat) (I : Nat → Int) (A : Nat → Int → Int) (t : Int) (hm : (1 ≤ I 3 ∧ I 3 ≤ 3) ∧ 1 ≤ I 4 ∧ I 4 ≤ 3) (he : mEn A) (h1 : 0 ≤ t ∧ t ≤ 2) : mM l D yX8_pairs (ws_ yX8_pairs cX8_pairs 6 (some .long)) (gR 2) [.int (iI t)] mo ad I A (mL (fun r I1 A1 => r = (mPairs I A t) ∧ I1 = I ∧ A1 = A)) := by
  refine mm_met 4 rfl (Nat.le_of_ble_eq_true rfl) (L0 := [some (.ref mo), some (.int (iI t)), none, none, none, none]) rfl (fun X ok hE => ?_)
  have hr := mRows_r hm t
  refine ga_lconst (pc := 0) 0 dX8_pairs_0 rfl ?_
  refine ga_lstore_n (pc := 1) (L1 := [some (.ref mo), some (.int (iI t)), some (.long (lI 0)), none, none, none]) dX8_pairs_1 rfl (by decide) rfl ?_
  refine ga_iconst (pc := 2) dX8_pairs_2 ?_
  refine ga_istore (pc := 3) (L1 := [some (.ref mo), some (.int (iI t)), some (.long (lI 0)), none, some (.int (iI 0)), none]) dX8_pairs_3 rfl (by decide) rfl ?_
  have lp5 : ∀ (N5 : Nat) (i v : Int), (0 ≤ i ∧ i ≤ mRows I t) → (v = zsum (fun i => zsum (mPi I A t i) (mRows I t).toNat) i.toNat) → (mRows I t - i).toNat < N5 → G X (gR 2) RX8 6 cX8_pairs (mH mo ad I A) 0 0 5 [some (.ref mo), some (.int (iI t)), some (.long (lI v)), none, some (.int (iI i)), none] [] := by
    intro N5
    induction N5 with
    | zero => intro i v hi hv hN5; exact absurd hN5 (Nat.not_lt_zero _)
    | succ N5 ih5 =>
      intro i v hi hv hN5
      refine ga_iload (pc := 5) dX8_pairs_5 rfl ?_
      refine ga_aload_n (pc := 7) dX8_pairs_7 rfl ?_
      refine ga_iload_n (pc := 8) dX8_pairs_8 rfl ?_
      refine k_X8_rowsOf (pc := 9) (t := t) (z := mRows I t) ok (by first | exact h1 | omega) (rfl) ⟨Nat.le_of_ble_eq_true rfl, Nat.le_of_ble_eq_true rfl⟩ (Nat.le_of_ble_eq_true rfl) dX8_pairs_9 ?_
      refine ga_icmp_ge (pc := 12) (tgt := 59) dX8_pairs_12 rfl (by omega) (by omega) (fun c12 => ?_) (fun c12 => ?_)
      · skip
        refine ga_lload_n (pc := 59) dX8_pairs_59 rfl ?_
        exact mm_lret hE dX8_pairs_60 (⟨_, rfl, by unfold mPairs; rw [hv, show i = mRows I t by omega], rfl, rfl⟩)
      · skip
        refine ga_iload (pc := 15) dX8_pairs_15 rfl ?_
        refine ga_iconst (pc := 17) dX8_pairs_17 ?_
        refine ga_iadd (pc := 18) dX8_pairs_18 ?_
        refine ga_istore (pc := 19) (L1 := [some (.ref mo), some (.int (iI t)), some (.long (lI v)), none, some (.int (iI i)), some (.int (iI (i + 1)))]) dX8_pairs_19 rfl (by decide) rfl ?_
        have lp21 : ∀ (N21 : Nat) (j w : Int), (i < j ∧ j ≤ mRows I t) → (w = v + zsum (mPi I A t i) j.toNat) → (mRows I t - j).toNat < N21 → G X (gR 2) RX8 6 cX8_pairs (mH mo ad I A) 0 0 21 [some (.ref mo), some (.int (iI t)), some (.long (lI w)), none, some (.int (iI i)), some (.int (iI j))] [] := by
          intro N21
          induction N21 with
          | zero => intro j w hj hw hN21; exact absurd hN21 (Nat.not_lt_zero _)
          | succ N21 ih21 =>
            intro j w hj hw hN21
            refine ga_iload (pc := 21) dX8_pairs_21 rfl ?_
            refine ga_aload_n (pc := 23) dX8_pairs_23 rfl ?_
            refine ga_iload_n (pc := 24) dX8_pairs_24 rfl ?_
            refine k_X8_rowsOf (pc := 25) (t := t) (z := mRows I t) ok (by first | exact h1 | omega) (rfl) ⟨Nat.le_of_ble_eq_true rfl, Nat.le_of_ble_eq_true rfl⟩ (Nat.le_of_ble_eq_true rfl) dX8_pairs_25 ?_
            refine ga_icmp_ge (pc := 28) (tgt := 53) dX8_pairs_28 rfl (by omega) (by omega) (fun c28 => ?_) (fun c28 => ?_)
            · skip
              refine ga_iinc (pc := 53) (L1 := [some (.ref mo), some (.int (iI t)), some (.long (lI w)), none, some (.int (iI (i + 1))), some (.int (iI j))]) dX8_pairs_53 rfl rfl (by decide) rfl ?_
              refine ga_goto (pc := 56) (tgt := 5) dX8_pairs_56 rfl ?_
              refine ga_kill (pc := 5) 5 (L1 := [some (.ref mo), some (.int (iI t)), some (.long (lI w)), none, some (.int (iI (i + 1))), none]) rfl ?_
              exact ih5 (i + 1) w (by omega) (by rw [zsum_s _ hi.1, ← hv, hw, show j = mRows I t by omega]) (by omega)
            · skip
              refine ga_lload_n (pc := 31) dX8_pairs_31 rfl ?_
              refine ga_aload_n (pc := 32) dX8_pairs_32 rfl ?_
              refine ga_iload_n (pc := 33) dX8_pairs_33 rfl ?_
              refine ga_iload (pc := 34) dX8_pairs_34 rfl ?_
              refine ga_iload (pc := 36) dX8_pairs_36 rfl ?_
              refine ga_iload (pc := 38) dX8_pairs_38 rfl ?_
              refine ga_iload (pc := 40) dX8_pairs_40 rfl ?_
              refine k_X8_cross (pc := 42) (t := t) (i := i) (p := j) (j := i) (q := j) (z := mX A t i j i j) ok (by first | exact he | omega) (by first | exact h1 | omega) (rfl) ⟨Nat.le_of_ble_eq_true rfl, Nat.le_of_ble_eq_true rfl⟩ (Nat.le_of_ble_eq_true rfl) dX8_pairs_42 ?_
              refine ga_ladd (pc := 45) dX8_pairs_45 ?_
              refine ga_lstore_n (pc := 46) (L1 := [some (.ref mo), some (.int (iI t)), some (.long (lI (w + (mX A t i j i j)))), none, some (.int (iI i)), some (.int (iI j))]) dX8_pairs_46 rfl (by decide) rfl ?_
              refine ga_iinc (pc := 47) (L1 := [some (.ref mo), some (.int (iI t)), some (.long (lI (w + (mX A t i j i j)))), none, some (.int (iI i)), some (.int (iI (j + 1)))]) dX8_pairs_47 rfl rfl (by decide) rfl ?_
              refine ga_goto (pc := 50) (tgt := 21) dX8_pairs_50 rfl ?_
              exact ih21 (j + 1) (w + (mX A t i j i j)) (by omega) (by rw [zsum_s _ (by omega), hw]; unfold mPi; rw [if_pos (by omega)]; omega) (by omega)
        exact lp21 _ (i + 1) v (by omega) (by rw [mPi_0 I A t hi.1]; omega) (Nat.lt_succ_self _)
  exact lp5 _ 0 0 (by omega) (rfl) (Nat.lt_succ_self _)
theorem k_X8_pairs {X : ga_X} {nL : Nat} {cc : ByteArray} {mo : Nat} {ad : Nat → Nat} {I : Nat → Int} {A : Nat → Int → Int} {d pc : Nat} {L : List (Option Value)} {st : List Value} {t : Int} {z : Int} (ok : mOk mo ad) (hm : (1 ≤ I 3 ∧ I 3 ≤ 3) ∧ 1 ≤ I 4 ∧ I 4 ≤ 3) (he : mEn A) (h1 : 0 ≤ t ∧ t ≤ 2) (hz : (mPairs I A t) = z) (hR : 2 + 1 ≤ d ∧ 19 + 6 + 64 * 2 ≤ 64 * d) (hs : (st.map fun v => v.category).sum ≤ 8) (dd : decode cc pc = .ok (.invokevirtual 146, 3)) (kk : G X (gR d) RX8 nL cc (mH mo ad I A) 0 0 (pc + 3) L (.long (lI z) :: st)) : G X (gR d) RX8 nL cc (mH mo ad I A) 0 0 pc L (.int (iI t) :: .ref mo :: st) :=
  mm_run ok (m_X8_pairs _ _ mo ad I A t hm he h1) (lw_V q1795 q1797 qs54 q113 q1798) rfl (show ga_nn' yX8_pairs 1 from (by unfold ga_nn'; decide +kernel)) hR hs dd rfl (fun v I1 A1 hp => by
    obtain ⟨r, rfl, hp⟩ := hp
    obtain ⟨e1, rfl, rfl⟩ := hp
    subst hz
    rw [e1]
    exact kk)
set_option maxHeartbeats 4000000 in
set_option maxRecDepth 100000 in
theorem m_X8_det (l : Launch) (D : ga_G) (mo : Nat) (ad : Nat → Nat) (I : Nat → Int) (A : Nat → Int → Int) (t : Int) (hm : (1 ≤ I 3 ∧ I 3 ≤ 3) ∧ 1 ≤ I 4 ∧ I 4 ≤ 3) (he : mEn A) (h1 : (-2147483648 ≤ t ∧ t < 2147483648)) : mM l D yX8_det (ws_ yX8_det cX8_det 2 (some .long)) (gR 3) [.int (iI t)] mo ad I A (mL (fun r I1 A1 => r = (if 0 ≤ t ∧ t ≤ 1 then mDet I A t else -4000000000000000001) ∧ I1 = I ∧ A1 = A)) := by
  refine mm_met 0 rfl (Nat.le_of_ble_eq_true rfl) (L0 := [some (.ref mo), some (.int (iI t))]) rfl (fun X ok hE => ?_)
  refine ga_iload_n (pc := 0) dX8_det_0 rfl ?_
  refine ga_i2l (pc := 1) dX8_det_1 (by omega) ?_
  refine ga_lconst (pc := 2) 0 dX8_det_2 rfl ?_
  refine ga_lconst (pc := 3) 1 dX8_det_3 rfl ?_
  refine k_X8_in (pc := 4) (a := t) (b := 0) (c := 1) (by omega) (rfl) ⟨Nat.le_of_ble_eq_true rfl, Nat.le_of_ble_eq_true rfl⟩ ⟨Nat.le_of_ble_eq_true rfl, Nat.le_of_ble_eq_true rfl⟩ (Nat.le_of_ble_eq_true rfl) dX8_det_4 ?_
  refine ga_ifb_eq (pc := 7) (tgt := 18) dX8_det_7 rfl (fun c7 => ?_) (fun c7 => ?_)
  · skip
    refine ga_iconst (pc := 18) dX8_det_18 ?_
    refine k_X8_told (pc := 19) (a := (-1)) (by omega) (rfl) ⟨Nat.le_of_ble_eq_true rfl, Nat.le_of_ble_eq_true rfl⟩ ⟨Nat.le_of_ble_eq_true rfl, Nat.le_of_ble_eq_true rfl⟩ (Nat.le_of_ble_eq_true rfl) dX8_det_19 ?_
    exact mm_lret hE dX8_det_22 (⟨_, rfl, by first | rfl | omega | ((repeat' split) <;> omega), rfl, rfl⟩)
  · skip
    refine ga_aload_n (pc := 10) dX8_det_10 rfl ?_
    refine ga_iload_n (pc := 11) dX8_det_11 rfl ?_
    refine k_X8_detOf (pc := 12) (t := t) (z := mDet I A t) ok (by first | exact hm | omega) (by first | exact he | omega) (by first | exact h1 | omega) (rfl) ⟨Nat.le_of_ble_eq_true rfl, Nat.le_of_ble_eq_true rfl⟩ (Nat.le_of_ble_eq_true rfl) dX8_det_12 ?_
    refine ga_goto (pc := 15) (tgt := 22) dX8_det_15 rfl ?_
    exact mm_lret hE dX8_det_22 (⟨_, rfl, by first | rfl | omega | ((repeat' split) <;> omega), rfl, rfl⟩)
set_option maxHeartbeats 4000000 in
set_option maxRecDepth 100000 in
theorem m_X8_diagonal (l : Launch) (D : ga_G) (mo : Nat) (ad : Nat → Nat) (I : Nat → Int) (A : Nat → Int → Int) (t : Int) (hm : (1 ≤ I 3 ∧ I 3 ≤ 3) ∧ 1 ≤ I 4 ∧ I 4 ≤ 3) (he : mEn A) (h1 : (-2147483648 ≤ t ∧ t < 2147483648)) : mM l D yX8_diagonal (ws_ yX8_diagonal cX8_diagonal 2 (some .long)) (gR 2) [.int (iI t)] mo ad I A (mL (fun r I1 A1 => r = (if 0 ≤ t ∧ t ≤ 2 then (if t = 2 ∧ I 3 ≠ I 4 then -4000000000000000004 else mTr I A t) else -4000000000000000001) ∧ I1 = I ∧ A1 = A)) := by
  refine mm_met 0 rfl (Nat.le_of_ble_eq_true rfl) (L0 := [some (.ref mo), some (.int (iI t))]) rfl (fun X ok hE => ?_)
  refine ga_iload_n (pc := 0) dX8_diagonal_0 rfl ?_
  refine ga_i2l (pc := 1) dX8_diagonal_1 (by omega) ?_
  refine ga_lconst (pc := 2) 0 dX8_diagonal_2 rfl ?_
  refine ga_ldc2 (pc := 3) (2) dX8_diagonal_3 q1743 rfl ?_
  refine k_X8_in (pc := 6) (a := t) (b := 0) (c := (2)) (by omega) (rfl) ⟨Nat.le_of_ble_eq_true rfl, Nat.le_of_ble_eq_true rfl⟩ ⟨Nat.le_of_ble_eq_true rfl, Nat.le_of_ble_eq_true rfl⟩ (Nat.le_of_ble_eq_true rfl) dX8_diagonal_6 ?_
  refine ga_ifb_ne (pc := 9) (tgt := 17) dX8_diagonal_9 rfl (fun c9 => ?_) (fun c9 => ?_)
  · skip
    refine ga_iload_n (pc := 17) dX8_diagonal_17 rfl ?_
    refine ga_iconst (pc := 18) dX8_diagonal_18 ?_
    refine ga_icmp_ne (pc := 19) (tgt := 41) dX8_diagonal_19 rfl (by omega) (by omega) (fun c19 => ?_) (fun c19 => ?_)
    · skip
      refine ga_aload_n (pc := 41) dX8_diagonal_41 rfl ?_
      refine ga_iload_n (pc := 42) dX8_diagonal_42 rfl ?_
      refine k_X8_sumDown (pc := 43) (t := t) (z := mTr I A t) ok (by first | exact hm | omega) (by first | exact he | omega) (by first | exact h1 | omega) (rfl) ⟨Nat.le_of_ble_eq_true rfl, Nat.le_of_ble_eq_true rfl⟩ (Nat.le_of_ble_eq_true rfl) dX8_diagonal_43 ?_
      exact mm_lret hE dX8_diagonal_46 (⟨_, rfl, by first | rfl | omega | ((repeat' split) <;> omega), rfl, rfl⟩)
    · skip
      refine ga_aload_n (pc := 22) dX8_diagonal_22 rfl ?_
      refine mm_g3 (pc := 23) (z := I 3) rfl dX8_diagonal_23 ?_
      refine ga_aload_n (pc := 26) dX8_diagonal_26 rfl ?_
      refine mm_g4 (pc := 27) (z := I 4) rfl dX8_diagonal_27 ?_
      refine ga_icmp_eq (pc := 30) (tgt := 41) dX8_diagonal_30 rfl (by omega) (by omega) (fun c30 => ?_) (fun c30 => ?_)
      · skip
        refine ga_aload_n (pc := 41) dX8_diagonal_41 rfl ?_
        refine ga_iload_n (pc := 42) dX8_diagonal_42 rfl ?_
        refine k_X8_sumDown (pc := 43) (t := t) (z := mTr I A t) ok (by first | exact hm | omega) (by first | exact he | omega) (by first | exact h1 | omega) (rfl) ⟨Nat.le_of_ble_eq_true rfl, Nat.le_of_ble_eq_true rfl⟩ (Nat.le_of_ble_eq_true rfl) dX8_diagonal_43 ?_
        exact mm_lret hE dX8_diagonal_46 (⟨_, rfl, by first | rfl | omega | ((repeat' split) <;> omega), rfl, rfl⟩)
      · skip
        refine ga_bipush (pc := 33) dX8_diagonal_33 rfl ?_
        refine k_X8_told (pc := 35) (a := (-4)) (by omega) (rfl) ⟨Nat.le_of_ble_eq_true rfl, Nat.le_of_ble_eq_true rfl⟩ ⟨Nat.le_of_ble_eq_true rfl, Nat.le_of_ble_eq_true rfl⟩ (Nat.le_of_ble_eq_true rfl) dX8_diagonal_35 ?_
        refine ga_goto (pc := 38) (tgt := 46) dX8_diagonal_38 rfl ?_
        exact mm_lret hE dX8_diagonal_46 (⟨_, rfl, by first | rfl | omega | ((repeat' split) <;> omega), rfl, rfl⟩)
  · skip
    refine ga_iconst (pc := 12) dX8_diagonal_12 ?_
    refine k_X8_told (pc := 13) (a := (-1)) (by omega) (rfl) ⟨Nat.le_of_ble_eq_true rfl, Nat.le_of_ble_eq_true rfl⟩ ⟨Nat.le_of_ble_eq_true rfl, Nat.le_of_ble_eq_true rfl⟩ (Nat.le_of_ble_eq_true rfl) dX8_diagonal_13 ?_
    exact mm_lret hE dX8_diagonal_16 (⟨_, rfl, by first | rfl | omega | ((repeat' split) <;> omega), rfl, rfl⟩)
set_option maxHeartbeats 4000000 in
set_option maxRecDepth 100000 in
theorem m_X8_character (l : Launch) (D : ga_G) (mo : Nat) (ad : Nat → Nat) (I : Nat → Int) (A : Nat → Int → Int) (t k : Int) (hm : (1 ≤ I 3 ∧ I 3 ≤ 3) ∧ 1 ≤ I 4 ∧ I 4 ≤ 3) (he : mEn A) (h1 : (-2147483648 ≤ t ∧ t < 2147483648) ∧ (-2147483648 ≤ k ∧ k < 2147483648)) : mM l D yX8_character (ws_ yX8_character cX8_character 4 (some .long)) (gR 3) [.int (iI t), .int (iI k)] mo ad I A (mL (fun r I1 A1 => r = (mChar I A t k) ∧ I1 = I ∧ A1 = A)) := by
  refine mm_met 1 rfl (Nat.le_of_ble_eq_true rfl) (L0 := [some (.ref mo), some (.int (iI t)), some (.int (iI k)), none]) rfl (fun X ok hE => ?_)
  have hr := mRows_r hm t
  refine ga_iload_n (pc := 0) dX8_character_0 rfl ?_
  refine ga_i2l (pc := 1) dX8_character_1 (by omega) ?_
  refine ga_lconst (pc := 2) 0 dX8_character_2 rfl ?_
  refine ga_lconst (pc := 3) 1 dX8_character_3 rfl ?_
  refine k_X8_in (pc := 4) (a := t) (b := 0) (c := 1) (by omega) (rfl) ⟨Nat.le_of_ble_eq_true rfl, Nat.le_of_ble_eq_true rfl⟩ ⟨Nat.le_of_ble_eq_true rfl, Nat.le_of_ble_eq_true rfl⟩ (Nat.le_of_ble_eq_true rfl) dX8_character_4 ?_
  refine ga_ifb_eq (pc := 7) (tgt := 25) dX8_character_7 rfl (fun c7 => ?_) (fun c7 => ?_)
  · skip
    refine ga_iconst (pc := 25) dX8_character_25 ?_
    refine k_X8_told (pc := 26) (a := (-1)) (by omega) (rfl) ⟨Nat.le_of_ble_eq_true rfl, Nat.le_of_ble_eq_true rfl⟩ ⟨Nat.le_of_ble_eq_true rfl, Nat.le_of_ble_eq_true rfl⟩ (Nat.le_of_ble_eq_true rfl) dX8_character_26 ?_
    exact mm_lret hE dX8_character_29 (⟨_, rfl, by unfold mChar; (repeat' split) <;> omega, rfl, rfl⟩)
  · skip
    refine ga_iload_n (pc := 10) dX8_character_10 rfl ?_
    refine ga_i2l (pc := 11) dX8_character_11 (by omega) ?_
    refine ga_lconst (pc := 12) 0 dX8_character_12 rfl ?_
    refine ga_aload_n (pc := 13) dX8_character_13 rfl ?_
    refine ga_iload_n (pc := 14) dX8_character_14 rfl ?_
    refine k_X8_rowsOf (pc := 15) (t := t) (z := mRows I t) ok (by first | exact h1 | omega) (rfl) ⟨Nat.le_of_ble_eq_true rfl, Nat.le_of_ble_eq_true rfl⟩ (Nat.le_of_ble_eq_true rfl) dX8_character_15 ?_
    refine ga_i2l (pc := 18) dX8_character_18 (by omega) ?_
    refine k_X8_in (pc := 19) (a := k) (b := 0) (c := (mRows I t)) (by omega) (rfl) ⟨Nat.le_of_ble_eq_true rfl, Nat.le_of_ble_eq_true rfl⟩ ⟨Nat.le_of_ble_eq_true rfl, Nat.le_of_ble_eq_true rfl⟩ (Nat.le_of_ble_eq_true rfl) dX8_character_19 ?_
    refine ga_ifb_ne (pc := 22) (tgt := 30) dX8_character_22 rfl (fun c22 => ?_) (fun c22 => ?_)
    · skip
      refine ga_aload_n (pc := 30) dX8_character_30 rfl ?_
      refine ga_iload_n (pc := 31) dX8_character_31 rfl ?_
      refine k_X8_rowsOf (pc := 32) (t := t) (z := mRows I t) ok (by first | exact h1 | omega) (rfl) ⟨Nat.le_of_ble_eq_true rfl, Nat.le_of_ble_eq_true rfl⟩ (Nat.le_of_ble_eq_true rfl) dX8_character_32 ?_
      refine ga_iload_n (pc := 35) dX8_character_35 rfl ?_
      refine ga_isub (pc := 36) dX8_character_36 ?_
      refine ga_istore_n (pc := 37) (L1 := [some (.ref mo), some (.int (iI t)), some (.int (iI k)), some (.int (iI ((mRows I t) - k)))]) dX8_character_37 rfl (by decide) rfl ?_
      refine ga_iload_n (pc := 38) dX8_character_38 rfl ?_
      refine ga_if_ne (pc := 39) (tgt := 63) dX8_character_39 rfl (by omega) (fun c39 => ?_) (fun c39 => ?_)
      · skip
        refine ga_iload_n (pc := 63) dX8_character_63 rfl ?_
        refine ga_if_ne (pc := 64) (tgt := 71) dX8_character_64 rfl (by omega) (fun c64 => ?_) (fun c64 => ?_)
        · skip
          refine ga_iload_n (pc := 71) dX8_character_71 rfl ?_
          refine ga_iconst (pc := 72) dX8_character_72 ?_
          refine ga_icmp_ne (pc := 73) (tgt := 85) dX8_character_73 rfl (by omega) (by omega) (fun c73 => ?_) (fun c73 => ?_)
          · skip
            refine ga_aload_n (pc := 85) dX8_character_85 rfl ?_
            refine ga_iload_n (pc := 86) dX8_character_86 rfl ?_
            refine k_X8_pairs (pc := 87) (t := t) (z := mPairs I A t) ok (by first | exact hm | omega) (by first | exact he | omega) (by first | exact h1 | omega) (rfl) ⟨Nat.le_of_ble_eq_true rfl, Nat.le_of_ble_eq_true rfl⟩ (Nat.le_of_ble_eq_true rfl) dX8_character_87 ?_
            exact mm_lret hE dX8_character_90 (⟨_, rfl, by unfold mChar; (repeat' split) <;> omega, rfl, rfl⟩)
          · skip
            refine ga_aload_n (pc := 76) dX8_character_76 rfl ?_
            refine ga_iload_n (pc := 77) dX8_character_77 rfl ?_
            refine k_X8_sumDown (pc := 78) (t := t) (z := mTr I A t) ok (by first | exact hm | omega) (by first | exact he | omega) (by first | exact h1 | omega) (rfl) ⟨Nat.le_of_ble_eq_true rfl, Nat.le_of_ble_eq_true rfl⟩ (Nat.le_of_ble_eq_true rfl) dX8_character_78 ?_
            refine ga_lneg (pc := 81) dX8_character_81 ?_
            refine ga_goto (pc := 82) (tgt := 90) dX8_character_82 rfl ?_
            exact mm_lret hE dX8_character_90 (⟨_, rfl, by unfold mChar; (repeat' split) <;> omega, rfl, rfl⟩)
        · skip
          refine ga_lconst (pc := 67) 1 dX8_character_67 rfl ?_
          refine ga_goto (pc := 68) (tgt := 90) dX8_character_68 rfl ?_
          exact mm_lret hE dX8_character_90 (⟨_, rfl, by unfold mChar; (repeat' split) <;> omega, rfl, rfl⟩)
      · skip
        refine ga_iload_n (pc := 42) dX8_character_42 rfl ?_
        refine ga_iconst (pc := 43) dX8_character_43 ?_
        refine ga_irem (pc := 44) dX8_character_44 (by omega) (by omega) (by omega) ?_
        have ht2 : -2 < (mRows I t - k).tmod 2 ∧ (mRows I t - k).tmod 2 < 2 := ⟨by have := Int.lt_tmod_of_pos (mRows I t - k) (show (0:Int) < 2 by decide); omega, Int.tmod_lt_of_pos _ (by decide)⟩
        refine ga_if_ne (pc := 45) (tgt := 56) dX8_character_45 rfl (by omega) (fun c45 => ?_) (fun c45 => ?_)
        · skip
          refine ga_aload_n (pc := 56) dX8_character_56 rfl ?_
          refine ga_iload_n (pc := 57) dX8_character_57 rfl ?_
          refine k_X8_detOf (pc := 58) (t := t) (z := mDet I A t) ok (by first | exact hm | omega) (by first | exact he | omega) (by first | exact h1 | omega) (rfl) ⟨Nat.le_of_ble_eq_true rfl, Nat.le_of_ble_eq_true rfl⟩ (Nat.le_of_ble_eq_true rfl) dX8_character_58 ?_
          refine ga_lneg (pc := 61) dX8_character_61 ?_
          exact mm_lret hE dX8_character_62 (⟨_, rfl, by unfold mChar; (repeat' split) <;> omega, rfl, rfl⟩)
        · skip
          refine ga_aload_n (pc := 48) dX8_character_48 rfl ?_
          refine ga_iload_n (pc := 49) dX8_character_49 rfl ?_
          refine k_X8_detOf (pc := 50) (t := t) (z := mDet I A t) ok (by first | exact hm | omega) (by first | exact he | omega) (by first | exact h1 | omega) (rfl) ⟨Nat.le_of_ble_eq_true rfl, Nat.le_of_ble_eq_true rfl⟩ (Nat.le_of_ble_eq_true rfl) dX8_character_50 ?_
          refine ga_goto (pc := 53) (tgt := 62) dX8_character_53 rfl ?_
          exact mm_lret hE dX8_character_62 (⟨_, rfl, by unfold mChar; (repeat' split) <;> omega, rfl, rfl⟩)
    · skip
      refine ga_iconst (pc := 25) dX8_character_25 ?_
      refine k_X8_told (pc := 26) (a := (-1)) (by omega) (rfl) ⟨Nat.le_of_ble_eq_true rfl, Nat.le_of_ble_eq_true rfl⟩ ⟨Nat.le_of_ble_eq_true rfl, Nat.le_of_ble_eq_true rfl⟩ (Nat.le_of_ble_eq_true rfl) dX8_character_26 ?_
      exact mm_lret hE dX8_character_29 (⟨_, rfl, by unfold mChar; (repeat' split) <;> omega, rfl, rfl⟩)
