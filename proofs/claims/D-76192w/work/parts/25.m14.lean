/-! THE REFERENCE: the witness asked; blocks, determinants, stable ones -/
def mWf (E : Nat → Int → Int) (m n : Int) (S : eS) : Int := zFind (fun p _ => mLf E m n S p) (m * n) 0 (m * n - 0).toNat 0
abbrev mRk (I : Nat → Int) (A : Nat → Int → Int) (e : Int) : eS := zRu (I 3) (I 4) A (A 11 e) (A 12 e)
def mWit (I : Nat → Int) (A : Nat → Int → Int) (e i j part : Int) : Int := if mPrt I e i j part then (if zFit (I 3) (I 4) (A 11 e) then (if mWf A (I 3) (I 4) (mRk I A e) = I 3 * I 4 then -4000000000000000003 else zPart (if I 4 * i + j = mWf A (I 3) (I 4) (mRk I A e) then (mRk I A e).2.2.2.1 else if (mRk I A e).2.2.2.2 (I 4 * i + j) < 0 then 0 else -(mRk I A e).1 ((mRk I A e).2.2.2.2 (I 4 * i + j)) (mWf A (I 3) (I 4) (mRk I A e))) (mLf A (I 3) (I 4) (mRk I A e) (mWf A (I 3) (I 4) (mRk I A e))) part) else -4000000000000000004) else -4000000000000000001
theorem tPl_0 (n : Int) (f : Int → Int) : ∀ k : Nat, (tPl 0 n f k).1 = k := by
  intro k
  induction k with
  | zero => rfl
  | succ k ih =>
    have e1 : tPl 0 n f (k + 1) = ((tPl 0 n f k).1 + 1, uZ (tPl 0 n f k).2 (tPl 0 n f k).1 k) := if_pos (by omega)
    rw [e1, ih]
    rfl
theorem tCnt_0 {m n : Int} (h : 0 ≤ m * n) : tCnt 0 m n = m * n := by
  unfold tCnt
  rw [tPl_0]
  omega
theorem zW_6 {m n s : Int} (h : (1 ≤ m ∧ m ≤ 3) ∧ 1 ≤ n ∧ n ≤ 3) (hs : 1 ≤ s ∧ s < m) : zW 0 m n s = m * n - s * n ∧ 1 ≤ m * n - s * n ∧ m * n - s * n ≤ 6 ∧ 1 ≤ s * n := by
  have hmn := mn_r h
  unfold zW
  rw [if_neg (by omega), tCnt_0 (by omega)]
  obtain ⟨⟨h1, h2⟩, h3, h4⟩ := h
  rcases (by omega : m = 2 ∨ m = 3) with rfl | rfl <;> rcases (by omega : n = 1 ∨ n = 2 ∨ n = 3) with rfl | rfl | rfl <;> omega
theorem ij_r {m n i j : Int} (h : (1 ≤ m ∧ m ≤ 3) ∧ 1 ≤ n ∧ n ≤ 3) (hi : 0 ≤ i ∧ i < m) (hj : 0 ≤ j ∧ j < n) : (0 ≤ n * i + j ∧ n * i + j < m * n) ∧ (n * i + j).tdiv n = i ∧ (n * i + j).tmod n = j := by
  have h0 : 0 ≤ n * i + j := by
    have := Int.mul_nonneg (show 0 ≤ n by omega) hi.1
    omega
  rw [Int.tdiv_eq_ediv_of_nonneg h0, Int.tmod_eq_emod_of_nonneg h0]
  obtain ⟨⟨h1, h2⟩, h3, h4⟩ := h
  rcases (by omega : m = 1 ∨ m = 2 ∨ m = 3) with rfl | rfl | rfl <;> rcases (by omega : n = 1 ∨ n = 2 ∨ n = 3) with rfl | rfl | rfl <;> omega
abbrev mSml (I : Nat → Int) (A : Nat → Int → Int) (e : Int) : Prop := zLike (I 3) (I 4) (A 11 e) ∧ I 3 * I 4 ≤ 6
abbrev mK0 (I : Nat → Int) (A : Nat → Int → Int) (e s : Int) : eS := zSy (I 3) (I 4) A (A 11 e) 0 (A 12 e) s
def mSim (I : Nat → Int) (A : Nat → Int → Int) (e : Int) : Int := if 0 ≤ e ∧ e < I 5 then (if mSml I A e then eSlv (zH (I 3) (I 4) 0) (zW 0 (I 3) (I 4) 0) (mK0 I A e 0) else -4) else -1
def mWho (I : Nat → Int) (A : Nat → Int → Int) (e : Int) : Int := if 0 ≤ e ∧ e < I 5 then (if mSml I A e then (if (mK0 I A e 0).2.1 < I 3 * I 4 then 0 else if (mK0 I A e 0).2.2.1.tmod 2 = 1 then -(mK0 I A e 0).2.2.2.1 else (mK0 I A e 0).2.2.2.1) else -4000000000000000004) else -4000000000000000001
abbrev zSpl (A : Nat → Int → Int) (m s : Int) : Prop := (s = 1 ∧ mE A 0 1 0 = 0 ∧ (m ≤ 2 ∨ mE A 0 2 0 = 0)) ∨ (s = 2 ∧ (m ≤ 2 ∨ (mE A 0 2 0 = 0 ∧ mE A 0 2 1 = 0)))
theorem zSpl_t {A : Nat → Int → Int} {m s : Int} (hs : 1 ≤ s ∧ s < m ∧ m ≤ 3) (h : ∀ i j : Int, s ≤ i → i < m → 0 ≤ j → j < s → mE A 0 i j = 0) : zSpl A m s := by
  rcases (by omega : s = 1 ∨ s = 2) with rfl | rfl
  · refine Or.inl ⟨rfl, h 1 0 (by omega) (by omega) (by omega) (by omega), ?_⟩
    by_cases e : m ≤ 2
    · exact Or.inl e
    · exact Or.inr (h 2 0 (by omega) (by omega) (by omega) (by omega))
  · exact Or.inr ⟨rfl, Or.inr ⟨h 2 0 (by omega) (by omega) (by omega) (by omega), h 2 1 (by omega) (by omega) (by omega) (by omega)⟩⟩
theorem zSpl_f {A : Nat → Int → Int} {m s i j : Int} (hs : 1 ≤ s ∧ s < m ∧ m ≤ 3) (h : (s ≤ i ∧ i < m) ∧ 0 ≤ j ∧ j < s) (hn : mE A 0 i j ≠ 0) : ¬ zSpl A m s := by
  rcases (by omega : s = 1 ∨ s = 2) with rfl | rfl
  · rcases (by omega : (i = 1 ∧ j = 0) ∨ (i = 2 ∧ j = 0)) with ⟨rfl, rfl⟩ | ⟨rfl, rfl⟩ <;> omega
  · rcases (by omega : (i = 2 ∧ j = 0) ∨ (i = 2 ∧ j = 1)) with ⟨rfl, rfl⟩ | ⟨rfl, rfl⟩ <;> omega
def mLow (I : Nat → Int) (A : Nat → Int → Int) (e s : Int) : Int := if (0 ≤ e ∧ e < I 5) ∧ 1 ≤ s ∧ s ≤ 2 then (if s < I 3 ∧ zSpl A (I 3) s ∧ zLike (I 3) (I 4) (A 11 e) then eSlv (zH (I 3) (I 4) s) (zW 0 (I 3) (I 4) s) (mK0 I A e s) else -4) else -1
theorem zm_r {x y a b : Int} (hx : -a ≤ x ∧ x ≤ a) (hy : -b ≤ y ∧ y ≤ b) : -(a * b) ≤ x * y ∧ x * y ≤ a * b := by
  have h1 : x.natAbs * y.natAbs ≤ a.toNat * b.toNat := Nat.mul_le_mul (by omega) (by omega)
  have h2 : ((a.toNat * b.toNat : Nat) : Int) = a * b := by rw [Int.natCast_mul, show ((a.toNat : Nat) : Int) = a by omega, show ((b.toNat : Nat) : Int) = b by omega]
  have h3 : (x * y).natAbs = x.natAbs * y.natAbs := Int.natAbs_mul x y
  omega
theorem mX_r {A : Nat → Int → Int} (h : tEn (A 0)) (t i p j q : Int) : -5000 ≤ mX A t i p j q ∧ mX A t i p j q ≤ 5000 := by
  have h1 := zm_r (mE_r h t i j) (mE_r h t p q)
  have h2 := zm_r (mE_r h t i q) (mE_r h t p j)
  unfold mX
  omega
theorem mDet_r {I : Nat → Int} {A : Nat → Int → Int} (h : tEn (A 0)) (t : Int) : -750000 ≤ mDet I A t ∧ mDet I A t ≤ 750000 := by
  have h0 := mE_r h t 0 0
  have h1 := mX_r h t 0 1 0 1
  have h2 := zm_r (mE_r h t 0 0) (mX_r h t 1 2 1 2)
  have h3 := zm_r (mE_r h t 0 1) (mX_r h t 1 2 0 2)
  have h4 := zm_r (mE_r h t 0 2) (mX_r h t 1 2 0 1)
  unfold mDet
  (repeat' split) <;> omega
theorem mTr_r {I : Nat → Int} {A : Nat → Int → Int} (h : tEn (A 0)) {t : Int} (hr : 1 ≤ mRows I t ∧ mRows I t ≤ 3) : -150 ≤ mTr I A t ∧ mTr I A t ≤ 150 := by
  have := zsum_r (f := fun x => mE A t x x) (B := 50) (fun x => mE_r h t x x) (mRows I t).toNat
  unfold mTr
  omega
theorem mPairs_r {I : Nat → Int} {A : Nat → Int → Int} (h : tEn (A 0)) {t : Int} (hr : 1 ≤ mRows I t ∧ mRows I t ≤ 3) : -45000 ≤ mPairs I A t ∧ mPairs I A t ≤ 45000 := by
  have := zsum_r (f := fun i => zsum (mPi I A t i) (mRows I t).toNat) (B := 15000) (fun i => by
    have := zsum_r (f := mPi I A t i) (B := 5000) (fun j => by have := mX_r h t i j i j; unfold mPi; split <;> omega) (mRows I t).toNat
    omega) (mRows I t).toNat
  unfold mPairs
  omega
def mDn (I : Nat → Int) (A : Nat → Int → Int) : Int := if (I 3).tmod 2 = 0 then mDet I A 0 else -mDet I A 0
def mStb (I : Nat → Int) (A : Nat → Int → Int) : Int := if (I 3 = 1 ∧ 0 < -mTr I A 0) ∨ (I 3 = 2 ∧ 0 < -mTr I A 0 ∧ 0 < mPairs I A 0) ∨ (I 3 = 3 ∧ 0 < -mTr I A 0 ∧ 0 < mDn I A ∧ mDn I A < -mTr I A 0 * mPairs I A 0) then 1 else 0
set_option maxHeartbeats 4000000 in
set_option maxRecDepth 100000 in
theorem m_X8_witness (l : Launch) (D : ga_G) (mo : Nat) (ad : Nat → Nat) (I : Nat → Int) (A : Nat → Int → Int) (e i j part : Int) (hm : (1 ≤ I 3 ∧ I 3 ≤ 3) ∧ 1 ≤ I 4 ∧ I 4 ≤ 3) (he5 : tEn (A 0)) (heq : mEq I A) (hsf : mSafeR (I 3) (I 4) A) (h1 : (-2147483648 ≤ e ∧ e < 2147483648) ∧ (-2147483648 ≤ i ∧ i < 2147483648) ∧ (-2147483648 ≤ j ∧ j < 2147483648) ∧ (-2147483648 ≤ part ∧ part < 2147483648)) : mM l D yX8_witness (ws_ yX8_witness cX8_witness 11 (some .long)) (gR 5) [.int (iI e), .int (iI i), .int (iI j), .int (iI part)] mo ad I A (mL (fun r I1 A1 => r = mWit I A e i j part ∧ mSam I A I1 A1)) := by
  refine mm_met 6 rfl (Nat.le_of_ble_eq_true rfl) (L0 := [some (.ref mo), some (.int (iI e)), some (.int (iI i)), some (.int (iI j)), some (.int (iI part)), none, none, none, none, none, none]) rfl (fun X ok hE => ?_)
  have hmn := mn_r hm
  refine ga_aload_n (pc := 0) dX8_witness_0 rfl ?_
  refine ga_iload_n (pc := 1) dX8_witness_1 rfl ?_
  refine ga_iload_n (pc := 2) dX8_witness_2 rfl ?_
  refine ga_iload_n (pc := 3) dX8_witness_3 rfl ?_
  refine ga_iload (pc := 4) dX8_witness_4 rfl ?_
  refine k_X8_isPart (pc := 6) (e := e) (i := i) (j := j) (part := part) ok (by first | exact hm | omega) (by first | exact hq | omega) (by first | exact h1 | omega) (rfl) ⟨Nat.le_of_ble_eq_true rfl, Nat.le_of_ble_eq_true rfl⟩ (Nat.le_of_ble_eq_true rfl) dX8_witness_6 ?_
  refine ga_ifb_ne (pc := 9) (tgt := 17) dX8_witness_9 rfl (fun c9 => ?_) (fun c9 => ?_)
  · skip
    have hke := heq.2 e (by omega) (by omega)
    have hcr := tCnt_r (kind := A 11 e) hmn
    refine ga_aload_n (pc := 17) dX8_witness_17 rfl ?_
    refine ga_aload_n (pc := 18) dX8_witness_18 rfl ?_
    refine mm_g11 (pc := 19) dX8_witness_19 ?_
    refine ga_iload_n (pc := 22) dX8_witness_22 rfl ?_
    refine mm_ald11 (pc := 23) (x := A 11 e) ok (by omega) (rfl) dX8_witness_23 ?_
    refine k_X8_isFit (pc := 24) (kind := (A 11 e)) ok (by first | exact hm | omega) (by first | exact h1 | omega) ⟨Nat.le_of_ble_eq_true rfl, Nat.le_of_ble_eq_true rfl⟩ (Nat.le_of_ble_eq_true rfl) dX8_witness_24 (fun r24 I24 A24 hp24 => ?_)
    obtain ⟨er24, eI24, f24, rfl⟩ := hp24
    rw [tCnt_e] at er24
    rw [er24, eI24]
    refine ga_ifb_ne (pc := 27) (tgt := 36) dX8_witness_27 rfl (fun c27 => ?_) (fun c27 => ?_)
    · skip
      refine ga_aload_n (pc := 36) dX8_witness_36 rfl ?_
      refine ga_aload_n (pc := 37) dX8_witness_37 rfl ?_
      refine mm_g11 (pc := 38) dX8_witness_38 ?_
      refine ga_iload_n (pc := 41) dX8_witness_41 rfl ?_
      refine mm_ald11 (pc := 42) (x := A 11 e) ok (by omega) (rfl) dX8_witness_42 ?_
      refine ga_aload_n (pc := 43) dX8_witness_43 rfl ?_
      refine mm_g12 (pc := 44) dX8_witness_44 ?_
      refine ga_iload_n (pc := 47) dX8_witness_47 rfl ?_
      refine mm_ald12 (pc := 48) (x := A 12 e) ok (by omega) (rfl) dX8_witness_48 ?_
      refine k_X8_worksRules (pc := 49) (kind := (A 11 e)) (shift := (A 12 e)) ok (show (1 ≤ I 3 ∧ I 3 ≤ 3) ∧ 1 ≤ I 4 ∧ I 4 ≤ 3 from by first | exact hm | omega) (show tEn ((A 0)) from by first | exact he5 | omega) (show (0 ≤ (A 11 e) ∧ (A 11 e) ≤ 6) ∧ -2 ≤ (A 12 e) ∧ (A 12 e) ≤ 2 from hke) (show zFit (I 3) (I 4) (A 11 e) from by first | exact hft | omega) (show mSafeR (I 3) (I 4) (uN A 22 f24) from hsf) ⟨Nat.le_of_ble_eq_true rfl, Nat.le_of_ble_eq_true rfl⟩ (Nat.le_of_ble_eq_true rfl) dX8_witness_49 (fun r49 I49 A49 hp49 => ?_)
      obtain ⟨er49, eI49, p9, f9, g9, l9, rfl, hf9, hg9, hl9⟩ : r49 = (mRk I A e).2.2.2.1 ∧ I49 = I ∧ ∃ p9 f9 g9 l9, A49 = uN (uN (uN (uN (uN A 22 f24) 22 p9) 31 f9) 33 g9) 32 l9 ∧ eOn (tCnt (A 11 e) (I 3) (I 4)) 8 9 f9 (mRk I A e).1 ∧ (∀ k : Int, 0 ≤ k → k < I 3 * I 4 → g9 k = (mRk I A e).2.2.2.2 k) ∧ ∀ k : Int, 0 ≤ k → k < I 3 * I 4 → l9 k = (mLf A (I 3) (I 4) (mRk I A e) k) := hp49
      rw [eI49, er49]
      have hss := hsf (A 11 e) (A 12 e) hke.1 hke.2 (by assumption)
      have hen := hss.1 (I 3 * I 4) (by omega) (Int.le_refl _)
      have hlz : ∀ p : Int, 0 ≤ p → p < I 3 * I 4 → z62 (mLf A (I 3) (I 4) (mRk I A e) p) := hss.2
      have hrk : (0 ≤ (mRk I A e).2.1 ∧ (mRk I A e).2.1 ≤ _ ∧ (mRk I A e).2.1 ≤ (tCnt (A 11 e) (I 3) (I 4))) ∧ _ ∧ ∀ k : Int, -1 ≤ (mRk I A e).2.2.2.2 k ∧ (mRk I A e).2.2.2.2 k < (mRk I A e).2.1 := eRed_r (tCnt (A 11 e) (I 3) (I 4)) (mRul A (I 3) (I 4) (A 11 e) (A 12 e)) hcr.1 (I 3 * I 4).toNat
      have hbd : ∀ p q : Int, 0 ≤ p → p < (tCnt (A 11 e) (I 3) (I 4)) → 0 ≤ q → q ≤ 9 → z40 ((mRk I A e).1 p q) := hen.1
      have hzd : (mRk I A e).2.2.2.1 ≠ 0 ∧ z40 (mRk I A e).2.2.2.1 := hen.2.1
      refine ga_lstore (pc := 52) (L1 := [some (.ref mo), some (.int (iI e)), some (.int (iI i)), some (.int (iI j)), some (.int (iI part)), some (.long (lI ((mRk I A e).2.2.2.1))), none, none, none, none, none]) dX8_witness_52 rfl (by decide) rfl ?_
      refine ga_iconst (pc := 54) dX8_witness_54 ?_
      refine ga_istore (pc := 55) (L1 := [some (.ref mo), some (.int (iI e)), some (.int (iI i)), some (.int (iI j)), some (.int (iI part)), some (.long (lI ((mRk I A e).2.2.2.1))), none, some (.int (iI 0)), none, none, none]) dX8_witness_55 rfl (by decide) rfl ?_
      have jn89 : ∀ (fi : Int), (0 ≤ fi ∧ fi ≤ I 3 * I 4) → (fi = (mWf A (I 3) (I 4) (mRk I A e))) → G X (gR 5) RX8 11 cX8_witness (mH mo ad I (uN (uN (uN (uN (uN A 22 f24) 22 p9) 31 f9) 33 g9) 32 l9)) 0 0 89 [some (.ref mo), some (.int (iI e)), some (.int (iI i)), some (.int (iI j)), some (.int (iI part)), some (.long (lI ((mRk I A e).2.2.2.1))), none, some (.int (iI fi)), none, none, none] [] := by
        intro fi hfr hfi0
        refine ga_iload (pc := 89) dX8_witness_89 rfl ?_
        refine ga_aload_n (pc := 91) dX8_witness_91 rfl ?_
        refine mm_g3 (pc := 92) (z := I 3) rfl dX8_witness_92 ?_
        refine ga_aload_n (pc := 95) dX8_witness_95 rfl ?_
        refine mm_g4 (pc := 96) (z := I 4) rfl dX8_witness_96 ?_
        refine ga_imul (pc := 99) dX8_witness_99 ?_
        refine ga_icmp_ne (pc := 100) (tgt := 109) dX8_witness_100 rfl (by omega) (by omega) (fun c100 => ?_) (fun c100 => ?_)
        · skip
          have hmd := ij_r hm (show 0 ≤ i ∧ i < I 3 by omega) (show 0 ≤ j ∧ j < I 4 by omega)
          have hfn : (mLf A (I 3) (I 4) (mRk I A e) fi) ≠ 0 := by rw [hfi0]; exact zFind_n (T := fun p _ => (mLf A (I 3) (I 4) (mRk I A e) p)) (H := I 3 * I 4) (c := 0) (I 3 * I 4 - 0).toNat 0 (by omega) (by rw [show zFind (fun p _ => (mLf A (I 3) (I 4) (mRk I A e) p)) (I 3 * I 4) 0 (I 3 * I 4 - 0).toNat 0 = (mWf A (I 3) (I 4) (mRk I A e)) from rfl, ← hfi0]; omega)
          have hlr := hlz fi (by omega) (by omega)
          have hl9i := hrk.2.2 (I 4 * i + j)
          refine ga_aload_n (pc := 109) dX8_witness_109 rfl ?_
          refine mm_g4 (pc := 110) (z := I 4) rfl dX8_witness_110 ?_
          refine ga_iload_n (pc := 113) dX8_witness_113 rfl ?_
          refine ga_imul (pc := 114) dX8_witness_114 ?_
          refine ga_iload_n (pc := 115) dX8_witness_115 rfl ?_
          refine ga_iadd (pc := 116) dX8_witness_116 ?_
          refine ga_istore (pc := 117) (L1 := [some (.ref mo), some (.int (iI e)), some (.int (iI i)), some (.int (iI j)), some (.int (iI part)), some (.long (lI ((mRk I A e).2.2.2.1))), none, some (.int (iI fi)), some (.int (iI (((I 4) * i) + j))), none, none]) dX8_witness_117 rfl (by decide) rfl ?_
          have jn164 : ∀ (x : Int), (x = if I 4 * i + j = fi then (mRk I A e).2.2.2.1 else if (mRk I A e).2.2.2.2 (I 4 * i + j) < 0 then 0 else -(mRk I A e).1 ((mRk I A e).2.2.2.2 (I 4 * i + j)) fi) → (-9223372036854775808 < x ∧ x < 9223372036854775808) → G X (gR 5) RX8 11 cX8_witness (mH mo ad I (uN (uN (uN (uN (uN A 22 f24) 22 p9) 31 f9) 33 g9) 32 l9)) 0 0 164 [some (.ref mo), some (.int (iI e)), some (.int (iI i)), some (.int (iI j)), some (.int (iI part)), some (.long (lI ((mRk I A e).2.2.2.1))), none, some (.int (iI fi)), some (.int (iI (I 4 * i + j))), none, none] [.long (lI x)] := by
            intro x hx hxr
            refine ga_lstore (pc := 164) (L1 := [some (.ref mo), some (.int (iI e)), some (.int (iI i)), some (.int (iI j)), some (.int (iI part)), some (.long (lI ((mRk I A e).2.2.2.1))), none, some (.int (iI fi)), some (.int (iI (I 4 * i + j))), some (.long (lI x)), none]) dX8_witness_164 rfl (by decide) rfl ?_
            refine ga_lload (pc := 166) dX8_witness_166 rfl ?_
            refine ga_aload_n (pc := 168) dX8_witness_168 rfl ?_
            refine mm_g32 (pc := 169) dX8_witness_169 ?_
            refine ga_iload (pc := 172) dX8_witness_172 rfl ?_
            refine mm_ald32 (pc := 174) (x := (mLf A (I 3) (I 4) (mRk I A e) fi)) ok (by omega) (hl9 fi (by omega) (by omega)) dX8_witness_174 ?_
            refine ga_iload (pc := 175) dX8_witness_175 rfl ?_
            refine k_X8_partOf (pc := 177) (a := x) (b := (mLf A (I 3) (I 4) (mRk I A e) fi)) (part := part) (by omega) (by omega) (by omega) (rfl) ⟨Nat.le_of_ble_eq_true rfl, Nat.le_of_ble_eq_true rfl⟩ ⟨Nat.le_of_ble_eq_true rfl, Nat.le_of_ble_eq_true rfl⟩ (Nat.le_of_ble_eq_true rfl) dX8_witness_177 ?_
            exact mm_lret hE dX8_witness_180 (⟨_, rfl, by dsimp only; exact ⟨by unfold mWit; rw [hx]; rw [← hfi0]; (repeat' split) <;> first | (exfalso; omega) | rfl | omega | assumption, ((((((mSam.refl I A).uA (k := 22) (by decide)).uA (k := 22) (by decide)).uA (k := 31) (by decide)).uA (k := 33) (by decide)).uA (k := 32) (by decide))⟩⟩)
          refine ga_iload (pc := 119) dX8_witness_119 rfl ?_
          refine ga_iload (pc := 121) dX8_witness_121 rfl ?_
          refine ga_icmp_ne (pc := 123) (tgt := 131) dX8_witness_123 rfl (by omega) (by omega) (fun c123 => ?_) (fun c123 => ?_)
          · skip
            refine ga_aload_n (pc := 131) dX8_witness_131 rfl ?_
            refine mm_g33 (pc := 132) dX8_witness_132 ?_
            refine ga_iload (pc := 135) dX8_witness_135 rfl ?_
            refine mm_ald33 (pc := 137) (x := (mRk I A e).2.2.2.2 (I 4 * i + j)) ok (by omega) (hg9 _ (by omega) (by omega)) dX8_witness_137 ?_
            refine ga_if_ge (pc := 138) (tgt := 145) dX8_witness_138 rfl (by omega) (fun c138 => ?_) (fun c138 => ?_)
            · skip
              refine ga_aload_n (pc := 145) dX8_witness_145 rfl ?_
              refine mm_g31 (pc := 146) dX8_witness_146 ?_
              refine ga_bipush (pc := 149) dX8_witness_149 rfl ?_
              refine ga_aload_n (pc := 151) dX8_witness_151 rfl ?_
              refine mm_g33 (pc := 152) dX8_witness_152 ?_
              refine ga_iload (pc := 155) dX8_witness_155 rfl ?_
              refine mm_ald33 (pc := 157) (x := (mRk I A e).2.2.2.2 (I 4 * i + j)) ok (by omega) (hg9 _ (by omega) (by omega)) dX8_witness_157 ?_
              refine ga_imul (pc := 158) dX8_witness_158 ?_
              refine ga_iload (pc := 159) dX8_witness_159 rfl ?_
              refine ga_iadd (pc := 161) dX8_witness_161 ?_
              have hbl := hbd ((mRk I A e).2.2.2.2 (I 4 * i + j)) fi (by omega) (by omega) (by omega) (by omega)
              refine mm_ald31 (pc := 162) (x := (mRk I A e).1 ((mRk I A e).2.2.2.2 (I 4 * i + j)) fi) ok (by omega) (hf9 _ fi (by omega) (by omega) (by omega) (by omega)) dX8_witness_162 ?_
              refine ga_lneg (pc := 163) dX8_witness_163 ?_
              exact jn164 (-((mRk I A e).1 ((mRk I A e).2.2.2.2 (I 4 * i + j)) fi)) (by first | (rw [if_pos (by omega)]; done) | (rw [if_neg (by omega), if_pos (by omega)]; done) | (rw [if_neg (by omega), if_neg (by omega)])) (by omega)
            · skip
              refine ga_lconst (pc := 141) 0 dX8_witness_141 rfl ?_
              refine ga_goto (pc := 142) (tgt := 164) dX8_witness_142 rfl ?_
              exact jn164 0 (by first | (rw [if_pos (by omega)]; done) | (rw [if_neg (by omega), if_pos (by omega)]; done) | (rw [if_neg (by omega), if_neg (by omega)])) (by omega)
          · skip
            refine ga_lload (pc := 126) dX8_witness_126 rfl ?_
            refine ga_goto (pc := 128) (tgt := 164) dX8_witness_128 rfl ?_
            exact jn164 ((mRk I A e).2.2.2.1) (by first | (rw [if_pos (by omega)]; done) | (rw [if_neg (by omega), if_pos (by omega)]; done) | (rw [if_neg (by omega), if_neg (by omega)])) (by omega)
        · skip
          refine ga_bipush (pc := 103) dX8_witness_103 rfl ?_
          refine k_X8_told (pc := 105) (a := (-3)) (by omega) (rfl) ⟨Nat.le_of_ble_eq_true rfl, Nat.le_of_ble_eq_true rfl⟩ ⟨Nat.le_of_ble_eq_true rfl, Nat.le_of_ble_eq_true rfl⟩ (Nat.le_of_ble_eq_true rfl) dX8_witness_105 ?_
          exact mm_lret hE dX8_witness_108 (⟨_, rfl, by dsimp only; exact ⟨by unfold mWit; rw [← hfi0]; (repeat' split) <;> first | (exfalso; omega) | rfl | omega | assumption, ((((((mSam.refl I A).uA (k := 22) (by decide)).uA (k := 22) (by decide)).uA (k := 31) (by decide)).uA (k := 33) (by decide)).uA (k := 32) (by decide))⟩⟩)
      have lp57 : ∀ (N57 : Nat) (fi : Int), (0 ≤ fi ∧ fi ≤ I 3 * I 4) → (zFind (fun p _ => mLf A (I 3) (I 4) (mRk I A e) p) (I 3 * I 4) 0 (I 3 * I 4 - fi).toNat fi = (mWf A (I 3) (I 4) (mRk I A e))) → (I 3 * I 4 - fi).toNat < N57 → G X (gR 5) RX8 11 cX8_witness (mH mo ad I (uN (uN (uN (uN (uN A 22 f24) 22 p9) 31 f9) 33 g9) 32 l9)) 0 0 57 [some (.ref mo), some (.int (iI e)), some (.int (iI i)), some (.int (iI j)), some (.int (iI part)), some (.long (lI ((mRk I A e).2.2.2.1))), none, some (.int (iI fi)), none, none, none] [] := by
        intro N57
        induction N57 with
        | zero => intro fi hfr hfi hN57; exact absurd hN57 (Nat.not_lt_zero _)
        | succ N57 ih57 =>
          intro fi hfr hfi hN57
          refine ga_iload (pc := 57) dX8_witness_57 rfl ?_
          refine ga_aload_n (pc := 59) dX8_witness_59 rfl ?_
          refine mm_g3 (pc := 60) (z := I 3) rfl dX8_witness_60 ?_
          refine ga_aload_n (pc := 63) dX8_witness_63 rfl ?_
          refine mm_g4 (pc := 64) (z := I 4) rfl dX8_witness_64 ?_
          refine ga_imul (pc := 67) dX8_witness_67 ?_
          refine ga_icmp_ge (pc := 68) (tgt := 89) dX8_witness_68 rfl (by omega) (by omega) (fun c68 => ?_) (fun c68 => ?_)
          · skip
            exact jn89 fi (by omega) (by rw [← hfi, zFind_x (by omega)])
          · skip
            refine ga_aload_n (pc := 71) dX8_witness_71 rfl ?_
            refine mm_g32 (pc := 72) dX8_witness_72 ?_
            refine ga_iload (pc := 75) dX8_witness_75 rfl ?_
            refine mm_ald32 (pc := 77) (x := (mLf A (I 3) (I 4) (mRk I A e) fi)) ok (by omega) (hl9 fi (by omega) (by omega)) dX8_witness_77 ?_
            have hlr := hlz fi (by omega) (by omega)
            refine ga_lconst (pc := 78) 0 dX8_witness_78 rfl ?_
            refine ga_lcmp (pc := 79) dX8_witness_79 (by omega) (by omega) ?_
            refine ga_ifc_ne (pc := 80) (tgt := 89) dX8_witness_80 rfl (fun c80 => ?_) (fun c80 => ?_)
            · skip
              exact jn89 fi (by omega) (by rw [← hfi, zFind_x (by omega)])
            · skip
              refine ga_iinc (pc := 83) (L1 := [some (.ref mo), some (.int (iI e)), some (.int (iI i)), some (.int (iI j)), some (.int (iI part)), some (.long (lI ((mRk I A e).2.2.2.1))), none, some (.int (iI (fi + 1))), none, none, none]) dX8_witness_83 rfl rfl (by decide) rfl ?_
              refine ga_goto (pc := 86) (tgt := 57) dX8_witness_86 rfl ?_
              exact ih57 (fi + 1) (by omega) (by rw [← hfi, zFind_t (r := fi) (by omega)]) (by omega)
      exact lp57 _ 0 (by omega) (rfl) (Nat.lt_succ_self _)
    · skip
      refine ga_bipush (pc := 30) dX8_witness_30 rfl ?_
      refine k_X8_told (pc := 32) (a := (-4)) (by omega) (rfl) ⟨Nat.le_of_ble_eq_true rfl, Nat.le_of_ble_eq_true rfl⟩ ⟨Nat.le_of_ble_eq_true rfl, Nat.le_of_ble_eq_true rfl⟩ (Nat.le_of_ble_eq_true rfl) dX8_witness_32 ?_
      exact mm_lret hE dX8_witness_35 (⟨_, rfl, by dsimp only; exact ⟨by unfold mWit; (repeat' split) <;> first | (exfalso; omega) | rfl | omega | assumption, ((mSam.refl I A).uA (k := 22) (by decide))⟩⟩)
  · skip
    refine ga_iconst (pc := 12) dX8_witness_12 ?_
    refine k_X8_told (pc := 13) (a := (-1)) (by omega) (rfl) ⟨Nat.le_of_ble_eq_true rfl, Nat.le_of_ble_eq_true rfl⟩ ⟨Nat.le_of_ble_eq_true rfl, Nat.le_of_ble_eq_true rfl⟩ (Nat.le_of_ble_eq_true rfl) dX8_witness_13 ?_
    exact mm_lret hE dX8_witness_16 (⟨_, rfl, by dsimp only; exact ⟨by unfold mWit; (repeat' split) <;> first | (exfalso; omega) | rfl | omega | assumption, (mSam.refl I A)⟩⟩)
set_option maxHeartbeats 4000000 in
set_option maxRecDepth 100000 in
theorem m_X8_isSmall (l : Launch) (D : ga_G) (mo : Nat) (ad : Nat → Nat) (I : Nat → Int) (A : Nat → Int → Int) (e : Int) (hm : (1 ≤ I 3 ∧ I 3 ≤ 3) ∧ 1 ≤ I 4 ∧ I 4 ≤ 3) (heq : mEq I A) (h1 : 0 ≤ e ∧ e < I 5) : mM l D yX8_isSmall (ws_ yX8_isSmall cX8_isSmall 2 (some .boolean)) (gR 1) [.int (iI e)] mo ad I A (mI (fun r I1 A1 => r = (bI (mSml I A e)) ∧ I1 = I ∧ A1 = A)) := by
  refine mm_met 0 rfl (Nat.le_of_ble_eq_true rfl) (L0 := [some (.ref mo), some (.int (iI e))]) rfl (fun X ok hE => ?_)
  have hmn := mn_r hm
  have hke := heq.2 e h1.1 h1.2
  refine ga_aload_n (pc := 0) dX8_isSmall_0 rfl ?_
  refine ga_aload_n (pc := 1) dX8_isSmall_1 rfl ?_
  refine mm_g11 (pc := 2) dX8_isSmall_2 ?_
  refine ga_iload_n (pc := 5) dX8_isSmall_5 rfl ?_
  refine mm_ald11 (pc := 6) (x := A 11 e) ok (by omega) (rfl) dX8_isSmall_6 ?_
  refine k_X8_isLike (pc := 7) (k := (A 11 e)) ok (by first | exact hm | omega) (by first | exact h1 | omega) (rfl) ⟨Nat.le_of_ble_eq_true rfl, Nat.le_of_ble_eq_true rfl⟩ (Nat.le_of_ble_eq_true rfl) dX8_isSmall_7 ?_
  refine ga_ifb_eq (pc := 10) (tgt := 31) dX8_isSmall_10 rfl (fun c10 => ?_) (fun c10 => ?_)
  · skip
    refine ga_iconst (pc := 31) dX8_isSmall_31 ?_
    exact mm_zret hE dX8_isSmall_32 (by first | exact Or.inl rfl | exact Or.inr rfl) (⟨_, rfl, (bI_f (by omega)).symm, rfl, rfl⟩)
  · skip
    refine ga_aload_n (pc := 13) dX8_isSmall_13 rfl ?_
    refine mm_g3 (pc := 14) (z := I 3) rfl dX8_isSmall_14 ?_
    refine ga_aload_n (pc := 17) dX8_isSmall_17 rfl ?_
    refine mm_g4 (pc := 18) (z := I 4) rfl dX8_isSmall_18 ?_
    refine ga_imul (pc := 21) dX8_isSmall_21 ?_
    refine ga_bipush (pc := 22) dX8_isSmall_22 rfl ?_
    refine ga_icmp_gt (pc := 24) (tgt := 31) dX8_isSmall_24 rfl (by omega) (by omega) (fun c24 => ?_) (fun c24 => ?_)
    · skip
      refine ga_iconst (pc := 31) dX8_isSmall_31 ?_
      exact mm_zret hE dX8_isSmall_32 (by first | exact Or.inl rfl | exact Or.inr rfl) (⟨_, rfl, (bI_f (by omega)).symm, rfl, rfl⟩)
    · skip
      refine ga_iconst (pc := 27) dX8_isSmall_27 ?_
      refine ga_goto (pc := 28) (tgt := 32) dX8_isSmall_28 rfl ?_
      exact mm_zret hE dX8_isSmall_32 (by first | exact Or.inl rfl | exact Or.inr rfl) (⟨_, rfl, (bI_t (by omega)).symm, rfl, rfl⟩)
theorem k_X8_isSmall {X : ga_X} {nL : Nat} {cc : ByteArray} {mo : Nat} {ad : Nat → Nat} {I : Nat → Int} {A : Nat → Int → Int} {d pc : Nat} {L : List (Option Value)} {st : List Value} {e : Int} {z : Int} (ok : mOk mo ad) (hm : (1 ≤ I 3 ∧ I 3 ≤ 3) ∧ 1 ≤ I 4 ∧ I 4 ≤ 3) (heq : mEq I A) (h1 : 0 ≤ e ∧ e < I 5) (hz : (bI (mSml I A e)) = z) (hR : 1 + 1 ≤ d ∧ 19 + 2 + 64 * 1 ≤ 64 * d) (hs : (st.map fun v => v.category).sum ≤ 8) (dd : decode cc pc = .ok (.invokevirtual 297, 3)) (kk : G X (gR d) RX8 nL cc (mH mo ad I A) 0 0 (pc + 3) L (.int (iI z) :: st)) : G X (gR d) RX8 nL cc (mH mo ad I A) 0 0 pc L (.int (iI e) :: .ref mo :: st) :=
  mm_run ok (m_X8_isSmall _ _ mo ad I A e hm heq h1) (lw_V q1963 q1965 qs80 q113 q1966) rfl (show ga_nn' yX8_isSmall 1 from (by unfold ga_nn'; decide +kernel)) hR hs dd rfl (fun v I1 A1 hp => by
    obtain ⟨r, rfl, hp⟩ := hp
    obtain ⟨e1, rfl, rfl⟩ := hp
    subst hz
    rw [e1]
    exact kk)
