/-! THE REFERENCE: many lots; sheets judged -/
theorem mE_E {E F : Nat → Int → Int} (h : E 0 = F 0) : mE E = mE F := by
  funext t i j
  unfold mE
  rw [h]
theorem mRight_E {E F : Nat → Int → Int} (h : E 0 = F 0) : mRight E = mRight F := by
  funext k i j
  unfold mRight
  rw [mE_E h]
theorem mT0_E {E F : Nat → Int → Int} (h : E 0 = F 0) : mT0 E = mT0 F := by
  funext a b c d e f
  unfold mT0
  rw [mE_E h, mRight_E h]
theorem mTak_E {E F : Nat → Int → Int} (h : E 0 = F 0) : mTak E = mTak F := by
  funext a b c d e f g
  unfold mTak
  rw [mT0_E h]
theorem mSys_E {E F : Nat → Int → Int} (h : E 0 = F 0) : mSys E = mSys F := by
  funext a b c d e f p q
  unfold mSys
  rw [mTak_E h, mE_E h]
theorem zSy_E {E F : Nat → Int → Int} (h : E 0 = F 0) (m n : Int) : zSy m n E = zSy m n F := by
  funext a b c d
  unfold zSy
  rw [mSys_E h]
/-- many lots: the number and the entries, how many could be solved -/
def zTm (I : Nat → Int) (A : Nat → Int → Int) (e : Int) : Nat → zLs × Int
  | 0 => ((I 6, A 0), 0)
  | k + 1 => (zLa (mRows I) (mCols I) (zTm I A e k).1 3, (zTm I A e k).2 + eSlv (I 3 * I 4) (tCnt (A 11 e) (I 3) (I 4)) (mKd I (uN A 0 (zLa (mRows I) (mCols I) (zTm I A e k).1 3).2) e))
theorem zTm_s (I : Nat → Int) (A : Nat → Int → Int) (e : Int) {k : Int} (h : 0 ≤ k) : zTm I A e (k + 1).toNat = (zLa (mRows I) (mCols I) (zTm I A e k.toNat).1 3, (zTm I A e k.toNat).2 + eSlv (I 3 * I 4) (tCnt (A 11 e) (I 3) (I 4)) (mKd I (uN A 0 (zLa (mRows I) (mCols I) (zTm I A e k.toNat).1 3).2) e)) := by
  rw [show (k + 1).toNat = k.toNat + 1 by omega]
  rfl
theorem zTm_k {I : Nat → Int} {A : Nat → Int → Int} (hm : (1 ≤ I 3 ∧ I 3 ≤ 3) ∧ 1 ≤ I 4 ∧ I 4 ≤ 3) (hk : zLk (I 6, A 0)) (e : Int) : ∀ k : Nat, zLk (zTm I A e k).1 := by
  intro k
  induction k with
  | zero => exact hk
  | succ k ih => exact zLa_k (mRows_r hm) (mCols_r hm) 3 _ (Nat.le_refl _) ih
theorem mRows_e {I J : Nat → Int} (h3 : J 3 = I 3) (h4 : J 4 = I 4) : mRows J = mRows I := by
  funext t
  unfold mRows
  rw [h3, h4]
theorem mCols_e {I J : Nat → Int} (h3 : J 3 = I 3) (h4 : J 4 = I 4) : mCols J = mCols I := by
  funext t
  unfold mCols
  rw [h3, h4]
/-- the sum of an equation at a place, by a sheet's numbers -/
def zV (n : Int) (E : Nat → Int → Int) (kind shift : Int) (c : Int → Int) (p : Int) (k : Nat) : Int := zsum (fun q => mT0 E kind shift (p.tdiv n) (p.tmod n) (q.tdiv n) (q.tmod n) * c q) k
def zOff (m n : Int) (E : Nat → Int → Int) (kind shift d : Int) (c : Int → Int) : Int := zFind (fun p _ => zV n E kind shift c p (m * n).toNat - d * mCe E n p) (m * n) 0 (m * n - 0).toNat 0
abbrev zI32 (x : Int) : Prop := -2147483648 ≤ x ∧ x < 2147483648
abbrev zI64 (x : Int) : Prop := -9223372036854775808 ≤ x ∧ x < 9223372036854775808
theorem zV_r {n : Int} {E : Nat → Int → Int} (h : tEn (E 0)) {kind shift : Int} (hs : -2 ≤ shift ∧ shift ≤ 2) {c : Int → Int} {p : Int} : ∀ {k : Nat}, (∀ q : Int, 0 ≤ q → q < k → zI32 (c q)) → -(k * 429496729600) ≤ zV n E kind shift c p k ∧ zV n E kind shift c p k ≤ k * 429496729600 := by
  intro k
  induction k with
  | zero => intro _; exact ⟨by simp [zV, zsum], by simp [zV, zsum]⟩
  | succ k ih =>
    intro hc
    have h1 := ih (fun q q0 q1 => hc q q0 (by omega))
    have h2 := hc k (by omega) (by omega)
    have h3 := zm_r (mT0_r h (kind := kind) (i := p.tdiv n) (j := p.tmod n) (k := (k : Int).tdiv n) (l := (k : Int).tmod n) hs) (show -2147483648 ≤ c k ∧ c k ≤ 2147483648 by omega)
    have h4 : zV n E kind shift c p (k + 1) = zV n E kind shift c p k + mT0 E kind shift (p.tdiv n) (p.tmod n) ((k : Int).tdiv n) ((k : Int).tmod n) * c k := rfl
    rw [h4]
    omega
def mAg (I : Nat → Int) (A : Nat → Int → Int) (s : Int) : Int := if A 34 s = 2 then (if A 35 s = I 3 * I 4 then 0 else -12) else if A 34 s < 0 then -11 else -13
abbrev mCz (A : Nat → Int → Int) (s : Int) : Int → Int := fun q => A 36 (40 * s + q)
/-- sheets: their sorts, sizes, numbers -/
abbrev mShe (A : Nat → Int → Int) : Prop := ∀ s : Int, 0 ≤ s → s ≤ 3 → (-1 ≤ A 34 s ∧ A 34 s ≤ 3) ∧ (0 ≤ A 35 s ∧ A 35 s ≤ 40) ∧ ∀ k : Int, 0 ≤ k → k < 40 → zI64 (A 36 (40 * s + k)) ∧ (A 34 s ≤ 2 → zI32 (A 36 (40 * s + k))) ∧ (A 34 s ≤ 1 → -32768 ≤ A 36 (40 * s + k) ∧ A 36 (40 * s + k) < 32768) ∧ (A 34 s ≤ 0 → -128 ≤ A 36 (40 * s + k) ∧ A 36 (40 * s + k) < 128)
abbrev zSq (n kind : Int) (c : Int → Int) (p : Int) : Prop := (kind = 4 ∧ (p.tdiv n = p.tmod n ∨ c p = 0)) ∨ (kind = 5 ∧ c p = c (n * p.tmod n + p.tdiv n)) ∨ (kind ≠ 4 ∧ kind ≠ 5 ∧ c p = -c (n * p.tmod n + p.tdiv n))
def zSb (n kind : Int) (c : Int → Int) : Nat → Int
  | 0 => 1
  | p + 1 => if zSb n kind c p = 1 ∧ zSq n kind c p then 1 else 0
theorem zSb_s (n kind : Int) (c : Int → Int) {p : Int} (h : 0 ≤ p) : zSb n kind c (p + 1).toNat = if zSb n kind c p.toNat = 1 ∧ zSq n kind c p then 1 else 0 := by
  rw [show (p + 1).toNat = p.toNat + 1 by omega]
  have e : ((p.toNat : Nat) : Int) = p := by omega
  show (if zSb n kind c p.toNat = 1 ∧ zSq n kind c (p.toNat : Nat) then (1 : Int) else 0) = _
  rw [e]
theorem zSb_r (n kind : Int) (c : Int → Int) : ∀ p : Nat, zSb n kind c p = 0 ∨ zSb n kind c p = 1 := by
  intro p
  cases p with
  | zero => exact Or.inr rfl
  | succ p => show (if _ then (1 : Int) else 0) = 0 ∨ (if _ then (1 : Int) else 0) = 1; split <;> simp
/-- whether a sheet is of a kind's shape: 1 -/
def zShp (m n kind : Int) (c : Int → Int) : Int := if kind < 4 then 1 else zSb n kind c (m * n).toNat
def mJud (I : Nat → Int) (A : Nat → Int → Int) (e s d : Int) : Int := if (0 ≤ e ∧ e < I 5) ∧ (0 ≤ s ∧ s ≤ 3) ∧ 1 ≤ d then (if zLike (I 3) (I 4) (A 11 e) then (if mAg I A s < 0 then mAg I A s else if zOff (I 3) (I 4) A (A 11 e) (A 12 e) d (mCz A s) < I 3 * I 4 ∨ zShp (I 3) (I 4) (A 11 e) (mCz A s) ≠ 1 then 1 + zOff (I 3) (I 4) A (A 11 e) (A 12 e) d (mCz A s) else 0) else -4) else -1
def mKsF (I : Nat → Int) (A : Nat → Int → Int) (s shift : Int) : Nat → Int
  | 0 => 0
  | k + 1 => zor (mKsF I A s shift k) (if zLike (I 3) (I 4) k ∧ zOff (I 3) (I 4) A k shift 1 (mCz A s) = I 3 * I 4 ∧ zShp (I 3) (I 4) k (mCz A s) = 1 then zshl 1 k else 0)
theorem mKsF_s (I : Nat → Int) (A : Nat → Int → Int) (s shift : Int) {k : Int} (h : 0 ≤ k) : mKsF I A s shift (k + 1).toNat = zor (mKsF I A s shift k.toNat) (if zLike (I 3) (I 4) k ∧ zOff (I 3) (I 4) A k shift 1 (mCz A s) = I 3 * I 4 ∧ zShp (I 3) (I 4) k (mCz A s) = 1 then zshl 1 k else 0) := by
  rw [show (k + 1).toNat = k.toNat + 1 by omega]
  have e : ((k.toNat : Nat) : Int) = k := by omega
  show zor (mKsF I A s shift k.toNat) (if zLike (I 3) (I 4) (k.toNat : Nat) ∧ zOff (I 3) (I 4) A (k.toNat : Nat) shift 1 (mCz A s) = I 3 * I 4 ∧ zShp (I 3) (I 4) (k.toNat : Nat) (mCz A s) = 1 then zshl 1 (k.toNat : Nat) else 0) = _
  rw [e]
def mKds (I : Nat → Int) (A : Nat → Int → Int) (s shift : Int) : Int := if (0 ≤ s ∧ s ≤ 3) ∧ -2 ≤ shift ∧ shift ≤ 2 then (if mAg I A s < 0 then mAg I A s else mKsF I A s shift 7) else -1
theorem mSam.lots {I J I1 : Nat → Int} {A B A1 : Nat → Int → Int} {z z1 : Int} {f g g1 : Int → Int} {w : Int} {y : Int → Int} (h : mSam (uN I 6 z) (uN (uN A 2 f) 0 g) J B) (k : mSam (uN J 6 w) (uN B 0 y) I1 A1) (ez : z1 = w) (eg : g1 = y) : mSam (uN I 6 z1) (uN (uN A 2 f) 0 g1) I1 A1 := by
  subst ez
  subst eg
  refine ⟨fun j hj => (k.1 j hj).trans ?_, fun j hj => (k.2 j hj).trans ?_⟩
  · by_cases e : j = 6
    · subst e; rfl
    · rw [uN_n _ _ e, uN_n _ _ e]
      have := h.1 j hj
      rw [uN_n _ _ e] at this
      exact this
  · by_cases e : j = 0
    · subst e; rfl
    · rw [uN_n _ _ e, uN_n _ _ e]
      have := h.2 j hj
      rw [uN_n _ _ e] at this
      exact this
set_option maxHeartbeats 4000000 in
set_option maxRecDepth 100000 in
theorem m_X8_times (l : Launch) (D : ga_G) (mo : Nat) (ad : Nat → Nat) (I : Nat → Int) (A : Nat → Int → Int) (e many : Int) (hm : (1 ≤ I 3 ∧ I 3 ≤ 3) ∧ 1 ≤ I 4 ∧ I 4 ≤ 3) (he5 : tEn (A 0)) (heq : mEq I A) (hz6 : -2147483648 ≤ I 6 ∧ I 6 < 2147483648) (hsf : ∀ E : Nat → Int → Int, tEn (E 0) → mSafe (I 3) (I 4) E) (h1 : (-2147483648 ≤ e ∧ e < 2147483648) ∧ (-2147483648 ≤ many ∧ many < 2147483648)) : mM l D yX8_times (ws_ yX8_times cX8_times 5 (some .int)) (gR 6) [.int (iI e), .int (iI many)] mo ad I A (mI (fun r I1 A1 => if (0 ≤ e ∧ e < I 5) ∧ 1 ≤ many ∧ many ≤ 30 then (if zFit (I 3) (I 4) (A 11 e) then r = (zTm I A e many.toNat).2 ∧ mSam (uN I 6 (zTm I A e many.toNat).1.1) (uN (uN A 2 (mC (A 2) (A 0) 27)) 0 (mC (zTm I A e many.toNat).1.2 (mC (A 2) (A 0) 27) 27)) I1 A1 else r = -4 ∧ mSam I A I1 A1) else r = -1 ∧ mSam I A I1 A1)) := by
  refine mm_met 2 rfl (Nat.le_of_ble_eq_true rfl) (L0 := [some (.ref mo), some (.int (iI e)), some (.int (iI many)), none, none]) rfl (fun X ok hE => ?_)
  have hmn := mn_r hm
  refine ga_aload_n (pc := 0) dX8_times_0 rfl ?_
  refine ga_iload_n (pc := 1) dX8_times_1 rfl ?_
  refine k_X8_isEquation (pc := 2) (e := e) ok (by first | exact hq | omega) (by first | exact h1 | omega) (rfl) ⟨Nat.le_of_ble_eq_true rfl, Nat.le_of_ble_eq_true rfl⟩ (Nat.le_of_ble_eq_true rfl) dX8_times_2 ?_
  refine ga_ifb_eq (pc := 5) (tgt := 20) dX8_times_5 rfl (fun c5 => ?_) (fun c5 => ?_)
  · skip
    refine ga_iconst (pc := 20) dX8_times_20 ?_
    exact mm_iret hE dX8_times_21 (⟨_, rfl, by dsimp only; first | (rw [if_neg (by omega)]; exact ⟨rfl, (mSam.refl I A)⟩) | (rw [if_pos (by omega), if_neg (by assumption)]; exact ⟨rfl, (mSam.refl I A)⟩)⟩)
  · skip
    refine ga_iload_n (pc := 8) dX8_times_8 rfl ?_
    refine ga_i2l (pc := 9) dX8_times_9 (by omega) ?_
    refine ga_lconst (pc := 10) 1 dX8_times_10 rfl ?_
    refine ga_ldc2 (pc := 11) (30) dX8_times_11 q2041 rfl ?_
    refine k_X8_in (pc := 14) (a := many) (b := 1) (c := (30)) (by omega) (rfl) ⟨Nat.le_of_ble_eq_true rfl, Nat.le_of_ble_eq_true rfl⟩ ⟨Nat.le_of_ble_eq_true rfl, Nat.le_of_ble_eq_true rfl⟩ (Nat.le_of_ble_eq_true rfl) dX8_times_14 ?_
    refine ga_ifb_ne (pc := 17) (tgt := 22) dX8_times_17 rfl (fun c17 => ?_) (fun c17 => ?_)
    · skip
      have hke := heq.2 e (by omega) (by omega)
      have hcr := tCnt_r (kind := A 11 e) hmn
      refine ga_aload_n (pc := 22) dX8_times_22 rfl ?_
      refine ga_aload_n (pc := 23) dX8_times_23 rfl ?_
      refine mm_g11 (pc := 24) dX8_times_24 ?_
      refine ga_iload_n (pc := 27) dX8_times_27 rfl ?_
      refine mm_ald11 (pc := 28) (x := A 11 e) ok (by omega) (rfl) dX8_times_28 ?_
      refine k_X8_isFit (pc := 29) (kind := (A 11 e)) ok (by first | exact hm | omega) (by first | exact h1 | omega) ⟨Nat.le_of_ble_eq_true rfl, Nat.le_of_ble_eq_true rfl⟩ (Nat.le_of_ble_eq_true rfl) dX8_times_29 (fun r29 I29 A29 hp29 => ?_)
      obtain ⟨er29, eI29, f29, rfl⟩ := hp29
      rw [tCnt_e] at er29
      rw [er29, eI29]
      refine ga_ifb_ne (pc := 32) (tgt := 38) dX8_times_32 rfl (fun c32 => ?_) (fun c32 => ?_)
      · skip
        refine ga_aload_n (pc := 38) dX8_times_38 rfl ?_
        refine ga_aload_n (pc := 39) dX8_times_39 rfl ?_
        refine mm_g0 (pc := 40) dX8_times_40 ?_
        refine ga_aload_n (pc := 43) dX8_times_43 rfl ?_
        refine mm_g2 (pc := 44) dX8_times_44 ?_
        refine k_X8_saves_02 (pc := 47)  (A2 := (uN (uN A 22 f29) 2 (mC ((A 2)) ((A 0)) 27))) ok  (rfl) ⟨Nat.le_of_ble_eq_true rfl, Nat.le_of_ble_eq_true rfl⟩ (Nat.le_of_ble_eq_true rfl) dX8_times_47 ?_
        refine ga_iconst (pc := 50) dX8_times_50 ?_
        refine ga_istore_n (pc := 51) (L1 := [some (.ref mo), some (.int (iI e)), some (.int (iI many)), some (.int (iI 0)), none]) dX8_times_51 rfl (by decide) rfl ?_
        refine ga_iconst (pc := 52) dX8_times_52 ?_
        refine ga_istore (pc := 53) (L1 := [some (.ref mo), some (.int (iI e)), some (.int (iI many)), some (.int (iI 0)), some (.int (iI 0))]) dX8_times_53 rfl (by decide) rfl ?_
        have hft : zFit (I 3) (I 4) (A 11 e) := by assumption
        have lp55 : ∀ (N55 : Nat) (c k : Int) (Ik : Nat → Int) (Ak : Nat → Int → Int), (0 ≤ k ∧ k ≤ many) → (c = (zTm I A e k.toNat).2) → (mSam (uN I 6 (zTm I A e k.toNat).1.1) (uN (uN A 2 (mC (A 2) (A 0) 27)) 0 (zTm I A e k.toNat).1.2) Ik Ak) → (many - k).toNat < N55 → G X (gR 6) RX8 5 cX8_times (mH mo ad Ik Ak) 0 0 55 [some (.ref mo), some (.int (iI e)), some (.int (iI many)), some (.int (iI c)), some (.int (iI k))] [] := by
          intro N55
          induction N55 with
          | zero => intro c k Ik Ak hk hc hsm hN55; exact absurd hN55 (Nat.not_lt_zero _)
          | succ N55 ih55 =>
            intro c k Ik Ak hk hc hsm hN55
            have hI3 : Ik 3 = I 3 := hsm.1 3 (by decide)
            have hI4 : Ik 4 = I 4 := hsm.1 4 (by decide)
            have hI5 : Ik 5 = I 5 := hsm.1 5 (by decide)
            have hI6 : Ik 6 = (zTm I A e k.toNat).1.1 := hsm.1 6 (by decide)
            have hA0 : Ak 0 = (zTm I A e k.toNat).1.2 := hsm.2 0 (by decide)
            have hA2 : Ak 2 = (mC (A 2) (A 0) 27) := hsm.2 2 (by decide)
            have hA11 : Ak 11 = A 11 := hsm.2 11 (by decide)
            have hA12 : Ak 12 = A 12 := hsm.2 12 (by decide)
            have hmK : (1 ≤ Ik 3 ∧ Ik 3 ≤ 3) ∧ 1 ≤ Ik 4 ∧ Ik 4 ≤ 3 := by rw [hI3, hI4]; exact hm
            have heqK : mEq Ik Ak := ⟨by rw [hI5]; exact heq.1, fun k k0 k1 => by rw [hA11, hA12]; exact heq.2 k k0 (by rw [← hI5]; exact k1)⟩
            refine ga_iload (pc := 55) dX8_times_55 rfl ?_
            refine ga_iload_n (pc := 57) dX8_times_57 rfl ?_
            refine ga_icmp_ge (pc := 58) (tgt := 91) dX8_times_58 rfl (by omega) (by omega) (fun c58 => ?_) (fun c58 => ?_)
            · skip
              refine ga_aload_n (pc := 91) dX8_times_91 rfl ?_
              refine ga_aload_n (pc := 92) dX8_times_92 rfl ?_
              refine mm_g2 (pc := 93) dX8_times_93 ?_
              refine ga_aload_n (pc := 96) dX8_times_96 rfl ?_
              refine mm_g0 (pc := 97) dX8_times_97 ?_
              refine k_X8_saves_20 (pc := 100)  (A2 := (uN Ak 0 (mC (Ak 0) (Ak 2) 27))) ok  (rfl) ⟨Nat.le_of_ble_eq_true rfl, Nat.le_of_ble_eq_true rfl⟩ (Nat.le_of_ble_eq_true rfl) dX8_times_100 ?_
              refine ga_iload_n (pc := 103) dX8_times_103 rfl ?_
              exact mm_iret hE dX8_times_104 (⟨_, rfl, by dsimp only; rw [if_pos (by omega), if_pos hft]; (obtain rfl : k = many := by omega); refine ⟨hc, hsm.1, fun j hj => ?_⟩; by_cases e0 : j = 0; (subst e0; show mC (Ak 0) (Ak 2) 27 = mC _ _ 27; rw [hA0, hA2]); (rw [uN_n _ _ e0, uN_n _ _ e0]; have z := hsm.2 j hj; rw [uN_n _ _ e0] at z; exact z)⟩)
            · skip
              refine ga_aload_n (pc := 61) dX8_times_61 rfl ?_
              refine k_X8_lots (pc := 62)  (I2 := (uN Ik 6 ((mLot Ik Ak).1))) (A2 := (uN Ak 0 ((mLot Ik Ak).2))) ok (hmK) (by rw [hA0]; exact (zTm_k hm ⟨hz6, he5⟩ e _).2) (by rw [hI6]; exact (zTm_k hm ⟨hz6, he5⟩ e _).1) (rfl) (rfl) ⟨Nat.le_of_ble_eq_true rfl, Nat.le_of_ble_eq_true rfl⟩ (Nat.le_of_ble_eq_true rfl) dX8_times_62 ?_
              have eL : mLot Ik Ak = (zLa (mRows I) (mCols I) (zTm I A e k.toNat).1 3) := by unfold mLot; rw [mRows_e hI3 hI4, mCols_e hI3 hI4, hI6, hA0]
              rw [eL]
              have hLk : zLk (zLa (mRows I) (mCols I) (zTm I A e k.toNat).1 3) := zLa_k (mRows_r hm) (mCols_r hm) 3 _ (Nat.le_refl _) (zTm_k hm ⟨hz6, he5⟩ e _)
              refine ga_aload_n (pc := 65) dX8_times_65 rfl ?_
              refine ga_iload_n (pc := 66) dX8_times_66 rfl ?_
              refine k_X8_setsUp (pc := 67) (e := e) ok (show (1 ≤ (Ik 3) ∧ (Ik 3) ≤ 3) ∧ 1 ≤ (Ik 4) ∧ (Ik 4) ≤ 3 from hmK) (show tEn (((zLa (mRows I) (mCols I) (zTm I A e k.toNat).1 3).2)) from hLk.2) (show mEq (uN Ik 6 ((zLa (mRows I) (mCols I) (zTm I A e k.toNat).1 3).1)) (uN Ak 0 ((zLa (mRows I) (mCols I) (zTm I A e k.toNat).1 3).2)) from heqK) (show mSafe ((Ik 3)) ((Ik 4)) (uN Ak 0 ((zLa (mRows I) (mCols I) (zTm I A e k.toNat).1 3).2)) from by show mSafe (Ik 3) (Ik 4) _; rw [hI3, hI4]; exact hsf _ hLk.2) (show 0 ≤ e ∧ e < (Ik 5) from by show 0 ≤ e ∧ e < Ik 5; rw [hI5]; omega) (show zFit ((Ik 3)) ((Ik 4)) ((Ak 11) e) from by show zFit (Ik 3) (Ik 4) (Ak 11 e); rw [hI3, hI4, hA11]; exact hft) ⟨Nat.le_of_ble_eq_true rfl, Nat.le_of_ble_eq_true rfl⟩ (Nat.le_of_ble_eq_true rfl) dX8_times_67 (fun I67 A67 hp67 => ?_)
              obtain ⟨hz67, hst0, -⟩ := hp67
              have hkd : mKd (uN Ik 6 (zLa (mRows I) (mCols I) (zTm I A e k.toNat).1 3).1) (uN Ak 0 (zLa (mRows I) (mCols I) (zTm I A e k.toNat).1 3).2) e = (mKd I (uN A 0 (zLa (mRows I) (mCols I) (zTm I A e k.toNat).1 3).2) e) := by show zSy (Ik 3) (Ik 4) _ (Ak 11 e) (Ak 11 e) (Ak 12 e) 0 = _; rw [hI3, hI4, hA11, hA12]; show zSy (I 3) (I 4) _ _ _ _ 0 = zSy (I 3) (I 4) _ _ _ _ 0; rw [zSy_E (show (uN Ak 0 (zLa (mRows I) (mCols I) (zTm I A e k.toNat).1 3).2) 0 = (uN A 0 (zLa (mRows I) (mCols I) (zTm I A e k.toNat).1 3).2) 0 from rfl)]; rfl
              have hst9 : mSt I67 A67 (I 3 * I 4) (tCnt (A 11 e) (I 3) (I 4)) (mKd I (uN A 0 (zLa (mRows I) (mCols I) (zTm I A e k.toNat).1 3).2) e) := by rw [hkd] at hst0; have z := hst0; change mSt I67 A67 (Ik 3 * Ik 4) (tCnt (Ak 11 e) (Ik 3) (Ik 4)) _ at z; rw [hI3, hI4, hA11] at z; exact z
              have hsy := hsf (uN A 0 (zLa (mRows I) (mCols I) (zTm I A e k.toNat).1 3).2) hLk.2 (A 11 e) (A 11 e) (A 12 e) 0 hke.1 (Or.inl rfl) hft.1 hke.2 (by omega) (fun z => absurd rfl z) (by rw [zW_0]; exact hft.2)
              have hzr := zSy_r hsy (by rw [zH_0]; omega) (by rw [zW_0]; omega)
              rw [zH_0, zW_0] at hzr
              have hsw9 : (0 ≤ I 3 * I 4 ∧ I 3 * I 4 ≤ 9) ∧ (0 ≤ (tCnt (A 11 e) (I 3) (I 4)) ∧ (tCnt (A 11 e) (I 3) (I 4)) ≤ 7) ∧ 0 ≤ (mKd I (uN A 0 (zLa (mRows I) (mCols I) (zTm I A e k.toNat).1 3).2) e).2.1 ∧ (mKd I (uN A 0 (zLa (mRows I) (mCols I) (zTm I A e k.toNat).1 3).2) e).2.1 ≤ I 3 * I 4 := ⟨by omega, by omega, hzr.1.1, hzr.1.2.2⟩
              have jn83 : ∀ (x : Int), (x = eSlv (I 3 * I 4) (tCnt (A 11 e) (I 3) (I 4)) (mKd I (uN A 0 (zLa (mRows I) (mCols I) (zTm I A e k.toNat).1 3).2) e)) → (0 ≤ x ∧ x ≤ 1) → G X (gR 6) RX8 5 cX8_times (mH mo ad I67 A67) 0 0 83 [some (.ref mo), some (.int (iI e)), some (.int (iI many)), some (.int (iI c)), some (.int (iI k))] [.int (iI x), .int (iI c)] := by
                intro x hx hxr
                refine ga_iadd (pc := 83) dX8_times_83 ?_
                refine ga_istore_n (pc := 84) (L1 := [some (.ref mo), some (.int (iI e)), some (.int (iI many)), some (.int (iI (c + x))), some (.int (iI k))]) dX8_times_84 rfl (by decide) rfl ?_
                refine ga_iinc (pc := 85) (L1 := [some (.ref mo), some (.int (iI e)), some (.int (iI many)), some (.int (iI (c + x))), some (.int (iI (k + 1)))]) dX8_times_85 rfl rfl (by decide) rfl ?_
                refine ga_goto (pc := 88) (tgt := 55) dX8_times_88 rfl ?_
                exact ih55 (c + x) (k + 1) I67 A67 (by omega) (by rw [zTm_s _ _ _ hk.1, hx, hc]) (hsm.lots hz67 (by rw [zTm_s _ _ _ hk.1]) (by rw [zTm_s _ _ _ hk.1])) (by omega)
              refine ga_iload_n (pc := 70) dX8_times_70 rfl ?_
              refine ga_aload_n (pc := 71) dX8_times_71 rfl ?_
              refine k_X8_isSolved (pc := 72) (H := (I 3 * I 4)) (W := (tCnt (A 11 e) (I 3) (I 4))) (S := (mKd I (uN A 0 (zLa (mRows I) (mCols I) (zTm I A e k.toNat).1 3).2) e)) ok (hst9) (hsw9) (hzr.2.2.2.1) ⟨Nat.le_of_ble_eq_true rfl, Nat.le_of_ble_eq_true rfl⟩ (Nat.le_of_ble_eq_true rfl) dX8_times_72 (fun r72 I72 A72 hp72 => ?_)
              obtain ⟨⟨eI72, eA72⟩, hq72⟩ := hp72
              rw [eI72, eA72]
              have er72 := eSlv_o hsw9.2.2.2 hq72
              have hr72 : r72 = 0 ∨ r72 = 1 := by rcases hq72 with ⟨z, -⟩ | ⟨z, -⟩ <;> omega
              refine ga_if_eq (pc := 75) (tgt := 82) dX8_times_75 rfl (by omega) (fun c75 => ?_) (fun c75 => ?_)
              · skip
                refine ga_iconst (pc := 82) dX8_times_82 ?_
                exact jn83 0 (by rw [← er72]; omega) (by omega)
              · skip
                refine ga_iconst (pc := 78) dX8_times_78 ?_
                refine ga_goto (pc := 79) (tgt := 83) dX8_times_79 rfl ?_
                exact jn83 1 (by rw [← er72]; omega) (by omega)
        exact lp55 _ 0 0 I (uN (uN A 22 f29) 2 (mC ((A 2)) ((A 0)) 27)) (by omega) (rfl) (⟨fun j hj => by by_cases e6 : j = 6; (subst e6; rfl); exact (uN_n I _ e6).symm, fun j hj => by by_cases e0 : j = 0; (subst e0; rfl); by_cases e2 : j = 2; (subst e2; rfl); have e22 : j ≠ 22 := (fun z => hj (by rw [z]; decide)); show uN (uN A 22 f29) 2 _ j = uN (uN A 2 _) 0 _ j; rw [uN_n _ _ e2, uN_n _ _ e22, uN_n _ _ e0, uN_n _ _ e2]⟩) (Nat.lt_succ_self _)
      · skip
        refine ga_bipush (pc := 35) dX8_times_35 rfl ?_
        exact mm_iret hE dX8_times_37 (⟨_, rfl, by dsimp only; first | (rw [if_neg (by omega)]; exact ⟨rfl, ((mSam.refl I A).uA (k := 22) (by decide))⟩) | (rw [if_pos (by omega), if_neg (by assumption)]; exact ⟨rfl, ((mSam.refl I A).uA (k := 22) (by decide))⟩)⟩)
    · skip
      refine ga_iconst (pc := 20) dX8_times_20 ?_
      exact mm_iret hE dX8_times_21 (⟨_, rfl, by dsimp only; first | (rw [if_neg (by omega)]; exact ⟨rfl, (mSam.refl I A)⟩) | (rw [if_pos (by omega), if_neg (by assumption)]; exact ⟨rfl, (mSam.refl I A)⟩)⟩)
