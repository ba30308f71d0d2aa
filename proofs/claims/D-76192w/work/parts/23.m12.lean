/-! THE REFERENCE: the witness -/
def mRul (E : Nat → Int → Int) (m n kind shift : Int) : Int → Int → Int := fun u p => if p < m * n then mTak E n kind kind shift p (tPlc kind m n u) (m * n).toNat else 0
def zRu (m n : Int) (E : Nat → Int → Int) (kind shift : Int) : eS := eRed (tCnt kind m n) (mRul E m n kind shift) (m * n).toNat
def mCe (E : Nat → Int → Int) (n p : Int) : Int := mE E 2 (p.tdiv n) (p.tmod n)
def mLfT (E : Nat → Int → Int) (n : Int) (S : eS) (p : Int) : Int → Int := fun q => if S.2.2.2.2 q < 0 then 0 else mCe E n q * S.1 (S.2.2.2.2 q) p
def mLf (E : Nat → Int → Int) (m n : Int) (S : eS) (p : Int) : Int := S.2.2.2.1 * mCe E n p - zsum (mLfT E n S p) (m * n).toNat
def mSafeR (m n : Int) (E : Nat → Int → Int) : Prop := ∀ kind shift : Int, (0 ≤ kind ∧ kind ≤ 6) → (-2 ≤ shift ∧ shift ≤ 2) → zFit m n kind → (∀ c : Int, 0 ≤ c → c ≤ m * n → eFit (tCnt kind m n) 9 c (eRed (tCnt kind m n) (mRul E m n kind shift) c.toNat)) ∧ ∀ p : Int, 0 ≤ p → p < m * n → z62 (mLf E m n (zRu m n E kind shift) p)
set_option maxHeartbeats 4000000 in
set_option maxRecDepth 100000 in
theorem m_X8_swapsRules (l : Launch) (D : ga_G) (mo : Nat) (ad : Nat → Nat) (I : Nat → Int) (A : Nat → Int → Int) (a b H : Int) (T : Int → Int → Int) (h1 : (0 ≤ a ∧ a < H) ∧ (0 ≤ b ∧ b < H) ∧ H ≤ 7) (hT : eOn H 8 9 (A 31) T) : mM l D yX8_swapsRules (ws_ yX8_swapsRules cX8_swapsRules 6 none) (gR 0) [.int (iI a), .int (iI b)] mo ad I A (mV (fun I1 A1 => I1 = I ∧ ∃ f, A1 = uN A 31 f ∧ eOn H 8 9 f (eSw T a b))) := by
  refine mm_met 3 rfl (Nat.le_of_ble_eq_true rfl) (L0 := [some (.ref mo), some (.int (iI a)), some (.int (iI b)), none, none, none]) rfl (fun X ok hE => ?_)
  refine ga_iconst (pc := 0) dX8_swapsRules_0 ?_
  refine ga_istore_n (pc := 1) (L1 := [some (.ref mo), some (.int (iI a)), some (.int (iI b)), some (.int (iI 0)), none, none]) dX8_swapsRules_1 rfl (by decide) rfl ?_
  refine ga_heq (pc := 2) (h1 := mH mo ad I (uN A 31 (A 31))) (congr (congrArg (mH mo ad) (rfl)) (by funext j; by_cases e0 : j = 31; (subst e0; exact (show (A 31) = (A 31) from rfl)); simp only [uN, if_neg e0])) ?_
  have lp2 : ∀ (N2 : Nat) (k : Int) (f : Int → Int), (0 ≤ k ∧ k ≤ 9) → (eOn H 8 9 f (fun p q => if q < k then eSw T a b p q else T p q)) → (9 - k).toNat < N2 → G X (gR 0) RX8 6 cX8_swapsRules (mH mo ad I (uN A 31 f)) 0 0 2 [some (.ref mo), some (.int (iI a)), some (.int (iI b)), some (.int (iI k)), none, none] [] := by
    intro N2
    induction N2 with
    | zero => intro k f hk hf hN2; exact absurd hN2 (Nat.not_lt_zero _)
    | succ N2 ih2 =>
      intro k f hk hf hN2
      refine ga_iload_n (pc := 2) dX8_swapsRules_2 rfl ?_
      refine ga_bipush (pc := 3) dX8_swapsRules_3 rfl ?_
      refine ga_icmp_ge (pc := 5) (tgt := 62) dX8_swapsRules_5 rfl (by omega) (by omega) (fun c5 => ?_) (fun c5 => ?_)
      · skip
        exact mm_vret hE dX8_swapsRules_62 (⟨rfl, by dsimp only; (obtain rfl : k = 9 := by omega); exact ⟨rfl, f, rfl, fun p q p0 p1 q0 q1 => (hf p q p0 p1 q0 q1).trans (by dsimp only; rw [if_pos (by omega)])⟩⟩)
      · skip
        refine ga_aload_n (pc := 8) dX8_swapsRules_8 rfl ?_
        refine mm_g31 (pc := 9) dX8_swapsRules_9 ?_
        refine ga_bipush (pc := 12) dX8_swapsRules_12 rfl ?_
        refine ga_iload_n (pc := 14) dX8_swapsRules_14 rfl ?_
        refine ga_imul (pc := 15) dX8_swapsRules_15 ?_
        refine ga_iload_n (pc := 16) dX8_swapsRules_16 rfl ?_
        refine ga_iadd (pc := 17) dX8_swapsRules_17 ?_
        refine mm_ald31 (pc := 18) (x := f ((9 * a) + k)) ok (by omega) (rfl) dX8_swapsRules_18 ?_
        refine ga_lstore (pc := 19) (L1 := [some (.ref mo), some (.int (iI a)), some (.int (iI b)), some (.int (iI k)), some (.long (lI (f ((9 * a) + k)))), none]) dX8_swapsRules_19 rfl (by decide) rfl ?_
        refine ga_aload_n (pc := 21) dX8_swapsRules_21 rfl ?_
        refine mm_g31 (pc := 22) dX8_swapsRules_22 ?_
        refine ga_bipush (pc := 25) dX8_swapsRules_25 rfl ?_
        refine ga_iload_n (pc := 27) dX8_swapsRules_27 rfl ?_
        refine ga_imul (pc := 28) dX8_swapsRules_28 ?_
        refine ga_iload_n (pc := 29) dX8_swapsRules_29 rfl ?_
        refine ga_iadd (pc := 30) dX8_swapsRules_30 ?_
        refine ga_aload_n (pc := 31) dX8_swapsRules_31 rfl ?_
        refine mm_g31 (pc := 32) dX8_swapsRules_32 ?_
        refine ga_bipush (pc := 35) dX8_swapsRules_35 rfl ?_
        refine ga_iload_n (pc := 37) dX8_swapsRules_37 rfl ?_
        refine ga_imul (pc := 38) dX8_swapsRules_38 ?_
        refine ga_iload_n (pc := 39) dX8_swapsRules_39 rfl ?_
        refine ga_iadd (pc := 40) dX8_swapsRules_40 ?_
        refine mm_ald31 (pc := 41) (x := f ((9 * b) + k)) ok (by omega) (rfl) dX8_swapsRules_41 ?_
        refine mm_ast31 (pc := 42) (f := f) (A1 := (uN A 31 (uZ f ((9 * a) + k) (f ((9 * b) + k))))) ok (by omega) rfl (by funext j; by_cases e0 : j = 31; (subst e0; rfl); simp only [uN, if_neg e0]) dX8_swapsRules_42 ?_
        refine ga_aload_n (pc := 43) dX8_swapsRules_43 rfl ?_
        refine mm_g31 (pc := 44) dX8_swapsRules_44 ?_
        refine ga_bipush (pc := 47) dX8_swapsRules_47 rfl ?_
        refine ga_iload_n (pc := 49) dX8_swapsRules_49 rfl ?_
        refine ga_imul (pc := 50) dX8_swapsRules_50 ?_
        refine ga_iload_n (pc := 51) dX8_swapsRules_51 rfl ?_
        refine ga_iadd (pc := 52) dX8_swapsRules_52 ?_
        refine ga_lload (pc := 53) dX8_swapsRules_53 rfl ?_
        refine mm_ast31 (pc := 55) (f := (uZ f ((9 * a) + k) (f ((9 * b) + k)))) (A1 := (uN A 31 (uZ (uZ f ((9 * a) + k) (f ((9 * b) + k))) ((9 * b) + k) (f ((9 * a) + k))))) ok (by omega) rfl (by funext j; by_cases e0 : j = 31; (subst e0; rfl); simp only [uN, if_neg e0]) dX8_swapsRules_55 ?_
        refine ga_iinc (pc := 56) (L1 := [some (.ref mo), some (.int (iI a)), some (.int (iI b)), some (.int (iI (k + 1))), some (.long (lI (f ((9 * a) + k)))), none]) dX8_swapsRules_56 rfl rfl (by decide) rfl ?_
        refine ga_goto (pc := 59) (tgt := 2) dX8_swapsRules_59 rfl ?_
        refine ga_kill (pc := 2) 4 (L1 := [some (.ref mo), some (.int (iI a)), some (.int (iI b)), some (.int (iI (k + 1))), none, none]) rfl ?_
        exact ih2 (k + 1) (uZ (uZ f ((9 * a) + k) (f ((9 * b) + k))) ((9 * b) + k) (f ((9 * a) + k))) (by omega) (eSw_s (w := 9) (Or.inr (Or.inr rfl)) (by omega) h1.1 h1.2.1 (by omega) hf) (by omega)
  exact lp2 _ 0 (A 31) (by omega) (fun p q p0 p1 q0 q1 => (hT p q p0 p1 q0 q1).trans (if_neg (by omega)).symm) (Nat.lt_succ_self _)
theorem k_X8_swapsRules {X : ga_X} {nL : Nat} {cc : ByteArray} {mo : Nat} {ad : Nat → Nat} {I : Nat → Int} {A : Nat → Int → Int} {d pc : Nat} {L : List (Option Value)} {st : List Value} {a b H : Int} {T : Int → Int → Int}  (ok : mOk mo ad) (h1 : (0 ≤ a ∧ a < H) ∧ (0 ≤ b ∧ b < H) ∧ H ≤ 7) (hT : eOn H 8 9 (A 31) T)  (hR : 0 + 1 ≤ d ∧ 19 + 6 + 64 * 0 ≤ 64 * d) (hs : (st.map fun v => v.category).sum ≤ 8) (dd : decode cc pc = .ok (.invokevirtual 286, 3)) (kk : ∀ (I1 : Nat → Int) (A1 : Nat → Int → Int), (I1 = I ∧ ∃ f, A1 = uN A 31 f ∧ eOn H 8 9 f (eSw T a b)) → G X (gR d) RX8 nL cc (mH mo ad I1 A1) 0 0 (pc + 3) L st) : G X (gR d) RX8 nL cc (mH mo ad I A) 0 0 pc L (.int (iI b) :: .int (iI a) :: .ref mo :: st) :=
  mm_run ok (m_X8_swapsRules _ _ mo ad I A a b H T h1 hT) (lw_V q1951 q1953 qs78 q113 q1954) rfl (show ga_nn' yX8_swapsRules 2 from (by unfold ga_nn'; decide +kernel)) hR hs dd rfl (fun v I1 A1 hp => by
    obtain ⟨rfl, hp⟩ := hp
    exact kk I1 A1 hp)
set_option maxHeartbeats 4000000 in
set_option maxRecDepth 100000 in
theorem m_X8_clearsRules (l : Launch) (D : ga_G) (mo : Nat) (ad : Nat → Nat) (I : Nat → Int) (A : Nat → Int → Int) (ro H c de : Int) (T : Int → Int → Int) (h1 : (0 ≤ ro ∧ ro < H) ∧ (0 ≤ c ∧ c ≤ 8) ∧ H ≤ 7) (hd : de ≠ 0 ∧ z40 de) (hT : eOn H 8 9 (A 31) T) (hpr : ∀ p q : Int, 0 ≤ p → p < H → p ≠ ro → 0 ≤ q → q ≤ 9 → z62 (T ro c * T p q) ∧ z62 (T p c * T ro q)) : mM l D yX8_clearsRules (ws_ yX8_clearsRules cX8_clearsRules 12 (some .long)) (gR 0) [.int (iI ro), .int (iI H), .int (iI c), .long (lI de)] mo ad I A (mL (fun r I1 A1 => r = T ro c ∧ I1 = I ∧ ∃ f, A1 = uN A 31 f ∧ eOn H 8 9 f (eCl T ro c de))) := by
  refine mm_met 6 rfl (Nat.le_of_ble_eq_true rfl) (L0 := [some (.ref mo), some (.int (iI ro)), some (.int (iI H)), some (.int (iI c)), some (.long (lI de)), none, none, none, none, none, none, none]) rfl (fun X ok hE => ?_)
  refine ga_aload_n (pc := 0) dX8_clearsRules_0 rfl ?_
  refine mm_g31 (pc := 1) dX8_clearsRules_1 ?_
  refine ga_bipush (pc := 4) dX8_clearsRules_4 rfl ?_
  refine ga_iload_n (pc := 6) dX8_clearsRules_6 rfl ?_
  refine ga_imul (pc := 7) dX8_clearsRules_7 ?_
  refine ga_iload_n (pc := 8) dX8_clearsRules_8 rfl ?_
  refine ga_iadd (pc := 9) dX8_clearsRules_9 ?_
  refine mm_ald31 (pc := 10) (x := T ro c) ok (by omega) (hT ro c (by omega) (by omega) (by omega) (by omega)) dX8_clearsRules_10 ?_
  refine ga_lstore (pc := 11) (L1 := [some (.ref mo), some (.int (iI ro)), some (.int (iI H)), some (.int (iI c)), some (.long (lI de)), none, some (.long (lI (T ro c))), none, none, none, none, none]) dX8_clearsRules_11 rfl (by decide) rfl ?_
  refine ga_iconst (pc := 13) dX8_clearsRules_13 ?_
  refine ga_istore (pc := 14) (L1 := [some (.ref mo), some (.int (iI ro)), some (.int (iI H)), some (.int (iI c)), some (.long (lI de)), none, some (.long (lI (T ro c))), none, some (.int (iI 0)), none, none, none]) dX8_clearsRules_14 rfl (by decide) rfl ?_
  refine ga_heq (pc := 16) (h1 := mH mo ad I (uN A 31 (A 31))) (congr (congrArg (mH mo ad) (rfl)) (by funext j; by_cases e0 : j = 31; (subst e0; exact (show (A 31) = (A 31) from rfl)); simp only [uN, if_neg e0])) ?_
  have lp16 : ∀ (N16 : Nat) (i : Int) (f : Int → Int), (0 ≤ i ∧ i ≤ H) → (eOn H 8 9 f (fun p q => if p < i then eCl T ro c de p q else T p q)) → (H - i).toNat < N16 → G X (gR 0) RX8 12 cX8_clearsRules (mH mo ad I (uN A 31 f)) 0 0 16 [some (.ref mo), some (.int (iI ro)), some (.int (iI H)), some (.int (iI c)), some (.long (lI de)), none, some (.long (lI (T ro c))), none, some (.int (iI i)), none, none, none] [] := by
    intro N16
    induction N16 with
    | zero => intro i f hi hf hN16; exact absurd hN16 (Nat.not_lt_zero _)
    | succ N16 ih16 =>
      intro i f hi hf hN16
      refine ga_iload (pc := 16) dX8_clearsRules_16 rfl ?_
      refine ga_iload_n (pc := 18) dX8_clearsRules_18 rfl ?_
      refine ga_icmp_ge (pc := 19) (tgt := 112) dX8_clearsRules_19 rfl (by omega) (by omega) (fun c19 => ?_) (fun c19 => ?_)
      · skip
        refine ga_lload (pc := 112) dX8_clearsRules_112 rfl ?_
        exact mm_lret hE dX8_clearsRules_114 (⟨_, rfl, by dsimp only; (obtain rfl : i = H := by omega); exact ⟨rfl, rfl, f, rfl, fun p q p0 p1 q0 q1 => (hf p q p0 p1 q0 q1).trans (if_pos (by omega))⟩⟩)
      · skip
        refine ga_aload_n (pc := 22) dX8_clearsRules_22 rfl ?_
        refine mm_g31 (pc := 23) dX8_clearsRules_23 ?_
        refine ga_bipush (pc := 26) dX8_clearsRules_26 rfl ?_
        refine ga_iload (pc := 28) dX8_clearsRules_28 rfl ?_
        refine ga_imul (pc := 30) dX8_clearsRules_30 ?_
        refine ga_iload_n (pc := 31) dX8_clearsRules_31 rfl ?_
        refine ga_iadd (pc := 32) dX8_clearsRules_32 ?_
        refine mm_ald31 (pc := 33) (x := T i c) ok (by omega) ((hf i c (by omega) (by omega) (by omega) (by omega)).trans (if_neg (by omega))) dX8_clearsRules_33 ?_
        refine ga_lstore (pc := 34) (L1 := [some (.ref mo), some (.int (iI ro)), some (.int (iI H)), some (.int (iI c)), some (.long (lI de)), none, some (.long (lI (T ro c))), none, some (.int (iI i)), some (.long (lI (T i c))), none, none]) dX8_clearsRules_34 rfl (by decide) rfl ?_
        refine ga_iconst (pc := 36) dX8_clearsRules_36 ?_
        refine ga_istore (pc := 37) (L1 := [some (.ref mo), some (.int (iI ro)), some (.int (iI H)), some (.int (iI c)), some (.long (lI de)), none, some (.long (lI (T ro c))), none, some (.int (iI i)), some (.long (lI (T i c))), none, some (.int (iI 0))]) dX8_clearsRules_37 rfl (by decide) rfl ?_
        have jn106 : ∀ (f2 : Int → Int), (eOn H 8 9 f2 (fun p q => if p < i + 1 then eCl T ro c de p q else T p q)) → G X (gR 0) RX8 12 cX8_clearsRules (mH mo ad I (uN A 31 f2)) 0 0 106 [some (.ref mo), some (.int (iI ro)), some (.int (iI H)), some (.int (iI c)), some (.long (lI de)), none, some (.long (lI (T ro c))), none, some (.int (iI i)), none, none, none] [] := by
          intro f2 hf2
          refine ga_iinc (pc := 106) (L1 := [some (.ref mo), some (.int (iI ro)), some (.int (iI H)), some (.int (iI c)), some (.long (lI de)), none, some (.long (lI (T ro c))), none, some (.int (iI (i + 1))), none, none, none]) dX8_clearsRules_106 rfl rfl (by decide) rfl ?_
          refine ga_goto (pc := 109) (tgt := 16) dX8_clearsRules_109 rfl ?_
          exact ih16 (i + 1) f2 (by omega) (by omega) (by omega)
        have lp39 : ∀ (N39 : Nat) (k : Int) (g : Int → Int), (0 ≤ k ∧ k ≤ 9 ∧ (i = ro → k = 0)) → (eOn H 8 9 g (fun p q => if p < i ∨ (p = i ∧ q < k) then eCl T ro c de p q else T p q)) → (9 - k).toNat < N39 → G X (gR 0) RX8 12 cX8_clearsRules (mH mo ad I (uN A 31 g)) 0 0 39 [some (.ref mo), some (.int (iI ro)), some (.int (iI H)), some (.int (iI c)), some (.long (lI de)), none, some (.long (lI (T ro c))), none, some (.int (iI i)), some (.long (lI (T i c))), none, some (.int (iI k))] [] := by
          intro N39
          induction N39 with
          | zero => intro k g hk hg hN39; exact absurd hN39 (Nat.not_lt_zero _)
          | succ N39 ih39 =>
            intro k g hk hg hN39
            refine ga_iload (pc := 39) dX8_clearsRules_39 rfl ?_
            refine ga_bipush (pc := 41) dX8_clearsRules_41 rfl ?_
            refine ga_icmp_ge (pc := 43) (tgt := 106) dX8_clearsRules_43 rfl (by omega) (by omega) (fun c43 => ?_) (fun c43 => ?_)
            · skip
              refine ga_kill (pc := 106) 9 (L1 := [some (.ref mo), some (.int (iI ro)), some (.int (iI H)), some (.int (iI c)), some (.long (lI de)), none, some (.long (lI (T ro c))), none, some (.int (iI i)), none, none, some (.int (iI k))]) rfl ?_
              refine ga_kill (pc := 106) 11 (L1 := [some (.ref mo), some (.int (iI ro)), some (.int (iI H)), some (.int (iI c)), some (.long (lI de)), none, some (.long (lI (T ro c))), none, some (.int (iI i)), none, none, none]) rfl ?_
              exact jn106 g (fun p q p0 p1 q0 q1 => (hg p q p0 p1 q0 q1).trans (by dsimp only; by_cases e : p < i + 1; (by_cases e2 : p < i ∨ (p = i ∧ q < k); (rw [if_pos e, if_pos e2]); rw [if_pos e, if_neg e2]; unfold eCl; rw [if_pos (by omega), show p = ro by omega]); rw [if_neg e, if_neg (by omega)]))
            · skip
              refine ga_iload (pc := 46) dX8_clearsRules_46 rfl ?_
              refine ga_iload_n (pc := 48) dX8_clearsRules_48 rfl ?_
              refine ga_icmp_eq (pc := 49) (tgt := 106) dX8_clearsRules_49 rfl (by omega) (by omega) (fun c49 => ?_) (fun c49 => ?_)
              · skip
                refine ga_kill (pc := 106) 9 (L1 := [some (.ref mo), some (.int (iI ro)), some (.int (iI H)), some (.int (iI c)), some (.long (lI de)), none, some (.long (lI (T ro c))), none, some (.int (iI i)), none, none, some (.int (iI k))]) rfl ?_
                refine ga_kill (pc := 106) 11 (L1 := [some (.ref mo), some (.int (iI ro)), some (.int (iI H)), some (.int (iI c)), some (.long (lI de)), none, some (.long (lI (T ro c))), none, some (.int (iI i)), none, none, none]) rfl ?_
                exact jn106 g (fun p q p0 p1 q0 q1 => (hg p q p0 p1 q0 q1).trans (by dsimp only; by_cases e : p < i + 1; (by_cases e2 : p < i ∨ (p = i ∧ q < k); (rw [if_pos e, if_pos e2]); rw [if_pos e, if_neg e2]; unfold eCl; rw [if_pos (by omega), show p = ro by omega]); rw [if_neg e, if_neg (by omega)]))
              · skip
                refine ga_aload_n (pc := 52) dX8_clearsRules_52 rfl ?_
                refine mm_g31 (pc := 53) dX8_clearsRules_53 ?_
                refine ga_bipush (pc := 56) dX8_clearsRules_56 rfl ?_
                refine ga_iload (pc := 58) dX8_clearsRules_58 rfl ?_
                refine ga_imul (pc := 60) dX8_clearsRules_60 ?_
                refine ga_iload (pc := 61) dX8_clearsRules_61 rfl ?_
                refine ga_iadd (pc := 63) dX8_clearsRules_63 ?_
                refine ga_lload (pc := 64) dX8_clearsRules_64 rfl ?_
                refine ga_aload_n (pc := 66) dX8_clearsRules_66 rfl ?_
                refine mm_g31 (pc := 67) dX8_clearsRules_67 ?_
                refine ga_bipush (pc := 70) dX8_clearsRules_70 rfl ?_
                refine ga_iload (pc := 72) dX8_clearsRules_72 rfl ?_
                refine ga_imul (pc := 74) dX8_clearsRules_74 ?_
                refine ga_iload (pc := 75) dX8_clearsRules_75 rfl ?_
                refine ga_iadd (pc := 77) dX8_clearsRules_77 ?_
                refine mm_ald31 (pc := 78) (x := T i k) ok (by omega) ((hg i k (by omega) (by omega) (by omega) (by omega)).trans (if_neg (by omega))) dX8_clearsRules_78 ?_
                refine ga_lmul (pc := 79) dX8_clearsRules_79 ?_
                refine ga_lload (pc := 80) dX8_clearsRules_80 rfl ?_
                refine ga_aload_n (pc := 82) dX8_clearsRules_82 rfl ?_
                refine mm_g31 (pc := 83) dX8_clearsRules_83 ?_
                refine ga_bipush (pc := 86) dX8_clearsRules_86 rfl ?_
                refine ga_iload_n (pc := 88) dX8_clearsRules_88 rfl ?_
                refine ga_imul (pc := 89) dX8_clearsRules_89 ?_
                refine ga_iload (pc := 90) dX8_clearsRules_90 rfl ?_
                refine ga_iadd (pc := 92) dX8_clearsRules_92 ?_
                refine mm_ald31 (pc := 93) (x := T ro k) ok (by omega) ((hg ro k (by omega) (by omega) (by omega) (by omega)).trans (by dsimp only; split; (unfold eCl; rw [if_pos rfl]); rfl)) dX8_clearsRules_93 ?_
                refine ga_lmul (pc := 94) dX8_clearsRules_94 ?_
                refine ga_lsub (pc := 95) dX8_clearsRules_95 ?_
                refine ga_lload (pc := 96) dX8_clearsRules_96 rfl ?_
                have hs1 := hpr i k (by omega) (by omega) (by omega) (by omega) (by omega)
                refine ga_ldiv (pc := 98) dX8_clearsRules_98 (by omega) (by omega) (by omega) ?_
                refine mm_ast31 (pc := 99) (f := g) (A1 := (uN A 31 (uZ g ((9 * i) + k) ((((T ro c) * (T i k)) - ((T i c) * (T ro k))).tdiv de)))) ok (by omega) rfl (by funext j; by_cases e0 : j = 31; (subst e0; rfl); simp only [uN, if_neg e0]) dX8_clearsRules_99 ?_
                refine ga_iinc (pc := 100) (L1 := [some (.ref mo), some (.int (iI ro)), some (.int (iI H)), some (.int (iI c)), some (.long (lI de)), none, some (.long (lI (T ro c))), none, some (.int (iI i)), some (.long (lI (T i c))), none, some (.int (iI (k + 1)))]) dX8_clearsRules_100 rfl rfl (by decide) rfl ?_
                refine ga_goto (pc := 103) (tgt := 39) dX8_clearsRules_103 rfl ?_
                exact ih39 (k + 1) (uZ g ((9 * i) + k) ((((T ro c) * (T i k)) - ((T i c) * (T ro k))).tdiv de)) (by omega) (eCl_s (w := 9) (Or.inr (Or.inr rfl)) (by omega) (by omega) (by omega) hg) (by omega)
        exact lp39 _ 0 f (by omega) (fun p q p0 p1 q0 q1 => (hf p q p0 p1 q0 q1).trans (by dsimp only; by_cases e : p < i; (rw [if_pos e, if_pos (Or.inl e)]); rw [if_neg e, if_neg (by omega)])) (Nat.lt_succ_self _)
  exact lp16 _ 0 (A 31) (by omega) (fun p q p0 p1 q0 q1 => (hT p q p0 p1 q0 q1).trans (if_neg (by omega)).symm) (Nat.lt_succ_self _)
theorem k_X8_clearsRules {X : ga_X} {nL : Nat} {cc : ByteArray} {mo : Nat} {ad : Nat → Nat} {I : Nat → Int} {A : Nat → Int → Int} {d pc : Nat} {L : List (Option Value)} {st : List Value} {ro H c de : Int} {T : Int → Int → Int}  (ok : mOk mo ad) (h1 : (0 ≤ ro ∧ ro < H) ∧ (0 ≤ c ∧ c ≤ 8) ∧ H ≤ 7) (hd : de ≠ 0 ∧ z40 de) (hT : eOn H 8 9 (A 31) T) (hpr : ∀ p q : Int, 0 ≤ p → p < H → p ≠ ro → 0 ≤ q → q ≤ 9 → z62 (T ro c * T p q) ∧ z62 (T p c * T ro q))  (hR : 0 + 1 ≤ d ∧ 19 + 12 + 64 * 0 ≤ 64 * d) (hs : (st.map fun v => v.category).sum ≤ 8) (dd : decode cc pc = .ok (.invokevirtual 289, 3)) (kk : ∀ (r : Int) (I1 : Nat → Int) (A1 : Nat → Int → Int), (r = T ro c ∧ I1 = I ∧ ∃ f, A1 = uN A 31 f ∧ eOn H 8 9 f (eCl T ro c de)) → G X (gR d) RX8 nL cc (mH mo ad I1 A1) 0 0 (pc + 3) L (.long (lI r) :: st)) : G X (gR d) RX8 nL cc (mH mo ad I A) 0 0 pc L (.long (lI de) :: .int (iI c) :: .int (iI H) :: .int (iI ro) :: .ref mo :: st) :=
  mm_run ok (m_X8_clearsRules _ _ mo ad I A ro H c de T h1 hd hT hpr) (lw_V q1955 q1957 qs79 q113 q1958) rfl (show ga_nn' yX8_clearsRules 4 from (by unfold ga_nn'; decide +kernel)) hR hs dd rfl (fun v I1 A1 hp => by
    obtain ⟨r, rfl, hp⟩ := hp
    exact kk r I1 A1 hp)
