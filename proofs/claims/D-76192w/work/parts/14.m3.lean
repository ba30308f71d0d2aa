/-! THE REFERENCE: the text's entries and tables -/
/-- the first k places told anew out of another row -/
def mC (f g : Int → Int) (k : Int) : Int → Int := fun x => if 0 ≤ x ∧ x < k then g x else f x
theorem mC_s (f g : Int → Int) {k : Int} (hk : 0 ≤ k) : uZ (mC f g k) k (g k) = mC f g (k + 1) := by
  funext x
  unfold uZ mC
  by_cases h : x = k
  · rw [if_pos h, if_pos (by omega), h]
  · rw [if_neg h]
    by_cases h2 : 0 ≤ x ∧ x < k
    · rw [if_pos h2, if_pos (by omega)]
    · rw [if_neg h2, if_neg (by omega)]
theorem mC_0 (f g : Int → Int) : mC f g 0 = f := by
  funext x
  unfold mC
  rw [if_neg (by omega)]
def tNum (T : Int → Int) (a : Int) : Nat → Int
  | 0 => 0
  | n + 1 => 10 * tNum T a n + T (a + n) - 48
theorem tNum_s (T : Int → Int) {a k : Int} (h : a ≤ k) : tNum T a (k + 1 - a).toNat = 10 * tNum T a (k - a).toNat + T k - 48 := by
  rw [show (k + 1 - a).toNat = (k - a).toNat + 1 by omega]
  show 10 * tNum T a (k - a).toNat + T (a + ((k - a).toNat : Nat)) - 48 = _
  rw [show a + (((k - a).toNat : Nat) : Int) = k by omega]
abbrev tLs (T : Int → Int) (fr to : Int) : Prop := to - fr = 1 ∧ T fr = 45
def tEs (T : Int → Int) (N fr to : Int) : Int × Int := if tLs T fr to then (tkFrom T N to, tkTo T N to) else (fr, to)
def tV (T : Int → Int) (N fr to : Int) : Int := if tLs T fr to then 0 - tNum T (tEs T N fr to).1 ((tEs T N fr to).2 - (tEs T N fr to).1).toNat else tNum T (tEs T N fr to).1 ((tEs T N fr to).2 - (tEs T N fr to).1).toNat
abbrev tIn (t v : Int) : Prop := (t = 2 ∧ -50 ≤ v ∧ v ≤ 50) ∨ (t ≠ 2 ∧ -5 ≤ v ∧ v ≤ 5)
abbrev tOk (T : Int → Int) (N t fr to : Int) : Prop := (tEs T N fr to).1 ≠ N ∧ (48 ≤ T (tEs T N fr to).1 ∧ T (tEs T N fr to).1 ≤ 57) ∧ (tEs T N fr to).2 - (tEs T N fr to).1 ≤ 2 ∧ tIn t (tV T N fr to)
/-- fault (-1: none), from, to, entries -/
abbrev tR : Type := Int × Int × Int × (Int → Int)
def tCell (T : Int → Int) (N t i j : Int) (r : tR) : tR := if tOk T N t r.2.1 r.2.2.1 then (r.1, tkFrom T N (tEs T N r.2.1 r.2.2.1).2, tkTo T N (tEs T N r.2.1 r.2.2.1).2, uZ r.2.2.2 (9 * t + 3 * i + j) (tV T N r.2.1 r.2.2.1)) else ((tEs T N r.2.1 r.2.2.1).1, (tEs T N r.2.1 r.2.2.1).1, (tEs T N r.2.1 r.2.2.1).2, r.2.2.2)
theorem tEs_r (T : Int → Int) {N fr to : Int} (h : 0 ≤ fr ∧ fr ≤ to ∧ to ≤ N) : 0 ≤ (tEs T N fr to).1 ∧ (tEs T N fr to).1 ≤ (tEs T N fr to).2 ∧ (tEs T N fr to).2 ≤ N := by
  unfold tEs
  split
  · have := tk_r T h.2.2
    exact ⟨by omega, this.2.1, this.2.2.1⟩
  · exact h
theorem tCell_r (T : Int → Int) {N t i j : Int} {r : tR} (h : 0 ≤ r.2.1 ∧ r.2.1 ≤ r.2.2.1 ∧ r.2.2.1 ≤ N) (hf : r.1 = -1) : (0 ≤ (tCell T N t i j r).2.1 ∧ (tCell T N t i j r).2.1 ≤ (tCell T N t i j r).2.2.1 ∧ (tCell T N t i j r).2.2.1 ≤ N) ∧ ((tCell T N t i j r).1 = -1 ∨ (0 ≤ (tCell T N t i j r).1 ∧ (tCell T N t i j r).1 ≤ N)) := by
  have h1 := tEs_r T h
  unfold tCell
  split
  · have := tk_r T (N := N) (p := (tEs T N r.2.1 r.2.2.1).2) h1.2.2
    exact ⟨⟨by show 0 ≤ tkFrom _ _ _; omega, this.2.1, this.2.2.1⟩, Or.inl hf⟩
  · exact ⟨h1, Or.inr ⟨h1.1, by show (tEs T N r.2.1 r.2.2.1).1 ≤ N; omega⟩⟩
set_option maxHeartbeats 4000000 in
set_option maxRecDepth 100000 in
theorem m_X8_saves_02 (l : Launch) (D : ga_G) (mo : Nat) (ad : Nat → Nat) (I : Nat → Int) (A : Nat → Int → Int)   : mM l D yX8_saves (ws_ yX8_saves cX8_saves 4 none) (gR 0) [.ref (ad 0), .ref (ad 2)] mo ad I A (mV (fun I1 A1 => I1 = I ∧ A1 = (uN A 2 (mC (A 2) (A 0) 27)))) := by
  refine mm_met 1 rfl (Nat.le_of_ble_eq_true rfl) (L0 := [some (.ref mo), some (.ref (ad 0)), some (.ref (ad 2)), none]) rfl (fun X ok hE => ?_)
  refine ga_iconst (pc := 0) dX8_saves_0 ?_
  refine ga_istore_n (pc := 1) (L1 := [some (.ref mo), some (.ref (ad 0)), some (.ref (ad 2)), some (.int (iI 0))]) dX8_saves_1 rfl (by decide) rfl ?_
  refine ga_heq (pc := 2) (h1 := mH mo ad I (uN A 2 (mC (A 2) (A 0) 0))) (congr (congrArg (mH mo ad) (rfl)) (by funext j; by_cases e0 : j = 2; (subst e0; exact (show (A 2) = (mC (A 2) (A 0) 0) from (mC_0 _ _).symm)); simp only [uN, if_neg e0])) ?_
  have lp2 : ∀ (N2 : Nat) (k : Int), (0 ≤ k ∧ k ≤ 27) → (27 - k).toNat < N2 → G X (gR 0) RX8 4 cX8_saves (mH mo ad I (uN A 2 (mC (A 2) (A 0) k))) 0 0 2 [some (.ref mo), some (.ref (ad 0)), some (.ref (ad 2)), some (.int (iI k))] [] := by
    intro N2
    induction N2 with
    | zero => intro k hk hN2; exact absurd hN2 (Nat.not_lt_zero _)
    | succ N2 ih2 =>
      intro k hk hN2
      refine ga_iload_n (pc := 2) dX8_saves_2 rfl ?_
      refine ga_bipush (pc := 3) dX8_saves_3 rfl ?_
      refine ga_icmp_ge (pc := 5) (tgt := 20) dX8_saves_5 rfl (by omega) (by omega) (fun c5 => ?_) (fun c5 => ?_)
      · skip
        obtain rfl : k = 27 := by omega
        exact mm_vret hE dX8_saves_20 (⟨rfl, rfl, by funext j; by_cases e0 : j = 2; (subst e0; rfl); simp only [uN, if_neg e0]⟩)
      · skip
        refine ga_aload_n (pc := 8) dX8_saves_8 rfl ?_
        refine ga_iload_n (pc := 9) dX8_saves_9 rfl ?_
        refine ga_aload_n (pc := 10) dX8_saves_10 rfl ?_
        refine ga_iload_n (pc := 11) dX8_saves_11 rfl ?_
        refine mm_ald0 (pc := 12) (x := A 0 k) ok (by omega) (rfl) dX8_saves_12 ?_
        refine mm_ast2 (pc := 13) (f := mC (A 2) (A 0) k) (A1 := (uN A 2 (uZ (mC (A 2) (A 0) k) k (A 0 k)))) ok (by omega) rfl (by funext j; by_cases e0 : j = 2; (subst e0; rfl); simp only [uN, if_neg e0]) dX8_saves_13 ?_
        refine ga_iinc (pc := 14) (L1 := [some (.ref mo), some (.ref (ad 0)), some (.ref (ad 2)), some (.int (iI (k + 1)))]) dX8_saves_14 rfl rfl (by decide) rfl ?_
        refine ga_goto (pc := 17) (tgt := 2) dX8_saves_17 rfl ?_
        refine ga_heq (pc := 2) (h1 := mH mo ad I (uN A 2 (mC (A 2) (A 0) (k + 1)))) (congr (congrArg (mH mo ad) (rfl)) (by funext j; by_cases e0 : j = 2; (subst e0; exact (show (uZ (mC (A 2) (A 0) k) k (A 0 k)) = (mC (A 2) (A 0) (k + 1)) from mC_s _ _ hk.1)); simp only [uN, if_neg e0])) ?_
        exact ih2 (k + 1) (by omega) (by omega)
  exact lp2 _ 0 (by omega) (Nat.lt_succ_self _)
theorem k_X8_saves_02 {X : ga_X} {nL : Nat} {cc : ByteArray} {mo : Nat} {ad : Nat → Nat} {I : Nat → Int} {A : Nat → Int → Int} {d pc : Nat} {L : List (Option Value)} {st : List Value}   {A2 : Nat → Int → Int} (ok : mOk mo ad)   (hA2 : (uN A 2 (mC (A 2) (A 0) 27)) = A2) (hR : 0 + 1 ≤ d ∧ 19 + 4 + 64 * 0 ≤ 64 * d) (hs : (st.map fun v => v.category).sum ≤ 8) (dd : decode cc pc = .ok (.invokevirtual 186, 3)) (kk : G X (gR d) RX8 nL cc (mH mo ad I A2) 0 0 (pc + 3) L st) : G X (gR d) RX8 nL cc (mH mo ad I A) 0 0 pc L (.ref (ad 2) :: .ref (ad 0) :: .ref mo :: st) :=
  mm_run ok (m_X8_saves_02 _ _ mo ad I A  ) (lw_V q1808 q1810 qs55 q113 q1811) rfl (show ga_nn' yX8_saves 2 from (by unfold ga_nn'; decide +kernel)) hR hs dd rfl (fun v I1 A1 hp => by
    obtain ⟨rfl, hp⟩ := hp
    obtain ⟨rfl, rfl⟩ := hp
    subst hA2
    exact kk)
set_option maxHeartbeats 4000000 in
set_option maxRecDepth 100000 in
theorem m_X8_saves_20 (l : Launch) (D : ga_G) (mo : Nat) (ad : Nat → Nat) (I : Nat → Int) (A : Nat → Int → Int)   : mM l D yX8_saves (ws_ yX8_saves cX8_saves 4 none) (gR 0) [.ref (ad 2), .ref (ad 0)] mo ad I A (mV (fun I1 A1 => I1 = I ∧ A1 = (uN A 0 (mC (A 0) (A 2) 27)))) := by
  refine mm_met 1 rfl (Nat.le_of_ble_eq_true rfl) (L0 := [some (.ref mo), some (.ref (ad 2)), some (.ref (ad 0)), none]) rfl (fun X ok hE => ?_)
  refine ga_iconst (pc := 0) dX8_saves_0 ?_
  refine ga_istore_n (pc := 1) (L1 := [some (.ref mo), some (.ref (ad 2)), some (.ref (ad 0)), some (.int (iI 0))]) dX8_saves_1 rfl (by decide) rfl ?_
  refine ga_heq (pc := 2) (h1 := mH mo ad I (uN A 0 (mC (A 0) (A 2) 0))) (congr (congrArg (mH mo ad) (rfl)) (by funext j; by_cases e0 : j = 0; (subst e0; exact (show (A 0) = (mC (A 0) (A 2) 0) from (mC_0 _ _).symm)); simp only [uN, if_neg e0])) ?_
  have lp2 : ∀ (N2 : Nat) (k : Int), (0 ≤ k ∧ k ≤ 27) → (27 - k).toNat < N2 → G X (gR 0) RX8 4 cX8_saves (mH mo ad I (uN A 0 (mC (A 0) (A 2) k))) 0 0 2 [some (.ref mo), some (.ref (ad 2)), some (.ref (ad 0)), some (.int (iI k))] [] := by
    intro N2
    induction N2 with
    | zero => intro k hk hN2; exact absurd hN2 (Nat.not_lt_zero _)
    | succ N2 ih2 =>
      intro k hk hN2
      refine ga_iload_n (pc := 2) dX8_saves_2 rfl ?_
      refine ga_bipush (pc := 3) dX8_saves_3 rfl ?_
      refine ga_icmp_ge (pc := 5) (tgt := 20) dX8_saves_5 rfl (by omega) (by omega) (fun c5 => ?_) (fun c5 => ?_)
      · skip
        obtain rfl : k = 27 := by omega
        exact mm_vret hE dX8_saves_20 (⟨rfl, rfl, by funext j; by_cases e0 : j = 0; (subst e0; rfl); simp only [uN, if_neg e0]⟩)
      · skip
        refine ga_aload_n (pc := 8) dX8_saves_8 rfl ?_
        refine ga_iload_n (pc := 9) dX8_saves_9 rfl ?_
        refine ga_aload_n (pc := 10) dX8_saves_10 rfl ?_
        refine ga_iload_n (pc := 11) dX8_saves_11 rfl ?_
        refine mm_ald2 (pc := 12) (x := A 2 k) ok (by omega) (rfl) dX8_saves_12 ?_
        refine mm_ast0 (pc := 13) (f := mC (A 0) (A 2) k) (A1 := (uN A 0 (uZ (mC (A 0) (A 2) k) k (A 2 k)))) ok (by omega) rfl (by funext j; by_cases e0 : j = 0; (subst e0; rfl); simp only [uN, if_neg e0]) dX8_saves_13 ?_
        refine ga_iinc (pc := 14) (L1 := [some (.ref mo), some (.ref (ad 2)), some (.ref (ad 0)), some (.int (iI (k + 1)))]) dX8_saves_14 rfl rfl (by decide) rfl ?_
        refine ga_goto (pc := 17) (tgt := 2) dX8_saves_17 rfl ?_
        refine ga_heq (pc := 2) (h1 := mH mo ad I (uN A 0 (mC (A 0) (A 2) (k + 1)))) (congr (congrArg (mH mo ad) (rfl)) (by funext j; by_cases e0 : j = 0; (subst e0; exact (show (uZ (mC (A 0) (A 2) k) k (A 2 k)) = (mC (A 0) (A 2) (k + 1)) from mC_s _ _ hk.1)); simp only [uN, if_neg e0])) ?_
        exact ih2 (k + 1) (by omega) (by omega)
  exact lp2 _ 0 (by omega) (Nat.lt_succ_self _)
theorem k_X8_saves_20 {X : ga_X} {nL : Nat} {cc : ByteArray} {mo : Nat} {ad : Nat → Nat} {I : Nat → Int} {A : Nat → Int → Int} {d pc : Nat} {L : List (Option Value)} {st : List Value}   {A2 : Nat → Int → Int} (ok : mOk mo ad)   (hA2 : (uN A 0 (mC (A 0) (A 2) 27)) = A2) (hR : 0 + 1 ≤ d ∧ 19 + 4 + 64 * 0 ≤ 64 * d) (hs : (st.map fun v => v.category).sum ≤ 8) (dd : decode cc pc = .ok (.invokevirtual 186, 3)) (kk : G X (gR d) RX8 nL cc (mH mo ad I A2) 0 0 (pc + 3) L st) : G X (gR d) RX8 nL cc (mH mo ad I A) 0 0 pc L (.ref (ad 0) :: .ref (ad 2) :: .ref mo :: st) :=
  mm_run ok (m_X8_saves_20 _ _ mo ad I A  ) (lw_V q1808 q1810 qs55 q113 q1811) rfl (show ga_nn' yX8_saves 2 from (by unfold ga_nn'; decide +kernel)) hR hs dd rfl (fun v I1 A1 hp => by
    obtain ⟨rfl, hp⟩ := hp
    obtain ⟨rfl, rfl⟩ := hp
    subst hA2
    exact kk)
set_option maxHeartbeats 4000000 in
set_option maxRecDepth 100000 in
theorem m_X8_saves_01 (l : Launch) (D : ga_G) (mo : Nat) (ad : Nat → Nat) (I : Nat → Int) (A : Nat → Int → Int)   : mM l D yX8_saves (ws_ yX8_saves cX8_saves 4 none) (gR 0) [.ref (ad 0), .ref (ad 1)] mo ad I A (mV (fun I1 A1 => I1 = I ∧ A1 = (uN A 1 (mC (A 1) (A 0) 27)))) := by
  refine mm_met 1 rfl (Nat.le_of_ble_eq_true rfl) (L0 := [some (.ref mo), some (.ref (ad 0)), some (.ref (ad 1)), none]) rfl (fun X ok hE => ?_)
  refine ga_iconst (pc := 0) dX8_saves_0 ?_
  refine ga_istore_n (pc := 1) (L1 := [some (.ref mo), some (.ref (ad 0)), some (.ref (ad 1)), some (.int (iI 0))]) dX8_saves_1 rfl (by decide) rfl ?_
  refine ga_heq (pc := 2) (h1 := mH mo ad I (uN A 1 (mC (A 1) (A 0) 0))) (congr (congrArg (mH mo ad) (rfl)) (by funext j; by_cases e0 : j = 1; (subst e0; exact (show (A 1) = (mC (A 1) (A 0) 0) from (mC_0 _ _).symm)); simp only [uN, if_neg e0])) ?_
  have lp2 : ∀ (N2 : Nat) (k : Int), (0 ≤ k ∧ k ≤ 27) → (27 - k).toNat < N2 → G X (gR 0) RX8 4 cX8_saves (mH mo ad I (uN A 1 (mC (A 1) (A 0) k))) 0 0 2 [some (.ref mo), some (.ref (ad 0)), some (.ref (ad 1)), some (.int (iI k))] [] := by
    intro N2
    induction N2 with
    | zero => intro k hk hN2; exact absurd hN2 (Nat.not_lt_zero _)
    | succ N2 ih2 =>
      intro k hk hN2
      refine ga_iload_n (pc := 2) dX8_saves_2 rfl ?_
      refine ga_bipush (pc := 3) dX8_saves_3 rfl ?_
      refine ga_icmp_ge (pc := 5) (tgt := 20) dX8_saves_5 rfl (by omega) (by omega) (fun c5 => ?_) (fun c5 => ?_)
      · skip
        obtain rfl : k = 27 := by omega
        exact mm_vret hE dX8_saves_20 (⟨rfl, rfl, by funext j; by_cases e0 : j = 1; (subst e0; rfl); simp only [uN, if_neg e0]⟩)
      · skip
        refine ga_aload_n (pc := 8) dX8_saves_8 rfl ?_
        refine ga_iload_n (pc := 9) dX8_saves_9 rfl ?_
        refine ga_aload_n (pc := 10) dX8_saves_10 rfl ?_
        refine ga_iload_n (pc := 11) dX8_saves_11 rfl ?_
        refine mm_ald0 (pc := 12) (x := A 0 k) ok (by omega) (rfl) dX8_saves_12 ?_
        refine mm_ast1 (pc := 13) (f := mC (A 1) (A 0) k) (A1 := (uN A 1 (uZ (mC (A 1) (A 0) k) k (A 0 k)))) ok (by omega) rfl (by funext j; by_cases e0 : j = 1; (subst e0; rfl); simp only [uN, if_neg e0]) dX8_saves_13 ?_
        refine ga_iinc (pc := 14) (L1 := [some (.ref mo), some (.ref (ad 0)), some (.ref (ad 1)), some (.int (iI (k + 1)))]) dX8_saves_14 rfl rfl (by decide) rfl ?_
        refine ga_goto (pc := 17) (tgt := 2) dX8_saves_17 rfl ?_
        refine ga_heq (pc := 2) (h1 := mH mo ad I (uN A 1 (mC (A 1) (A 0) (k + 1)))) (congr (congrArg (mH mo ad) (rfl)) (by funext j; by_cases e0 : j = 1; (subst e0; exact (show (uZ (mC (A 1) (A 0) k) k (A 0 k)) = (mC (A 1) (A 0) (k + 1)) from mC_s _ _ hk.1)); simp only [uN, if_neg e0])) ?_
        exact ih2 (k + 1) (by omega) (by omega)
  exact lp2 _ 0 (by omega) (Nat.lt_succ_self _)
theorem k_X8_saves_01 {X : ga_X} {nL : Nat} {cc : ByteArray} {mo : Nat} {ad : Nat → Nat} {I : Nat → Int} {A : Nat → Int → Int} {d pc : Nat} {L : List (Option Value)} {st : List Value}   {A2 : Nat → Int → Int} (ok : mOk mo ad)   (hA2 : (uN A 1 (mC (A 1) (A 0) 27)) = A2) (hR : 0 + 1 ≤ d ∧ 19 + 4 + 64 * 0 ≤ 64 * d) (hs : (st.map fun v => v.category).sum ≤ 8) (dd : decode cc pc = .ok (.invokevirtual 186, 3)) (kk : G X (gR d) RX8 nL cc (mH mo ad I A2) 0 0 (pc + 3) L st) : G X (gR d) RX8 nL cc (mH mo ad I A) 0 0 pc L (.ref (ad 1) :: .ref (ad 0) :: .ref mo :: st) :=
  mm_run ok (m_X8_saves_01 _ _ mo ad I A  ) (lw_V q1808 q1810 qs55 q113 q1811) rfl (show ga_nn' yX8_saves 2 from (by unfold ga_nn'; decide +kernel)) hR hs dd rfl (fun v I1 A1 hp => by
    obtain ⟨rfl, hp⟩ := hp
    obtain ⟨rfl, rfl⟩ := hp
    subst hA2
    exact kk)
set_option maxHeartbeats 4000000 in
set_option maxRecDepth 100000 in
theorem m_X8_saves_10 (l : Launch) (D : ga_G) (mo : Nat) (ad : Nat → Nat) (I : Nat → Int) (A : Nat → Int → Int)   : mM l D yX8_saves (ws_ yX8_saves cX8_saves 4 none) (gR 0) [.ref (ad 1), .ref (ad 0)] mo ad I A (mV (fun I1 A1 => I1 = I ∧ A1 = (uN A 0 (mC (A 0) (A 1) 27)))) := by
  refine mm_met 1 rfl (Nat.le_of_ble_eq_true rfl) (L0 := [some (.ref mo), some (.ref (ad 1)), some (.ref (ad 0)), none]) rfl (fun X ok hE => ?_)
  refine ga_iconst (pc := 0) dX8_saves_0 ?_
  refine ga_istore_n (pc := 1) (L1 := [some (.ref mo), some (.ref (ad 1)), some (.ref (ad 0)), some (.int (iI 0))]) dX8_saves_1 rfl (by decide) rfl ?_
  refine ga_heq (pc := 2) (h1 := mH mo ad I (uN A 0 (mC (A 0) (A 1) 0))) (congr (congrArg (mH mo ad) (rfl)) (by funext j; by_cases e0 : j = 0; (subst e0; exact (show (A 0) = (mC (A 0) (A 1) 0) from (mC_0 _ _).symm)); simp only [uN, if_neg e0])) ?_
  have lp2 : ∀ (N2 : Nat) (k : Int), (0 ≤ k ∧ k ≤ 27) → (27 - k).toNat < N2 → G X (gR 0) RX8 4 cX8_saves (mH mo ad I (uN A 0 (mC (A 0) (A 1) k))) 0 0 2 [some (.ref mo), some (.ref (ad 1)), some (.ref (ad 0)), some (.int (iI k))] [] := by
    intro N2
    induction N2 with
    | zero => intro k hk hN2; exact absurd hN2 (Nat.not_lt_zero _)
    | succ N2 ih2 =>
      intro k hk hN2
      refine ga_iload_n (pc := 2) dX8_saves_2 rfl ?_
      refine ga_bipush (pc := 3) dX8_saves_3 rfl ?_
      refine ga_icmp_ge (pc := 5) (tgt := 20) dX8_saves_5 rfl (by omega) (by omega) (fun c5 => ?_) (fun c5 => ?_)
      · skip
        obtain rfl : k = 27 := by omega
        exact mm_vret hE dX8_saves_20 (⟨rfl, rfl, by funext j; by_cases e0 : j = 0; (subst e0; rfl); simp only [uN, if_neg e0]⟩)
      · skip
        refine ga_aload_n (pc := 8) dX8_saves_8 rfl ?_
        refine ga_iload_n (pc := 9) dX8_saves_9 rfl ?_
        refine ga_aload_n (pc := 10) dX8_saves_10 rfl ?_
        refine ga_iload_n (pc := 11) dX8_saves_11 rfl ?_
        refine mm_ald1 (pc := 12) (x := A 1 k) ok (by omega) (rfl) dX8_saves_12 ?_
        refine mm_ast0 (pc := 13) (f := mC (A 0) (A 1) k) (A1 := (uN A 0 (uZ (mC (A 0) (A 1) k) k (A 1 k)))) ok (by omega) rfl (by funext j; by_cases e0 : j = 0; (subst e0; rfl); simp only [uN, if_neg e0]) dX8_saves_13 ?_
        refine ga_iinc (pc := 14) (L1 := [some (.ref mo), some (.ref (ad 1)), some (.ref (ad 0)), some (.int (iI (k + 1)))]) dX8_saves_14 rfl rfl (by decide) rfl ?_
        refine ga_goto (pc := 17) (tgt := 2) dX8_saves_17 rfl ?_
        refine ga_heq (pc := 2) (h1 := mH mo ad I (uN A 0 (mC (A 0) (A 1) (k + 1)))) (congr (congrArg (mH mo ad) (rfl)) (by funext j; by_cases e0 : j = 0; (subst e0; exact (show (uZ (mC (A 0) (A 1) k) k (A 1 k)) = (mC (A 0) (A 1) (k + 1)) from mC_s _ _ hk.1)); simp only [uN, if_neg e0])) ?_
        exact ih2 (k + 1) (by omega) (by omega)
  exact lp2 _ 0 (by omega) (Nat.lt_succ_self _)
theorem k_X8_saves_10 {X : ga_X} {nL : Nat} {cc : ByteArray} {mo : Nat} {ad : Nat → Nat} {I : Nat → Int} {A : Nat → Int → Int} {d pc : Nat} {L : List (Option Value)} {st : List Value}   {A2 : Nat → Int → Int} (ok : mOk mo ad)   (hA2 : (uN A 0 (mC (A 0) (A 1) 27)) = A2) (hR : 0 + 1 ≤ d ∧ 19 + 4 + 64 * 0 ≤ 64 * d) (hs : (st.map fun v => v.category).sum ≤ 8) (dd : decode cc pc = .ok (.invokevirtual 186, 3)) (kk : G X (gR d) RX8 nL cc (mH mo ad I A2) 0 0 (pc + 3) L st) : G X (gR d) RX8 nL cc (mH mo ad I A) 0 0 pc L (.ref (ad 0) :: .ref (ad 1) :: .ref mo :: st) :=
  mm_run ok (m_X8_saves_10 _ _ mo ad I A  ) (lw_V q1808 q1810 qs55 q113 q1811) rfl (show ga_nn' yX8_saves 2 from (by unfold ga_nn'; decide +kernel)) hR hs dd rfl (fun v I1 A1 hp => by
    obtain ⟨rfl, hp⟩ := hp
    obtain ⟨rfl, rfl⟩ := hp
    subst hA2
    exact kk)
set_option maxHeartbeats 4000000 in
set_option maxRecDepth 100000 in
theorem m_X8_entryOf (l : Launch) (D : ga_G) (mo : Nat) (ad : Nat → Nat) (I : Nat → Int) (A : Nat → Int → Int) (t i j : Int) (ht : 0 ≤ I 18 ∧ I 18 ≤ I 19 ∧ I 19 ≤ I 17 ∧ I 17 ≤ 200) (hb : mBy A) (h1 : (0 ≤ t ∧ t ≤ 2) ∧ (0 ≤ i ∧ i ≤ 2) ∧ 0 ≤ j ∧ j ≤ 2) (hf : I 20 = -1) : mM l D yX8_entryOf (ws_ yX8_entryOf cX8_entryOf 7 none) (gR 2) [.int (iI t), .int (iI i), .int (iI j)] mo ad I A (mV (fun I1 A1 => I1 = (uN (uN (uN I 18 ((tCell (A 16) (I 17) t i j (I 20, I 18, I 19, A 0)).2.1)) 19 ((tCell (A 16) (I 17) t i j (I 20, I 18, I 19, A 0)).2.2.1)) 20 ((tCell (A 16) (I 17) t i j (I 20, I 18, I 19, A 0)).1)) ∧ A1 = (uN A 0 ((tCell (A 16) (I 17) t i j (I 20, I 18, I 19, A 0)).2.2.2)))) := by
  refine mm_met 3 rfl (Nat.le_of_ble_eq_true rfl) (L0 := [some (.ref mo), some (.int (iI t)), some (.int (iI i)), some (.int (iI j)), none, none, none]) rfl (fun X ok hE => ?_)
  have hk0 := tk_r (A 16) (N := I 17) (p := I 19) (by omega)
  refine ga_aload_n (pc := 0) dX8_entryOf_0 rfl ?_
  refine ga_bipush (pc := 1) dX8_entryOf_1 rfl ?_
  refine k_X8_is (pc := 3) (c := 45) ok (by first | exact ht | omega) (by first | exact hb | omega) (by first | exact h1 | omega) (rfl) ⟨Nat.le_of_ble_eq_true rfl, Nat.le_of_ble_eq_true rfl⟩ (Nat.le_of_ble_eq_true rfl) dX8_entryOf_3 ?_
  refine ga_istore (pc := 6) (L1 := [some (.ref mo), some (.int (iI t)), some (.int (iI i)), some (.int (iI j)), some (.int (iI (bI (I 19 - I 18 = 1 ∧ A 16 (I 18) = 45)))), none, none]) dX8_entryOf_6 rfl (by decide) rfl ?_
  have jn17 : ∀ (a b : Int), (a = (tEs (A 16) (I 17) (I 18) (I 19)).1 ∧ b = (tEs (A 16) (I 17) (I 18) (I 19)).2) → (0 ≤ a ∧ a ≤ b ∧ b ≤ I 17) → G X (gR 2) RX8 7 cX8_entryOf (mH mo ad (uN (uN I 18 a) 19 b) A) 0 0 17 [some (.ref mo), some (.int (iI t)), some (.int (iI i)), some (.int (iI j)), some (.int (iI (bI (I 19 - I 18 = 1 ∧ A 16 (I 18) = 45)))), none, none] [] := by
    intro a b ha hab
    refine ga_aload_n (pc := 17) dX8_entryOf_17 rfl ?_
    refine mm_g18 (pc := 18) (z := a) rfl dX8_entryOf_18 ?_
    refine ga_aload_n (pc := 21) dX8_entryOf_21 rfl ?_
    refine mm_g17 (pc := 22) (z := I 17) rfl dX8_entryOf_22 ?_
    refine ga_icmp_eq (pc := 25) (tgt := 56) dX8_entryOf_25 rfl (by omega) (by omega) (fun c25 => ?_) (fun c25 => ?_)
    · skip
      refine ga_aload_n (pc := 56) dX8_entryOf_56 rfl ?_
      refine k_X8_fails (pc := 57)  (I2 := (uN (uN (uN I 18 a) 19 b) 20 a)) ok (show -2147483648 ≤ (I 20) ∧ (I 20) < 0 from by first | exact h1 | omega) (rfl) ⟨Nat.le_of_ble_eq_true rfl, Nat.le_of_ble_eq_true rfl⟩ (Nat.le_of_ble_eq_true rfl) dX8_entryOf_57 ?_
      exact mm_vret hE dX8_entryOf_60 (⟨rfl, by funext j; by_cases e0 : j = 18; (subst e0; exact (show a = ((tCell (A 16) (I 17) t i j (I 20, I 18, I 19, A 0)).2.1) from by unfold tCell; rw [if_neg (by show ¬ tOk (A 16) (I 17) t (I 18) (I 19); unfold tOk; rw [← ha.1, ← ha.2]; omega)]; first | exact ha.1 | exact ha.2)); by_cases e1 : j = 19; (subst e1; exact (show b = ((tCell (A 16) (I 17) t i j (I 20, I 18, I 19, A 0)).2.2.1) from by unfold tCell; rw [if_neg (by show ¬ tOk (A 16) (I 17) t (I 18) (I 19); unfold tOk; rw [← ha.1, ← ha.2]; omega)]; first | exact ha.1 | exact ha.2)); by_cases e2 : j = 20; (subst e2; exact (show a = ((tCell (A 16) (I 17) t i j (I 20, I 18, I 19, A 0)).1) from by unfold tCell; rw [if_neg (by show ¬ tOk (A 16) (I 17) t (I 18) (I 19); unfold tOk; rw [← ha.1, ← ha.2]; omega)]; first | exact ha.1 | exact ha.2)); simp only [uN, if_neg e0, if_neg e1, if_neg e2], by funext j; by_cases e0 : j = 0; (subst e0; exact (show (A 0) = ((tCell (A 16) (I 17) t i j (I 20, I 18, I 19, A 0)).2.2.2) from by unfold tCell; rw [if_neg (by show ¬ tOk (A 16) (I 17) t (I 18) (I 19); unfold tOk; rw [← ha.1, ← ha.2]; omega)])); simp only [uN, if_neg e0]⟩)
    · skip
      refine ga_aload_n (pc := 28) dX8_entryOf_28 rfl ?_
      refine mm_g16 (pc := 29) dX8_entryOf_29 ?_
      refine ga_aload_n (pc := 32) dX8_entryOf_32 rfl ?_
      refine mm_g18 (pc := 33) (z := a) rfl dX8_entryOf_33 ?_
      refine mm_ald16 (pc := 36) (x := A 16 a) ok (by omega) (rfl) dX8_entryOf_36 ?_
      have hb0 := hb a
      refine k_X8_isDigit (pc := 37) (b := (A 16 a)) (by omega) (rfl) ⟨Nat.le_of_ble_eq_true rfl, Nat.le_of_ble_eq_true rfl⟩ ⟨Nat.le_of_ble_eq_true rfl, Nat.le_of_ble_eq_true rfl⟩ (Nat.le_of_ble_eq_true rfl) dX8_entryOf_37 ?_
      refine ga_ifb_eq (pc := 40) (tgt := 56) dX8_entryOf_40 rfl (fun c40 => ?_) (fun c40 => ?_)
      · skip
        refine ga_aload_n (pc := 56) dX8_entryOf_56 rfl ?_
        refine k_X8_fails (pc := 57)  (I2 := (uN (uN (uN I 18 a) 19 b) 20 a)) ok (show -2147483648 ≤ (I 20) ∧ (I 20) < 0 from by first | exact h1 | omega) (rfl) ⟨Nat.le_of_ble_eq_true rfl, Nat.le_of_ble_eq_true rfl⟩ (Nat.le_of_ble_eq_true rfl) dX8_entryOf_57 ?_
        exact mm_vret hE dX8_entryOf_60 (⟨rfl, by funext j; by_cases e0 : j = 18; (subst e0; exact (show a = ((tCell (A 16) (I 17) t i j (I 20, I 18, I 19, A 0)).2.1) from by unfold tCell; rw [if_neg (by show ¬ tOk (A 16) (I 17) t (I 18) (I 19); unfold tOk; rw [← ha.1, ← ha.2]; omega)]; first | exact ha.1 | exact ha.2)); by_cases e1 : j = 19; (subst e1; exact (show b = ((tCell (A 16) (I 17) t i j (I 20, I 18, I 19, A 0)).2.2.1) from by unfold tCell; rw [if_neg (by show ¬ tOk (A 16) (I 17) t (I 18) (I 19); unfold tOk; rw [← ha.1, ← ha.2]; omega)]; first | exact ha.1 | exact ha.2)); by_cases e2 : j = 20; (subst e2; exact (show a = ((tCell (A 16) (I 17) t i j (I 20, I 18, I 19, A 0)).1) from by unfold tCell; rw [if_neg (by show ¬ tOk (A 16) (I 17) t (I 18) (I 19); unfold tOk; rw [← ha.1, ← ha.2]; omega)]; first | exact ha.1 | exact ha.2)); simp only [uN, if_neg e0, if_neg e1, if_neg e2], by funext j; by_cases e0 : j = 0; (subst e0; exact (show (A 0) = ((tCell (A 16) (I 17) t i j (I 20, I 18, I 19, A 0)).2.2.2) from by unfold tCell; rw [if_neg (by show ¬ tOk (A 16) (I 17) t (I 18) (I 19); unfold tOk; rw [← ha.1, ← ha.2]; omega)])); simp only [uN, if_neg e0]⟩)
      · skip
        refine ga_aload_n (pc := 43) dX8_entryOf_43 rfl ?_
        refine mm_g19 (pc := 44) (z := b) rfl dX8_entryOf_44 ?_
        refine ga_aload_n (pc := 47) dX8_entryOf_47 rfl ?_
        refine mm_g18 (pc := 48) (z := a) rfl dX8_entryOf_48 ?_
        refine ga_isub (pc := 51) dX8_entryOf_51 ?_
        refine ga_iconst (pc := 52) dX8_entryOf_52 ?_
        refine ga_icmp_le (pc := 53) (tgt := 61) dX8_entryOf_53 rfl (by omega) (by omega) (fun c53 => ?_) (fun c53 => ?_)
        · skip
          refine ga_iconst (pc := 61) dX8_entryOf_61 ?_
          refine ga_istore (pc := 62) (L1 := [some (.ref mo), some (.int (iI t)), some (.int (iI i)), some (.int (iI j)), some (.int (iI (bI (I 19 - I 18 = 1 ∧ A 16 (I 18) = 45)))), some (.int (iI 0)), none]) dX8_entryOf_62 rfl (by decide) rfl ?_
          refine ga_aload_n (pc := 64) dX8_entryOf_64 rfl ?_
          refine mm_g18 (pc := 65) (z := a) rfl dX8_entryOf_65 ?_
          refine ga_istore (pc := 68) (L1 := [some (.ref mo), some (.int (iI t)), some (.int (iI i)), some (.int (iI j)), some (.int (iI (bI (I 19 - I 18 = 1 ∧ A 16 (I 18) = 45)))), some (.int (iI 0)), some (.int (iI a))]) dX8_entryOf_68 rfl (by decide) rfl ?_
          have lp70 : ∀ (N70 : Nat) (k v : Int), (a ≤ k ∧ k ≤ b) → (v = tNum (A 16) a (k - a).toNat) → ((k ≤ a → v = 0) ∧ (k ≤ a + 1 → -200 ≤ v ∧ v ≤ 200) ∧ -3000 ≤ v ∧ v ≤ 3000) → (b - k).toNat < N70 → G X (gR 2) RX8 7 cX8_entryOf (mH mo ad (uN (uN I 18 a) 19 b) A) 0 0 70 [some (.ref mo), some (.int (iI t)), some (.int (iI i)), some (.int (iI j)), some (.int (iI (bI (I 19 - I 18 = 1 ∧ A 16 (I 18) = 45)))), some (.int (iI v)), some (.int (iI k))] [] := by
            intro N70
            induction N70 with
            | zero => intro k v hk hv hvr hN70; exact absurd hN70 (Nat.not_lt_zero _)
            | succ N70 ih70 =>
              intro k v hk hv hvr hN70
              refine ga_iload (pc := 70) dX8_entryOf_70 rfl ?_
              refine ga_aload_n (pc := 72) dX8_entryOf_72 rfl ?_
              refine mm_g19 (pc := 73) (z := b) rfl dX8_entryOf_73 ?_
              refine ga_icmp_ge (pc := 76) (tgt := 103) dX8_entryOf_76 rfl (by omega) (by omega) (fun c76 => ?_) (fun c76 => ?_)
              · skip
                have jn117 : ∀ (w : Int), (w = tV (A 16) (I 17) (I 18) (I 19)) → (-10000 ≤ w ∧ w ≤ 10000) → G X (gR 2) RX8 7 cX8_entryOf (mH mo ad (uN (uN I 18 a) 19 b) A) 0 0 117 [some (.ref mo), some (.int (iI t)), some (.int (iI i)), some (.int (iI j)), some (.int (iI (bI (I 19 - I 18 = 1 ∧ A 16 (I 18) = 45)))), none, none] [.int (iI w)] := by
                  intro w hw hwr
                  refine ga_istore (pc := 117) (L1 := [some (.ref mo), some (.int (iI t)), some (.int (iI i)), some (.int (iI j)), some (.int (iI (bI (I 19 - I 18 = 1 ∧ A 16 (I 18) = 45)))), some (.int (iI w)), none]) dX8_entryOf_117 rfl (by decide) rfl ?_
                  refine ga_iload_n (pc := 119) dX8_entryOf_119 rfl ?_
                  refine ga_iload (pc := 120) dX8_entryOf_120 rfl ?_
                  refine k_X8_isEntry (pc := 122) (t := t) (v := w) (by omega) (rfl) ⟨Nat.le_of_ble_eq_true rfl, Nat.le_of_ble_eq_true rfl⟩ ⟨Nat.le_of_ble_eq_true rfl, Nat.le_of_ble_eq_true rfl⟩ (Nat.le_of_ble_eq_true rfl) dX8_entryOf_122 ?_
                  refine ga_ifb_ne (pc := 125) (tgt := 133) dX8_entryOf_125 rfl (fun c125 => ?_) (fun c125 => ?_)
                  · skip
                    refine ga_aload_n (pc := 133) dX8_entryOf_133 rfl ?_
                    refine mm_g0 (pc := 134) dX8_entryOf_134 ?_
                    refine ga_bipush (pc := 137) dX8_entryOf_137 rfl ?_
                    refine ga_iload_n (pc := 139) dX8_entryOf_139 rfl ?_
                    refine ga_imul (pc := 140) dX8_entryOf_140 ?_
                    refine ga_iconst (pc := 141) dX8_entryOf_141 ?_
                    refine ga_iload_n (pc := 142) dX8_entryOf_142 rfl ?_
                    refine ga_imul (pc := 143) dX8_entryOf_143 ?_
                    refine ga_iadd (pc := 144) dX8_entryOf_144 ?_
                    refine ga_iload_n (pc := 145) dX8_entryOf_145 rfl ?_
                    refine ga_iadd (pc := 146) dX8_entryOf_146 ?_
                    refine ga_iload (pc := 147) dX8_entryOf_147 rfl ?_
                    refine mm_ast0 (pc := 149) (f := A 0) (A1 := (uN A 0 (uZ (A 0) (((9 * t) + (3 * i)) + j) w))) ok (by omega) rfl (rfl) dX8_entryOf_149 ?_
                    refine ga_aload_n (pc := 150) dX8_entryOf_150 rfl ?_
                    refine k_X8_next (pc := 151)  (I2 := (uN (uN I 18 (tkFrom ((A 16)) ((I 17)) (b))) 19 (tkTo ((A 16)) ((I 17)) (b)))) ok (show 0 ≤ b ∧ b ≤ (I 17) ∧ (I 17) ≤ 200 from by first | exact ht | omega) (show mBy (uN A 0 (uZ (A 0) (((9 * t) + (3 * i)) + j) w)) from by first | exact hb | omega) (by funext j; by_cases e0 : j = 18; (subst e0; rfl); by_cases e1 : j = 19; (subst e1; rfl); simp only [uN, if_neg e0, if_neg e1]) ⟨Nat.le_of_ble_eq_true rfl, Nat.le_of_ble_eq_true rfl⟩ (Nat.le_of_ble_eq_true rfl) dX8_entryOf_151 ?_
                    exact mm_vret hE dX8_entryOf_154 (⟨rfl, by funext j; by_cases e0 : j = 18; (subst e0; exact (show (tkFrom ((A 16)) ((I 17)) (b)) = ((tCell (A 16) (I 17) t i j (I 20, I 18, I 19, A 0)).2.1) from by unfold tCell; rw [if_pos (by show tOk (A 16) (I 17) t (I 18) (I 19); unfold tOk; rw [← ha.1, ← ha.2, ← hw]; exact ⟨by omega, c40, by omega, c125⟩)]; try (first | rfl | rw [ha.2]))); by_cases e1 : j = 19; (subst e1; exact (show (tkTo ((A 16)) ((I 17)) (b)) = ((tCell (A 16) (I 17) t i j (I 20, I 18, I 19, A 0)).2.2.1) from by unfold tCell; rw [if_pos (by show tOk (A 16) (I 17) t (I 18) (I 19); unfold tOk; rw [← ha.1, ← ha.2, ← hw]; exact ⟨by omega, c40, by omega, c125⟩)]; try (first | rfl | rw [ha.2]))); by_cases e2 : j = 20; (subst e2; exact (show (I 20) = ((tCell (A 16) (I 17) t i j (I 20, I 18, I 19, A 0)).1) from by unfold tCell; rw [if_pos (by show tOk (A 16) (I 17) t (I 18) (I 19); unfold tOk; rw [← ha.1, ← ha.2, ← hw]; exact ⟨by omega, c40, by omega, c125⟩)]; try (first | rfl | rw [ha.2]))); simp only [uN, if_neg e0, if_neg e1, if_neg e2], by funext j; by_cases e0 : j = 0; (subst e0; exact (show (uZ (A 0) (((9 * t) + (3 * i)) + j) w) = ((tCell (A 16) (I 17) t i j (I 20, I 18, I 19, A 0)).2.2.2) from by unfold tCell; rw [if_pos (by show tOk (A 16) (I 17) t (I 18) (I 19); unfold tOk; rw [← ha.1, ← ha.2, ← hw]; exact ⟨by omega, c40, by omega, c125⟩)]; rw [hw])); simp only [uN, if_neg e0]⟩)
                  · skip
                    refine ga_aload_n (pc := 128) dX8_entryOf_128 rfl ?_
                    refine k_X8_fails (pc := 129)  (I2 := (uN (uN (uN I 18 a) 19 b) 20 a)) ok (show -2147483648 ≤ (I 20) ∧ (I 20) < 0 from by first | exact h1 | omega) (rfl) ⟨Nat.le_of_ble_eq_true rfl, Nat.le_of_ble_eq_true rfl⟩ (Nat.le_of_ble_eq_true rfl) dX8_entryOf_129 ?_
                    exact mm_vret hE dX8_entryOf_132 (⟨rfl, by funext j; by_cases e0 : j = 18; (subst e0; exact (show a = ((tCell (A 16) (I 17) t i j (I 20, I 18, I 19, A 0)).2.1) from by unfold tCell; rw [if_neg (by show ¬ tOk (A 16) (I 17) t (I 18) (I 19); unfold tOk; rw [← hw]; exact fun z => c125 z.2.2.2)]; first | exact ha.1 | exact ha.2)); by_cases e1 : j = 19; (subst e1; exact (show b = ((tCell (A 16) (I 17) t i j (I 20, I 18, I 19, A 0)).2.2.1) from by unfold tCell; rw [if_neg (by show ¬ tOk (A 16) (I 17) t (I 18) (I 19); unfold tOk; rw [← hw]; exact fun z => c125 z.2.2.2)]; first | exact ha.1 | exact ha.2)); by_cases e2 : j = 20; (subst e2; exact (show a = ((tCell (A 16) (I 17) t i j (I 20, I 18, I 19, A 0)).1) from by unfold tCell; rw [if_neg (by show ¬ tOk (A 16) (I 17) t (I 18) (I 19); unfold tOk; rw [← hw]; exact fun z => c125 z.2.2.2)]; first | exact ha.1 | exact ha.2)); simp only [uN, if_neg e0, if_neg e1, if_neg e2], by funext j; by_cases e0 : j = 0; (subst e0; exact (show (A 0) = ((tCell (A 16) (I 17) t i j (I 20, I 18, I 19, A 0)).2.2.2) from by unfold tCell; rw [if_neg (by show ¬ tOk (A 16) (I 17) t (I 18) (I 19); unfold tOk; rw [← hw]; exact fun z => c125 z.2.2.2)])); simp only [uN, if_neg e0]⟩)
                refine ga_iload (pc := 103) dX8_entryOf_103 rfl ?_
                refine ga_ifb_eq (pc := 105) (tgt := 115) dX8_entryOf_105 rfl (fun c105 => ?_) (fun c105 => ?_)
                · skip
                  refine ga_iload (pc := 115) dX8_entryOf_115 rfl ?_
                  refine ga_kill (pc := 117) 5 (L1 := [some (.ref mo), some (.int (iI t)), some (.int (iI i)), some (.int (iI j)), some (.int (iI (bI (I 19 - I 18 = 1 ∧ A 16 (I 18) = 45)))), none, some (.int (iI k))]) rfl ?_
                  refine ga_kill (pc := 117) 6 (L1 := [some (.ref mo), some (.int (iI t)), some (.int (iI i)), some (.int (iI j)), some (.int (iI (bI (I 19 - I 18 = 1 ∧ A 16 (I 18) = 45)))), none, none]) rfl ?_
                  exact jn117 v (by unfold tV; rw [← ha.1, ← ha.2, hv, show k = b by omega]; first | rw [if_pos (by assumption)] | rw [if_neg (by assumption)]) (by omega)
                · skip
                  refine ga_iconst (pc := 108) dX8_entryOf_108 ?_
                  refine ga_iload (pc := 109) dX8_entryOf_109 rfl ?_
                  refine ga_isub (pc := 111) dX8_entryOf_111 ?_
                  refine ga_goto (pc := 112) (tgt := 117) dX8_entryOf_112 rfl ?_
                  refine ga_kill (pc := 117) 5 (L1 := [some (.ref mo), some (.int (iI t)), some (.int (iI i)), some (.int (iI j)), some (.int (iI (bI (I 19 - I 18 = 1 ∧ A 16 (I 18) = 45)))), none, some (.int (iI k))]) rfl ?_
                  refine ga_kill (pc := 117) 6 (L1 := [some (.ref mo), some (.int (iI t)), some (.int (iI i)), some (.int (iI j)), some (.int (iI (bI (I 19 - I 18 = 1 ∧ A 16 (I 18) = 45)))), none, none]) rfl ?_
                  exact jn117 (0 - v) (by unfold tV; rw [← ha.1, ← ha.2, hv, show k = b by omega]; first | rw [if_pos (by assumption)] | rw [if_neg (by assumption)]) (by omega)
              · skip
                refine ga_bipush (pc := 79) dX8_entryOf_79 rfl ?_
                refine ga_iload (pc := 81) dX8_entryOf_81 rfl ?_
                refine ga_imul (pc := 83) dX8_entryOf_83 ?_
                refine ga_aload_n (pc := 84) dX8_entryOf_84 rfl ?_
                refine mm_g16 (pc := 85) dX8_entryOf_85 ?_
                refine ga_iload (pc := 88) dX8_entryOf_88 rfl ?_
                refine mm_ald16 (pc := 90) (x := A 16 k) ok (by omega) (rfl) dX8_entryOf_90 ?_
                have hb1 := hb k
                refine ga_iadd (pc := 91) dX8_entryOf_91 ?_
                refine ga_bipush (pc := 92) dX8_entryOf_92 rfl ?_
                refine ga_isub (pc := 94) dX8_entryOf_94 ?_
                refine ga_istore (pc := 95) (L1 := [some (.ref mo), some (.int (iI t)), some (.int (iI i)), some (.int (iI j)), some (.int (iI (bI (I 19 - I 18 = 1 ∧ A 16 (I 18) = 45)))), some (.int (iI (((10 * v) + (A 16 k)) - 48))), some (.int (iI k))]) dX8_entryOf_95 rfl (by decide) rfl ?_
                refine ga_iinc (pc := 97) (L1 := [some (.ref mo), some (.int (iI t)), some (.int (iI i)), some (.int (iI j)), some (.int (iI (bI (I 19 - I 18 = 1 ∧ A 16 (I 18) = 45)))), some (.int (iI (((10 * v) + (A 16 k)) - 48))), some (.int (iI (k + 1)))]) dX8_entryOf_97 rfl rfl (by decide) rfl ?_
                refine ga_goto (pc := 100) (tgt := 70) dX8_entryOf_100 rfl ?_
                exact ih70 (k + 1) (((10 * v) + (A 16 k)) - 48) (by omega) (by rw [tNum_s _ hk.1, hv]) (by omega) (by omega)
          exact lp70 _ a 0 (by omega) (by rw [Int.sub_self]; rfl) (by omega) (Nat.lt_succ_self _)
        · skip
          refine ga_aload_n (pc := 56) dX8_entryOf_56 rfl ?_
          refine k_X8_fails (pc := 57)  (I2 := (uN (uN (uN I 18 a) 19 b) 20 a)) ok (show -2147483648 ≤ (I 20) ∧ (I 20) < 0 from by first | exact h1 | omega) (rfl) ⟨Nat.le_of_ble_eq_true rfl, Nat.le_of_ble_eq_true rfl⟩ (Nat.le_of_ble_eq_true rfl) dX8_entryOf_57 ?_
          exact mm_vret hE dX8_entryOf_60 (⟨rfl, by funext j; by_cases e0 : j = 18; (subst e0; exact (show a = ((tCell (A 16) (I 17) t i j (I 20, I 18, I 19, A 0)).2.1) from by unfold tCell; rw [if_neg (by show ¬ tOk (A 16) (I 17) t (I 18) (I 19); unfold tOk; rw [← ha.1, ← ha.2]; omega)]; first | exact ha.1 | exact ha.2)); by_cases e1 : j = 19; (subst e1; exact (show b = ((tCell (A 16) (I 17) t i j (I 20, I 18, I 19, A 0)).2.2.1) from by unfold tCell; rw [if_neg (by show ¬ tOk (A 16) (I 17) t (I 18) (I 19); unfold tOk; rw [← ha.1, ← ha.2]; omega)]; first | exact ha.1 | exact ha.2)); by_cases e2 : j = 20; (subst e2; exact (show a = ((tCell (A 16) (I 17) t i j (I 20, I 18, I 19, A 0)).1) from by unfold tCell; rw [if_neg (by show ¬ tOk (A 16) (I 17) t (I 18) (I 19); unfold tOk; rw [← ha.1, ← ha.2]; omega)]; first | exact ha.1 | exact ha.2)); simp only [uN, if_neg e0, if_neg e1, if_neg e2], by funext j; by_cases e0 : j = 0; (subst e0; exact (show (A 0) = ((tCell (A 16) (I 17) t i j (I 20, I 18, I 19, A 0)).2.2.2) from by unfold tCell; rw [if_neg (by show ¬ tOk (A 16) (I 17) t (I 18) (I 19); unfold tOk; rw [← ha.1, ← ha.2]; omega)])); simp only [uN, if_neg e0]⟩)
  refine ga_iload (pc := 8) dX8_entryOf_8 rfl ?_
  refine ga_ifb_eq (pc := 10) (tgt := 17) dX8_entryOf_10 rfl (fun c10 => ?_) (fun c10 => ?_)
  · skip
    refine ga_heq (pc := 17) (h1 := mH mo ad (uN (uN I 18 (I 18)) 19 (I 19)) A) (congr (congrArg (mH mo ad) (by funext j; by_cases e0 : j = 18; (subst e0; rfl); by_cases e1 : j = 19; (subst e1; rfl); simp only [uN, if_neg e0, if_neg e1])) (rfl)) ?_
    have hk := tk_r (A 16) (N := I 17) (p := I 19) (by omega)
    exact jn17 (I 18) (I 19) (by unfold tEs; first | (rw [if_pos (by assumption)]; exact ⟨rfl, rfl⟩) | (rw [if_neg (by assumption)]; exact ⟨rfl, rfl⟩)) (by omega)
  · skip
    refine ga_aload_n (pc := 13) dX8_entryOf_13 rfl ?_
    refine k_X8_next (pc := 14)  (I2 := (uN (uN I 18 (tkFrom (A 16) (I 17) (I 19))) 19 (tkTo (A 16) (I 17) (I 19)))) ok (by first | exact ht | omega) (by first | exact hb | omega) (rfl) ⟨Nat.le_of_ble_eq_true rfl, Nat.le_of_ble_eq_true rfl⟩ (Nat.le_of_ble_eq_true rfl) dX8_entryOf_14 ?_
    have hk := tk_r (A 16) (N := I 17) (p := I 19) (by omega)
    exact jn17 (tkFrom (A 16) (I 17) (I 19)) (tkTo (A 16) (I 17) (I 19)) (by unfold tEs; first | (rw [if_pos (by assumption)]; exact ⟨rfl, rfl⟩) | (rw [if_neg (by assumption)]; exact ⟨rfl, rfl⟩)) (by omega)
theorem k_X8_entryOf {X : ga_X} {nL : Nat} {cc : ByteArray} {mo : Nat} {ad : Nat → Nat} {I : Nat → Int} {A : Nat → Int → Int} {d pc : Nat} {L : List (Option Value)} {st : List Value} {t i j : Int}  {I2 : Nat → Int} {A2 : Nat → Int → Int} (ok : mOk mo ad) (ht : 0 ≤ I 18 ∧ I 18 ≤ I 19 ∧ I 19 ≤ I 17 ∧ I 17 ≤ 200) (hb : mBy A) (h1 : (0 ≤ t ∧ t ≤ 2) ∧ (0 ≤ i ∧ i ≤ 2) ∧ 0 ≤ j ∧ j ≤ 2) (hf : I 20 = -1)  (hI2 : (uN (uN (uN I 18 ((tCell (A 16) (I 17) t i j (I 20, I 18, I 19, A 0)).2.1)) 19 ((tCell (A 16) (I 17) t i j (I 20, I 18, I 19, A 0)).2.2.1)) 20 ((tCell (A 16) (I 17) t i j (I 20, I 18, I 19, A 0)).1)) = I2) (hA2 : (uN A 0 ((tCell (A 16) (I 17) t i j (I 20, I 18, I 19, A 0)).2.2.2)) = A2) (hR : 2 + 1 ≤ d ∧ 19 + 7 + 64 * 2 ≤ 64 * d) (hs : (st.map fun v => v.category).sum ≤ 8) (dd : decode cc pc = .ok (.invokevirtual 179, 3)) (kk : G X (gR d) RX8 nL cc (mH mo ad I2 A2) 0 0 (pc + 3) L st) : G X (gR d) RX8 nL cc (mH mo ad I A) 0 0 pc L (.int (iI j) :: .int (iI i) :: .int (iI t) :: .ref mo :: st) :=
  mm_run ok (m_X8_entryOf _ _ mo ad I A t i j ht hb h1 hf) (lw_V q1834 q1836 qs60 q113 q1837) rfl (show ga_nn' yX8_entryOf 3 from (by unfold ga_nn'; decide +kernel)) hR hs dd rfl (fun v I1 A1 hp => by
    obtain ⟨rfl, hp⟩ := hp
    obtain ⟨rfl, rfl⟩ := hp
    subst hI2
    subst hA2
    exact kk)
