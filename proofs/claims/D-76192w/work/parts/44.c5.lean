set_option maxHeartbeats 4000000 in
set_option maxRecDepth 100000 in
theorem m_X0_reduce (l : Launch) (D : ga_G) (ad : Nat → Nat) (J : Nat → Int) (B : Nat → Int → Int) (Q : Nat → Int → Option Nat) (Z : ga_H) (T : Int → Int → Int) (hsz : (0 ≤ J 20 ∧ J 20 ≤ 10) ∧ 0 ≤ J 21 ∧ J 21 ≤ 9) (hT : eOn (J 20) (J 21) 10 (B 10) T) (hsf : eSafe (J 20) (J 21) T) : cM l D yX0_reduce (ws_ yX0_reduce cX0_reduce 3 none) (gR 3) [.ref (ad 0)] ad J B Q Z (mV (fun J1 B1 => J1 = uN (uN (uN J 22 (eRed (J 20) T (J 21).toNat).2.1) 23 (zSg (eRed (J 20) T (J 21).toNat).2.2.1)) 24 (eRed (J 20) T (J 21).toNat).2.2.2.1 ∧ ∃ f g, B1 = uN (uN B 10 f) 11 g ∧ eOn (J 20) (J 21) 10 f (eRed (J 20) T (J 21).toNat).1 ∧ ∀ k : Int, 0 ≤ k → k < J 21 → g k = (eRed (J 20) T (J 21).toNat).2.2.2.2 k)) := by
  refine cc_met (own := RX0) 2 (by decide) rfl (Nat.le_of_ble_eq_true rfl) (L0 := [some (.ref (ad 0)), none, none]) rfl (fun X h hc hE => ?_)
  refine ga_aload_n (pc := 0) dX0_reduce_0 rfl ?_
  refine ga_iconst (pc := 1) dX0_reduce_1 ?_
  refine cc_p_rank (pc := 2) (J1 := (uN J 22 0)) hc (rfl) dX0_reduce_2 (fun h hc => ?_)
  refine ga_aload_n (pc := 5) dX0_reduce_5 rfl ?_
  refine ga_iconst (pc := 6) dX0_reduce_6 ?_
  refine cc_p_sign (pc := 7) (J1 := (uN (uN J 22 0) 23 1)) hc (rfl) dX0_reduce_7 (fun h hc => ?_)
  refine ga_aload_n (pc := 10) dX0_reduce_10 rfl ?_
  refine ga_lconst (pc := 11) 1 dX0_reduce_11 rfl ?_
  refine cc_p_pivot (pc := 12) (J1 := (uN (uN (uN J 22 0) 23 1) 24 1)) hc (rfl) dX0_reduce_12 (fun h hc => ?_)
  refine ga_iconst (pc := 15) dX0_reduce_15 ?_
  refine ga_istore_n (pc := 16) (L1 := [some (.ref (ad 0)), some (.int (iI 0)), none]) dX0_reduce_16 rfl (by decide) rfl ?_
  replace hc : cOn h ad (uN (uN (uN J 22 0) 23 1) 24 1) (uN (uN B 10 (B 10)) 11 (B 11)) Q Z := hc.eq (rfl) (by funext j; by_cases e0 : j = 10; (subst e0; exact (show (B 10) = (B 10) from rfl)); by_cases e1 : j = 11; (subst e1; exact (show (B 11) = (B 11) from rfl)); simp only [uN, if_neg e0, if_neg e1]) rfl
  have lp17 : ∀ (N17 : Nat) (c rk sg de : Int) (f g : Int → Int), ∀ h : ga_H, cOn h ad (uN (uN (uN J 22 rk) 23 sg) 24 de) (uN (uN B 10 f) 11 g) Q Z → (0 ≤ c ∧ c ≤ J 21) → (rk = (eRed (J 20) T c.toNat).2.1 ∧ sg = zSg (eRed (J 20) T c.toNat).2.2.1 ∧ de = (eRed (J 20) T c.toNat).2.2.2.1) → (eOn (J 20) (J 21) 10 f (eRed (J 20) T c.toNat).1) → (∀ k : Int, 0 ≤ k → k < c → g k = (eRed (J 20) T c.toNat).2.2.2.2 k) → (J 21 - c).toNat < N17 → G X (gR 3) RX0 3 cX0_reduce h 0 0 17 [some (.ref (ad 0)), some (.int (iI c)), none] [] := by
    intro N17
    induction N17 with
    | zero => intro c rk sg de f g h hc hc9 hr hf hg hN17; exact absurd hN17 (Nat.not_lt_zero _)
    | succ N17 ih17 =>
      intro c rk sg de f g h hc hc9 hr hf hg hN17
      have hrr := (eRed_r (J 20) T hsz.1.1 c.toNat)
      rw [← hr.1] at hrr
      have hcN : ((c.toNat : Nat) : Int) = c := by omega
      have hsc := hsf c hc9.1 hc9.2
      refine ga_iload_n (pc := 17) dX0_reduce_17 rfl ?_
      refine ga_aload_n (pc := 18) dX0_reduce_18 rfl ?_
      refine cc_g_gridUnknowns (pc := 19) (z := J 21) hc rfl dX0_reduce_19 ?_
      refine ga_icmp_ge (pc := 22) (tgt := 112) dX0_reduce_22 rfl (by omega) (by omega) (fun c22 => ?_) (fun c22 => ?_)
      · skip
        exact cc_vret hc hE dX0_reduce_112 (⟨rfl, by dsimp only; (obtain rfl : c = J 21 := by omega); exact ⟨by rw [← hr.1, ← hr.2.1, ← hr.2.2], f, g, rfl, hf, hg⟩⟩)
      · skip
        refine ga_aload_n (pc := 25) dX0_reduce_25 rfl ?_
        refine cc_g_pivotAt (pc := 26) hc dX0_reduce_26 ?_
        refine ga_iload_n (pc := 29) dX0_reduce_29 rfl ?_
        refine ga_iconst (pc := 30) dX0_reduce_30 ?_
        refine cc_ast11 (pc := 31) (B1 := (uN (uN B 10 f) 11 (uZ g c (-1)))) hc (by omega) (by funext j; by_cases e0 : j = 11; (subst e0; rfl); simp only [uN, if_neg e0]) dX0_reduce_31 (fun h hc => ?_)
        refine ga_aload_n (pc := 32) dX0_reduce_32 rfl ?_
        refine cc_g_rank (pc := 33) (z := rk) hc rfl dX0_reduce_33 ?_
        refine ga_istore_n (pc := 36) (L1 := [some (.ref (ad 0)), some (.int (iI c)), some (.int (iI rk))]) dX0_reduce_36 rfl (by decide) rfl ?_
        have jn106 : ∀ (rk2 sg2 d2 : Int) (f2 g2 : Int → Int), ∀ h : ga_H, cOn h ad (uN (uN (uN J 22 rk2) 23 sg2) 24 d2) (uN (uN B 10 f2) 11 g2) Q Z → (rk2 = (eRed (J 20) T (c + 1).toNat).2.1 ∧ sg2 = zSg (eRed (J 20) T (c + 1).toNat).2.2.1 ∧ d2 = (eRed (J 20) T (c + 1).toNat).2.2.2.1) → (eOn (J 20) (J 21) 10 f2 (eRed (J 20) T (c + 1).toNat).1) → (∀ k : Int, 0 ≤ k → k < c + 1 → g2 k = (eRed (J 20) T (c + 1).toNat).2.2.2.2 k) → G X (gR 3) RX0 3 cX0_reduce h 0 0 106 [some (.ref (ad 0)), some (.int (iI c)), none] [] := by
          intro rk2 sg2 d2 f2 g2 h hc hr2 hf2 hg2
          refine ga_iinc (pc := 106) (L1 := [some (.ref (ad 0)), some (.int (iI (c + 1))), none]) dX0_reduce_106 rfl rfl (by decide) rfl ?_
          refine ga_goto (pc := 109) (tgt := 17) dX0_reduce_109 rfl ?_
          exact ih17 (c + 1) rk2 sg2 d2 f2 g2 h hc (by omega) (hr2) (hf2) (hg2) (by omega)
        have jn68 : ∀ (row : Int), ∀ h : ga_H, cOn h ad (uN (uN (uN J 22 rk) 23 sg) 24 de) (uN (uN B 10 f) 11 (uZ g c (-1))) Q Z → (rk ≤ row ∧ row < J 20) → (row = eRow (J 20) c (eRed (J 20) T c.toNat)) → G X (gR 3) RX0 3 cX0_reduce h 0 0 68 [some (.ref (ad 0)), some (.int (iI c)), some (.int (iI row))] [] := by
          intro row h hc hrow hE0
          refine ga_aload_n (pc := 68) dX0_reduce_68 rfl ?_
          refine ga_iload_n (pc := 69) dX0_reduce_69 rfl ?_
          refine ga_aload_n (pc := 70) dX0_reduce_70 rfl ?_
          refine cc_g_rank (pc := 71) (z := rk) hc rfl dX0_reduce_71 ?_
          refine k_X0_exchange (pc := 74) (a := row) (b := rk) hc (show (0 ≤ row ∧ row < 10) ∧ 0 ≤ rk ∧ rk < 10 from by first | exact h1 | omega) ⟨Nat.le_of_ble_eq_true rfl, Nat.le_of_ble_eq_true rfl⟩ ⟨Nat.le_of_ble_eq_true rfl, Nat.le_of_ble_eq_true rfl⟩ (Nat.le_of_ble_eq_true rfl) dX0_reduce_74 (fun J74 B74 hp74 h hc => ?_)
          obtain ⟨eJ74, f3, rfl, hf3a⟩ := hp74
          subst eJ74
          have hf3 : eOn (J 20) (J 21) 10 f3 (eSw (eRed (J 20) T c.toNat).1 row rk) := eSw_on (by omega) (by omega) (by omega) (by omega) hf hf3a
          replace hc : cOn h ad (uN (uN (uN (uN J 22 rk) 23 sg) 24 de) 23 (if row = rk then sg else -sg)) (uN (uN (uN B 10 f) 11 (uZ g c (-1))) 10 f3) Q Z := hc
          have hen2 : ∀ p q : Int, 0 ≤ p → p < J 20 → 0 ≤ q → q ≤ J 21 → z40 ((eSw (eRed (J 20) T c.toNat).1 row rk) p q) := fun p q p0 p1 q0 q1 => by unfold eSw; (repeat' split) <;> exact hsc.1 _ _ (by omega) (by omega) q0 q1
          refine ga_aload_n (pc := 77) dX0_reduce_77 rfl ?_
          refine ga_aload_n (pc := 78) dX0_reduce_78 rfl ?_
          refine cc_g_rank (pc := 79) (z := rk) hc rfl dX0_reduce_79 ?_
          refine ga_iload_n (pc := 82) dX0_reduce_82 rfl ?_
          refine k_X0_frees (pc := 83) (ro := rk) (c := c) (T := (eSw (eRed (J 20) T c.toNat).1 row rk)) hc (show (0 ≤ (J 20) ∧ (J 20) ≤ 10) ∧ 0 ≤ (J 21) ∧ (J 21) ≤ 9 from by first | exact hsz | omega) (show (0 ≤ rk ∧ rk < (J 20)) ∧ 0 ≤ c ∧ c ≤ (J 21) from by first | exact h1 | omega) (show de ≠ 0 ∧ z40 (de) from by rw [hr.2.2]; exact hsc.2.1) (show eOn ((J 20)) ((J 21)) 10 (f3) (eSw (eRed (J 20) T c.toNat).1 row rk) from hf3) (show ∀ p q : Int, 0 ≤ p → p < (J 20) → 0 ≤ q → q ≤ (J 21) → z40 ((eSw (eRed (J 20) T c.toNat).1 row rk) p q) from hen2) (show ∀ p q : Int, 0 ≤ p → p < (J 20) → p ≠ rk → 0 ≤ q → q ≤ (J 21) → z62 ((eSw (eRed (J 20) T c.toNat).1 row rk) rk c * (eSw (eRed (J 20) T c.toNat).1 row rk) p q) ∧ z62 ((eSw (eRed (J 20) T c.toNat).1 row rk) p c * (eSw (eRed (J 20) T c.toNat).1 row rk) rk q) from fun p q p0 p1 p2 q0 q1 => by rw [hE0, hr.1]; exact hsc.2.2 (by omega) (by rw [← hE0]; omega) p q p0 p1 (by rw [← hr.1]; exact p2) q0 q1) ⟨Nat.le_of_ble_eq_true rfl, Nat.le_of_ble_eq_true rfl⟩ ⟨Nat.le_of_ble_eq_true rfl, Nat.le_of_ble_eq_true rfl⟩ (Nat.le_of_ble_eq_true rfl) dX0_reduce_83 (fun J83 B83 hp83 h hc => ?_)
          obtain ⟨eJ83, f4, rfl, hf4⟩ := hp83
          subst eJ83
          refine ga_aload_n (pc := 86) dX0_reduce_86 rfl ?_
          refine cc_g_pivotAt (pc := 87) hc dX0_reduce_87 ?_
          refine ga_iload_n (pc := 90) dX0_reduce_90 rfl ?_
          refine ga_aload_n (pc := 91) dX0_reduce_91 rfl ?_
          refine cc_g_rank (pc := 92) (z := rk) hc rfl dX0_reduce_92 ?_
          refine cc_ast11 (pc := 95) (B1 := (uN (uN (uN (uN B 10 f) 11 (uZ (uZ g c (-1)) c rk)) 10 f3) 10 f4)) hc (by omega) (by funext j; by_cases e0 : j = 11; (subst e0; rfl); simp only [uN, if_neg e0]) dX0_reduce_95 (fun h hc => ?_)
          refine ga_aload_n (pc := 96) dX0_reduce_96 rfl ?_
          refine ga_dup (pc := 97) dX0_reduce_97 rfl ?_
          refine cc_g_rank (pc := 98) (z := rk) hc rfl dX0_reduce_98 ?_
          refine ga_iconst (pc := 101) dX0_reduce_101 ?_
          refine ga_iadd (pc := 102) dX0_reduce_102 ?_
          refine cc_p_rank (pc := 103) (J1 := (uN (uN (uN (uN (uN J 22 (rk + 1)) 23 sg) 24 de) 23 (if row = rk then sg else -sg)) 24 ((eSw (eRed (J 20) T c.toNat).1 row rk) rk c))) hc (by funext j; by_cases e0 : j = 22; (subst e0; rfl); simp only [uN, if_neg e0]) dX0_reduce_103 (fun h hc => ?_)
          refine ga_kill (pc := 106) 2 (L1 := [some (.ref (ad 0)), some (.int (iI c)), none]) rfl ?_
          replace hc : cOn h ad (uN (uN (uN J 22 (rk + 1)) 23 (if row = rk then sg else -sg)) 24 ((eSw (eRed (J 20) T c.toNat).1 row rk) rk c)) (uN (uN B 10 f4) 11 (uZ (uZ g c (-1)) c rk)) Q Z := hc.eq (by funext j; by_cases e0 : j = 22; (subst e0; rfl); by_cases e1 : j = 23; (subst e1; rfl); by_cases e2 : j = 24; (subst e2; rfl); simp only [uN, if_neg e0, if_neg e1, if_neg e2]) (by funext j; by_cases e0 : j = 10; (subst e0; rfl); by_cases e1 : j = 11; (subst e1; rfl); simp only [uN, if_neg e0, if_neg e1]) rfl
          exact jn106 (rk + 1) (if row = rk then sg else -sg) ((eSw (eRed (J 20) T c.toNat).1 row rk) rk c) f4 (uZ (uZ g c (-1)) c rk) h hc (by rw [eRed_s _ _ hc9.1, eStep_y (by omega), ← hE0, ← hr.1, ← hr.2.2]; exact ⟨rfl, by dsimp only; rw [hr.2.1]; by_cases e : row = rk; (rw [if_pos e, if_pos e, Int.add_zero]); (rw [if_neg e, if_neg e, zSg_s hrr.2.1.1]), rfl⟩) (by rw [eRed_s _ _ hc9.1, eStep_y (by omega), ← hE0, ← hr.1, ← hr.2.2]; exact hf4) (fun k k0 k1 => by rw [eRed_s _ _ hc9.1, eStep_y (by omega), ← hE0, ← hr.1, ← hr.2.2]; dsimp only; unfold uZ; by_cases e : k = c; (rw [if_pos e, if_pos e]); rw [if_neg e, if_neg e, if_neg e]; exact hg k k0 (by omega))
        have lp37 : ∀ (N37 : Nat) (row : Int), ∀ h : ga_H, cOn h ad (uN (uN (uN J 22 rk) 23 sg) 24 de) (uN (uN B 10 f) 11 (uZ g c (-1))) Q Z → (rk ≤ row ∧ row ≤ J 20) → (zFind (eRed (J 20) T c.toNat).1 (J 20) c (J 20 - row).toNat row = eRow (J 20) c (eRed (J 20) T c.toNat)) → (J 20 - row).toNat < N37 → G X (gR 3) RX0 3 cX0_reduce h 0 0 37 [some (.ref (ad 0)), some (.int (iI c)), some (.int (iI row))] [] := by
          intro N37
          induction N37 with
          | zero => intro row h hc hrow hfi hN37; exact absurd hN37 (Nat.not_lt_zero _)
          | succ N37 ih37 =>
            intro row h hc hrow hfi hN37
            refine ga_iload_n (pc := 37) dX0_reduce_37 rfl ?_
            refine ga_aload_n (pc := 38) dX0_reduce_38 rfl ?_
            refine cc_g_gridRows (pc := 39) (z := J 20) hc rfl dX0_reduce_39 ?_
            refine ga_icmp_lt (pc := 42) (tgt := 48) dX0_reduce_42 rfl (by omega) (by omega) (fun c42 => ?_) (fun c42 => ?_)
            · skip
              refine ga_aload_n (pc := 48) dX0_reduce_48 rfl ?_
              refine ga_iload_n (pc := 49) dX0_reduce_49 rfl ?_
              refine ga_iload_n (pc := 50) dX0_reduce_50 rfl ?_
              refine k_X0_cell (pc := 51) (i := row) (j := c) (z := (eRed (J 20) T c.toNat).1 row c) hc (show 0 ≤ 10 * row + c ∧ 10 * row + c < 100 from by omega) (hf row c (by omega) (by omega) (by omega) (by omega)) ⟨Nat.le_of_ble_eq_true rfl, Nat.le_of_ble_eq_true rfl⟩ ⟨Nat.le_of_ble_eq_true rfl, Nat.le_of_ble_eq_true rfl⟩ (Nat.le_of_ble_eq_true rfl) dX0_reduce_51 (fun h hc => ?_)
              have hsr := hsc.1 row c (by omega) (by omega) (by omega) (by omega)
              refine ga_lconst (pc := 54) 0 dX0_reduce_54 rfl ?_
              refine ga_lcmp (pc := 55) dX0_reduce_55 (by omega) (by omega) ?_
              refine ga_ifc_eq (pc := 56) (tgt := 62) dX0_reduce_56 rfl (fun c56 => ?_) (fun c56 => ?_)
              · skip
                refine ga_iinc (pc := 62) (L1 := [some (.ref (ad 0)), some (.int (iI c)), some (.int (iI (row + 1)))]) dX0_reduce_62 rfl rfl (by decide) rfl ?_
                refine ga_goto (pc := 65) (tgt := 37) dX0_reduce_65 rfl ?_
                exact ih37 (row + 1) h hc (by omega) (by rw [← hfi, zFind_t (r := row) (by omega)]) (by omega)
              · skip
                refine ga_goto (pc := 59) (tgt := 68) dX0_reduce_59 rfl ?_
                exact jn68 row h hc (by omega) (by rw [← hfi, zFind_x (by omega)])
            · skip
              have hE0 : row = eRow (J 20) c (eRed (J 20) T c.toNat) := by rw [← hfi, zFind_x (by omega)]
              refine ga_goto (pc := 45) (tgt := 106) dX0_reduce_45 rfl ?_
              refine ga_kill (pc := 106) 2 (L1 := [some (.ref (ad 0)), some (.int (iI c)), none]) rfl ?_
              exact jn106 rk sg de f (uZ g c (-1)) h hc (by rw [eRed_s _ _ hc9.1, eStep_n (by omega)]; exact hr) (by rw [eRed_s _ _ hc9.1, eStep_n (by omega)]; exact hf) (fun k k0 k1 => by rw [eRed_s _ _ hc9.1, eStep_n (by omega)]; dsimp only; unfold uZ; by_cases e : k = c; (rw [if_pos e, if_pos e]); rw [if_neg e, if_neg e]; exact hg k k0 (by omega))
        exact lp37 _ rk h hc (by omega) (by unfold eRow; rw [← hr.1]) (Nat.lt_succ_self _)
  exact lp17 _ 0 0 1 1 (B 10) (B 11) h hc (by omega) (⟨rfl, rfl, rfl⟩) (hT) (fun k k0 k1 => by omega) (Nat.lt_succ_self _)
theorem k_X0_reduce {X : ga_X} {R : Room} {nL : Nat} {cc : ByteArray} {h : ga_H} {ad : Nat → Nat} {J : Nat → Int} {B : Nat → Int → Int} {Q : Nat → Int → Option Nat} {Z : ga_H} {k n pc : Nat} {L : List (Option Value)} {st : List Value} {T : Int → Int → Int}  (hc : cOn h ad J B Q Z) (hsz : (0 ≤ J 20 ∧ J 20 ≤ 10) ∧ 0 ≤ J 21 ∧ J 21 ≤ 9) (hT : eOn (J 20) (J 21) 10 (B 10) T) (hsf : eSafe (J 20) (J 21) T)  (hR : 3 + 1 ≤ R.frames ∧ 19 + 3 + 64 * 3 ≤ R.locals) (hk : k ≤ R.cells ∧ n ≤ R.slots) (hs : (st.map fun v => v.category).sum ≤ 8) (dd : decode cc pc = .ok (.invokevirtual 357, 3)) (kk : ∀ (J1 : Nat → Int) (B1 : Nat → Int → Int), (J1 = uN (uN (uN J 22 (eRed (J 20) T (J 21).toNat).2.1) 23 (zSg (eRed (J 20) T (J 21).toNat).2.2.1)) 24 (eRed (J 20) T (J 21).toNat).2.2.2.1 ∧ ∃ f g, B1 = uN (uN B 10 f) 11 g ∧ eOn (J 20) (J 21) 10 f (eRed (J 20) T (J 21).toNat).1 ∧ ∀ k : Int, 0 ≤ k → k < J 21 → g k = (eRed (J 20) T (J 21).toNat).2.2.2.2 k) → ∀ h : ga_H, cOn h ad J1 B1 Q Z → G X R RX0 nL cc h k n (pc + 3) L st) : G X R RX0 nL cc h k n pc L (.ref (ad 0) :: st) :=
  cc_run hc (m_X0_reduce _ _ ad J B Q Z T hsz hT hsf) (lw_V q967 q969 qs21 q102 q970) rfl (show ga_nn' yX0_reduce 0 from (by unfold ga_nn'; decide +kernel)) hR hk hs dd rfl (fun v hX J1 B1 hcX hp => by
    obtain ⟨rfl, hp⟩ := hp
    exact kk J1 B1 hp hX hcX)
