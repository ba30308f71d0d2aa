/-! THE CLASS: a table's readers -/
def zMi (f : Int → Int) (co i j p q : Int) : Int := f (co * i + p) * f (co * j + q) - f (co * i + q) * f (co * j + p)
theorem zIx {co i j : Int} (h : 1 ≤ co ∧ co ≤ 3) (hi : 0 ≤ i) (hi3 : i ≤ 2) (hj : 0 ≤ j ∧ j < co) : 0 ≤ co * i + j ∧ co * i + j < 9 := by
  rcases (by omega : co = 1 ∨ co = 2 ∨ co = 3) with rfl | rfl | rfl <;> omega
set_option maxHeartbeats 4000000 in
set_option maxRecDepth 100000 in
theorem m_X5_at (l : Launch) (D : ga_G) (h : ga_H) (b e : Nat) (ro co i j : Int) (f : Int → Int) (hb : h b = some (oE 5 [.int (iI ro), .int (iI co), .int (iI 9), .ref e])) (he : h e = some (aL 9 f)) (hij : 0 ≤ co * i + j ∧ co * i + j < 9) : rM l D yX5_at (ws_ yX5_at cX5_at 3 (some .long)) (gR 0) [.ref b, .int (iI i), .int (iI j)] h (some (.long (lI (f (co * i + j))))) := by
  refine ga_met (own := RX5) 0 (by decide) rfl (Nat.le_of_ble_eq_true rfl) (L0 := [some (.ref b), some (.int (iI i)), some (.int (iI j))]) rfl (fun X _ _ hE => ?_)
  refine ga_aload_n (pc := 0) dX5_at_0 rfl ?_
  refine ga_get (pc := 1) (C := RX5) (T := TX5) (N := 4) (v := .ref e) in_X5 rfl hb 3 (by decide) q293 rfl rfl dX5_at_1 ?_
  refine ga_aload_n (pc := 4) dX5_at_4 rfl ?_
  refine ga_get (pc := 5) (C := RX5) (T := TX5) (N := 4) (v := .int (iI co)) in_X5 rfl hb 1 (by decide) q290 rfl rfl dX5_at_5 ?_
  refine ga_iload_n (pc := 8) dX5_at_8 rfl ?_
  refine ga_imul (pc := 9) dX5_at_9 ?_
  refine ga_iload_n (pc := 10) dX5_at_10 rfl ?_
  refine ga_iadd (pc := 11) dX5_at_11 ?_
  refine ga_lald (pc := 12) (N := 9) (f := f) he (by omega) (by decide) dX5_at_12 ?_
  exact ga_lret hE dX5_at_13 (Nat.le_of_ble_eq_true rfl) (Nat.le_of_ble_eq_true rfl) (⟨congrArg (fun z => some (Value.long (lI z))) (by first | rfl | omega | ((repeat' split) <;> omega)), rfl⟩)
theorem k_X5_at_X0 {X : ga_X} {R : Room} {nL : Nat} {cc : ByteArray} {h : ga_H} {k n pc : Nat} {L : List (Option Value)} {st : List Value} {b e : Nat} {ro co i j : Int} {f : Int → Int} {z : Int} (hb : h b = some (oE 5 [.int (iI ro), .int (iI co), .int (iI 9), .ref e])) (he : h e = some (aL 9 f)) (hij : 0 ≤ co * i + j ∧ co * i + j < 9) (hz : (f (co * i + j)) = z) (hR : 0 + 1 ≤ R.frames ∧ 19 + 3 + 64 * 0 ≤ R.locals) (hk : k ≤ R.cells ∧ n ≤ R.slots) (hs : (st.map fun v => v.category).sum ≤ 8) (d : decode cc pc = .ok (.invokevirtual 174, 3)) (kk : G X R RX0 nL cc h k n (pc + 3) L (.long (lI z) :: st)) : G X R RX0 nL cc h k n pc L (.int (iI j) :: .int (iI i) :: .ref b :: st) := by
  subst hz
  exact rm_run (C := RX5) (T := TX5) (N := 4) (m_X5_at _ _ h b e ro co i j f hb he hij) (lw_V q480 q481 q482 q110 q483) rfl (show ga_nn' yX5_at 2 from (by unfold ga_nn'; decide +kernel)) hR hk hb rfl hs d rfl kk
theorem k_X5_at_X11 {X : ga_X} {R : Room} {nL : Nat} {cc : ByteArray} {h : ga_H} {k n pc : Nat} {L : List (Option Value)} {st : List Value} {b e : Nat} {ro co i j : Int} {f : Int → Int} {z : Int} (hb : h b = some (oE 5 [.int (iI ro), .int (iI co), .int (iI 9), .ref e])) (he : h e = some (aL 9 f)) (hij : 0 ≤ co * i + j ∧ co * i + j < 9) (hz : (f (co * i + j)) = z) (hR : 0 + 1 ≤ R.frames ∧ 19 + 3 + 64 * 0 ≤ R.locals) (hk : k ≤ R.cells ∧ n ≤ R.slots) (hs : (st.map fun v => v.category).sum ≤ 8) (d : decode cc pc = .ok (.invokevirtual 15, 3)) (kk : G X R RX11 nL cc h k n (pc + 3) L (.long (lI z) :: st)) : G X R RX11 nL cc h k n pc L (.int (iI j) :: .int (iI i) :: .ref b :: st) := by
  subst hz
  exact rm_run (C := RX5) (T := TX5) (N := 4) (m_X5_at _ _ h b e ro co i j f hb he hij) (lw_V q949 q481 q482 q110 q483) rfl (show ga_nn' yX5_at 2 from (by unfold ga_nn'; decide +kernel)) hR hk hb rfl hs d rfl kk
theorem k_X5_at_X12 {X : ga_X} {R : Room} {nL : Nat} {cc : ByteArray} {h : ga_H} {k n pc : Nat} {L : List (Option Value)} {st : List Value} {b e : Nat} {ro co i j : Int} {f : Int → Int} {z : Int} (hb : h b = some (oE 5 [.int (iI ro), .int (iI co), .int (iI 9), .ref e])) (he : h e = some (aL 9 f)) (hij : 0 ≤ co * i + j ∧ co * i + j < 9) (hz : (f (co * i + j)) = z) (hR : 0 + 1 ≤ R.frames ∧ 19 + 3 + 64 * 0 ≤ R.locals) (hk : k ≤ R.cells ∧ n ≤ R.slots) (hs : (st.map fun v => v.category).sum ≤ 8) (d : decode cc pc = .ok (.invokevirtual 15, 3)) (kk : G X R RX12 nL cc h k n (pc + 3) L (.long (lI z) :: st)) : G X R RX12 nL cc h k n pc L (.int (iI j) :: .int (iI i) :: .ref b :: st) := by
  subst hz
  exact rm_run (C := RX5) (T := TX5) (N := 4) (m_X5_at _ _ h b e ro co i j f hb he hij) (lw_V q953 q481 q482 q110 q483) rfl (show ga_nn' yX5_at 2 from (by unfold ga_nn'; decide +kernel)) hR hk hb rfl hs d rfl kk
theorem k_X5_at_X5 {X : ga_X} {R : Room} {nL : Nat} {cc : ByteArray} {h : ga_H} {k n pc : Nat} {L : List (Option Value)} {st : List Value} {b e : Nat} {ro co i j : Int} {f : Int → Int} {z : Int} (hb : h b = some (oE 5 [.int (iI ro), .int (iI co), .int (iI 9), .ref e])) (he : h e = some (aL 9 f)) (hij : 0 ≤ co * i + j ∧ co * i + j < 9) (hz : (f (co * i + j)) = z) (hR : 0 + 1 ≤ R.frames ∧ 19 + 3 + 64 * 0 ≤ R.locals) (hk : k ≤ R.cells ∧ n ≤ R.slots) (hs : (st.map fun v => v.category).sum ≤ 8) (d : decode cc pc = .ok (.invokevirtual 38, 3)) (kk : G X R RX5 nL cc h k n (pc + 3) L (.long (lI z) :: st)) : G X R RX5 nL cc h k n pc L (.int (iI j) :: .int (iI i) :: .ref b :: st) := by
  subst hz
  exact rm_run (C := RX5) (T := TX5) (N := 4) (m_X5_at _ _ h b e ro co i j f hb he hij) (lw_V q548 q481 q482 q110 q483) rfl (show ga_nn' yX5_at 2 from (by unfold ga_nn'; decide +kernel)) hR hk hb rfl hs d rfl kk
theorem k_X5_at_X9 {X : ga_X} {R : Room} {nL : Nat} {cc : ByteArray} {h : ga_H} {k n pc : Nat} {L : List (Option Value)} {st : List Value} {b e : Nat} {ro co i j : Int} {f : Int → Int} {z : Int} (hb : h b = some (oE 5 [.int (iI ro), .int (iI co), .int (iI 9), .ref e])) (he : h e = some (aL 9 f)) (hij : 0 ≤ co * i + j ∧ co * i + j < 9) (hz : (f (co * i + j)) = z) (hR : 0 + 1 ≤ R.frames ∧ 19 + 3 + 64 * 0 ≤ R.locals) (hk : k ≤ R.cells ∧ n ≤ R.slots) (hs : (st.map fun v => v.category).sum ≤ 8) (d : decode cc pc = .ok (.invokevirtual 22, 3)) (kk : G X R RX9 nL cc h k n (pc + 3) L (.long (lI z) :: st)) : G X R RX9 nL cc h k n pc L (.int (iI j) :: .int (iI i) :: .ref b :: st) := by
  subst hz
  exact rm_run (C := RX5) (T := TX5) (N := 4) (m_X5_at _ _ h b e ro co i j f hb he hij) (lw_V q966 q481 q482 q110 q483) rfl (show ga_nn' yX5_at 2 from (by unfold ga_nn'; decide +kernel)) hR hk hb rfl hs d rfl kk
set_option maxHeartbeats 4000000 in
set_option maxRecDepth 100000 in
theorem m_X5_has (l : Launch) (D : ga_G) (h : ga_H) (b e : Nat) (ro co i j : Int) (f : Int → Int) (hb : h b = some (oE 5 [.int (iI ro), .int (iI co), .int (iI 9), .ref e])) (he : h e = some (aL 9 f)) (hrc : (1 ≤ ro ∧ ro ≤ 3) ∧ 1 ≤ co ∧ co ≤ 3) (h1 : (-2147483648 ≤ i ∧ i < 2147483648) ∧ (-2147483648 ≤ j ∧ j < 2147483648)) : rM l D yX5_has (ws_ yX5_has cX5_has 3 (some .boolean)) (gR 1) [.ref b, .int (iI i), .int (iI j)] h (some (.int (iI (bI ((0 ≤ i ∧ i < ro) ∧ 0 ≤ j ∧ j < co))))) := by
  refine ga_met (own := RX5) 0 (by decide) rfl (Nat.le_of_ble_eq_true rfl) (L0 := [some (.ref b), some (.int (iI i)), some (.int (iI j))]) rfl (fun X _ _ hE => ?_)
  refine ga_iload_n (pc := 0) dX5_has_0 rfl ?_
  refine ga_iconst (pc := 1) dX5_has_1 ?_
  refine ga_aload_n (pc := 2) dX5_has_2 rfl ?_
  refine ga_get (pc := 3) (C := RX5) (T := TX5) (N := 4) (v := .int (iI ro)) in_X5 rfl hb 0 (by decide) q288 rfl rfl dX5_has_3 ?_
  refine ga_iconst (pc := 6) dX5_has_6 ?_
  refine ga_isub (pc := 7) dX5_has_7 ?_
  refine k_X0_isIn_X5 (pc := 8) (a := i) (b := 0) (e := (ro - 1)) (by omega) (rfl) ⟨Nat.le_of_ble_eq_true rfl, Nat.le_of_ble_eq_true rfl⟩ ⟨Nat.le_of_ble_eq_true rfl, Nat.le_of_ble_eq_true rfl⟩ (Nat.le_of_ble_eq_true rfl) dX5_has_8 ?_
  refine ga_ifb_eq (pc := 11) (tgt := 32) dX5_has_11 rfl (fun c11 => ?_) (fun c11 => ?_)
  · skip
    refine ga_iconst (pc := 32) dX5_has_32 ?_
    exact ga_zret hE dX5_has_33 (Nat.le_of_ble_eq_true rfl) (Nat.le_of_ble_eq_true rfl) (by first | exact Or.inl rfl | exact Or.inr rfl) (⟨congrArg (fun z => some (Value.int (iI z))) ((bI_f (by omega)).symm), rfl⟩)
  · skip
    refine ga_iload_n (pc := 14) dX5_has_14 rfl ?_
    refine ga_iconst (pc := 15) dX5_has_15 ?_
    refine ga_aload_n (pc := 16) dX5_has_16 rfl ?_
    refine ga_get (pc := 17) (C := RX5) (T := TX5) (N := 4) (v := .int (iI co)) in_X5 rfl hb 1 (by decide) q290 rfl rfl dX5_has_17 ?_
    refine ga_iconst (pc := 20) dX5_has_20 ?_
    refine ga_isub (pc := 21) dX5_has_21 ?_
    refine k_X0_isIn_X5 (pc := 22) (a := j) (b := 0) (e := (co - 1)) (by omega) (rfl) ⟨Nat.le_of_ble_eq_true rfl, Nat.le_of_ble_eq_true rfl⟩ ⟨Nat.le_of_ble_eq_true rfl, Nat.le_of_ble_eq_true rfl⟩ (Nat.le_of_ble_eq_true rfl) dX5_has_22 ?_
    refine ga_ifb_eq (pc := 25) (tgt := 32) dX5_has_25 rfl (fun c25 => ?_) (fun c25 => ?_)
    · skip
      refine ga_iconst (pc := 32) dX5_has_32 ?_
      exact ga_zret hE dX5_has_33 (Nat.le_of_ble_eq_true rfl) (Nat.le_of_ble_eq_true rfl) (by first | exact Or.inl rfl | exact Or.inr rfl) (⟨congrArg (fun z => some (Value.int (iI z))) ((bI_f (by omega)).symm), rfl⟩)
    · skip
      refine ga_iconst (pc := 28) dX5_has_28 ?_
      refine ga_goto (pc := 29) (tgt := 33) dX5_has_29 rfl ?_
      exact ga_zret hE dX5_has_33 (Nat.le_of_ble_eq_true rfl) (Nat.le_of_ble_eq_true rfl) (by first | exact Or.inl rfl | exact Or.inr rfl) (⟨congrArg (fun z => some (Value.int (iI z))) ((bI_t (by omega)).symm), rfl⟩)
theorem k_X5_has_X0 {X : ga_X} {R : Room} {nL : Nat} {cc : ByteArray} {h : ga_H} {k n pc : Nat} {L : List (Option Value)} {st : List Value} {b e : Nat} {ro co i j : Int} {f : Int → Int} {z : Int} (hb : h b = some (oE 5 [.int (iI ro), .int (iI co), .int (iI 9), .ref e])) (he : h e = some (aL 9 f)) (hrc : (1 ≤ ro ∧ ro ≤ 3) ∧ 1 ≤ co ∧ co ≤ 3) (h1 : (-2147483648 ≤ i ∧ i < 2147483648) ∧ (-2147483648 ≤ j ∧ j < 2147483648)) (hz : (bI ((0 ≤ i ∧ i < ro) ∧ 0 ≤ j ∧ j < co)) = z) (hR : 1 + 1 ≤ R.frames ∧ 19 + 3 + 64 * 1 ≤ R.locals) (hk : k ≤ R.cells ∧ n ≤ R.slots) (hs : (st.map fun v => v.category).sum ≤ 8) (d : decode cc pc = .ok (.invokevirtual 164, 3)) (kk : G X R RX0 nL cc h k n (pc + 3) L (.int (iI z) :: st)) : G X R RX0 nL cc h k n pc L (.int (iI j) :: .int (iI i) :: .ref b :: st) := by
  subst hz
  exact rm_run (C := RX5) (T := TX5) (N := 4) (m_X5_has _ _ h b e ro co i j f hb he hrc h1) (lw_V q472 q473 q474 q110 q475) rfl (show ga_nn' yX5_has 2 from (by unfold ga_nn'; decide +kernel)) hR hk hb rfl hs d rfl kk
set_option maxHeartbeats 4000000 in
set_option maxRecDepth 100000 in
theorem m_X5_diagonal (l : Launch) (D : ga_G) (h : ga_H) (b e : Nat) (ro co : Int) (f : Int → Int) (hb : h b = some (oE 5 [.int (iI ro), .int (iI co), .int (iI 9), .ref e])) (he : h e = some (aL 9 f)) (hrc : (1 ≤ ro ∧ ro ≤ 3) ∧ 1 ≤ co ∧ co ≤ 3) (hrr : ro ≤ co) : rM l D yX5_diagonal (ws_ yX5_diagonal cX5_diagonal 4 (some .long)) (gR 1) [.ref b] h (some (.long (lI (zsum (fun x => f (co * x + x)) ro.toNat)))) := by
  refine ga_met (own := RX5) 3 (by decide) rfl (Nat.le_of_ble_eq_true rfl) (L0 := [some (.ref b), none, none, none]) rfl (fun X _ _ hE => ?_)
  refine ga_lconst (pc := 0) 0 dX5_diagonal_0 rfl ?_
  refine ga_lstore_n (pc := 1) (L1 := [some (.ref b), some (.long (lI 0)), none, none]) dX5_diagonal_1 rfl (by decide) rfl ?_
  refine ga_iconst (pc := 2) dX5_diagonal_2 ?_
  refine ga_istore_n (pc := 3) (L1 := [some (.ref b), some (.long (lI 0)), none, some (.int (iI 0))]) dX5_diagonal_3 rfl (by decide) rfl ?_
  have lp4 : ∀ (N4 : Nat) (v i : Int), (0 ≤ i ∧ i ≤ ro) → (v = zsum (fun x => f (co * x + x)) i.toNat) → (ro - i).toNat < N4 → G X (gR 1) RX5 4 cX5_diagonal h 0 0 4 [some (.ref b), some (.long (lI v)), none, some (.int (iI i))] [] := by
    intro N4
    induction N4 with
    | zero => intro v i hi hv hN4; exact absurd hN4 (Nat.not_lt_zero _)
    | succ N4 ih4 =>
      intro v i hi hv hN4
      refine ga_iload_n (pc := 4) dX5_diagonal_4 rfl ?_
      refine ga_aload_n (pc := 5) dX5_diagonal_5 rfl ?_
      refine ga_get (pc := 6) (C := RX5) (T := TX5) (N := 4) (v := .int (iI ro)) in_X5 rfl hb 0 (by decide) q288 rfl rfl dX5_diagonal_6 ?_
      refine ga_icmp_ge (pc := 9) (tgt := 27) dX5_diagonal_9 rfl (by omega) (by omega) (fun c9 => ?_) (fun c9 => ?_)
      · skip
        refine ga_lload_n (pc := 27) dX5_diagonal_27 rfl ?_
        exact ga_lret hE dX5_diagonal_28 (Nat.le_of_ble_eq_true rfl) (Nat.le_of_ble_eq_true rfl) (⟨congrArg (fun z => some (Value.long (lI z))) (by rw [hv, show i = ro by omega]), rfl⟩)
      · skip
        have hix := zIx hrc.2 (i := i) (j := i) (by omega) (by omega) (by omega)
        refine ga_lload_n (pc := 12) dX5_diagonal_12 rfl ?_
        refine ga_aload_n (pc := 13) dX5_diagonal_13 rfl ?_
        refine ga_iload_n (pc := 14) dX5_diagonal_14 rfl ?_
        refine ga_iload_n (pc := 15) dX5_diagonal_15 rfl ?_
        refine k_X5_at_X5 (pc := 16) (b := b) (e := e) (ro := ro) (co := co) (i := i) (j := i) (f := f) (hb) (he) (by first | exact hij | omega) (rfl) ⟨Nat.le_of_ble_eq_true rfl, Nat.le_of_ble_eq_true rfl⟩ ⟨Nat.le_of_ble_eq_true rfl, Nat.le_of_ble_eq_true rfl⟩ (Nat.le_of_ble_eq_true rfl) dX5_diagonal_16 ?_
        refine ga_ladd (pc := 19) dX5_diagonal_19 ?_
        refine ga_lstore_n (pc := 20) (L1 := [some (.ref b), some (.long (lI (v + (f (co * i + i))))), none, some (.int (iI i))]) dX5_diagonal_20 rfl (by decide) rfl ?_
        refine ga_iinc (pc := 21) (L1 := [some (.ref b), some (.long (lI (v + (f (co * i + i))))), none, some (.int (iI (i + 1)))]) dX5_diagonal_21 rfl rfl (by decide) rfl ?_
        refine ga_goto (pc := 24) (tgt := 4) dX5_diagonal_24 rfl ?_
        exact ih4 (v + (f (co * i + i))) (i + 1) (by omega) (by rw [zsum_s _ hi.1, hv]) (by omega)
  exact lp4 _ 0 0 (by omega) (rfl) (Nat.lt_succ_self _)
theorem k_X5_diagonal_X0 {X : ga_X} {R : Room} {nL : Nat} {cc : ByteArray} {h : ga_H} {k n pc : Nat} {L : List (Option Value)} {st : List Value} {b e : Nat} {ro co : Int} {f : Int → Int} {z : Int} (hb : h b = some (oE 5 [.int (iI ro), .int (iI co), .int (iI 9), .ref e])) (he : h e = some (aL 9 f)) (hrc : (1 ≤ ro ∧ ro ≤ 3) ∧ 1 ≤ co ∧ co ≤ 3) (hrr : ro ≤ co) (hz : (zsum (fun x => f (co * x + x)) ro.toNat) = z) (hR : 1 + 1 ≤ R.frames ∧ 19 + 4 + 64 * 1 ≤ R.locals) (hk : k ≤ R.cells ∧ n ≤ R.slots) (hs : (st.map fun v => v.category).sum ≤ 8) (d : decode cc pc = .ok (.invokevirtual 207, 3)) (kk : G X R RX0 nL cc h k n (pc + 3) L (.long (lI z) :: st)) : G X R RX0 nL cc h k n pc L (.ref b :: st) := by
  subst hz
  exact rm_run (C := RX5) (T := TX5) (N := 4) (m_X5_diagonal _ _ h b e ro co f hb he hrc hrr) (lw_V q544 q545 q546 q110 q547) rfl (show ga_nn' yX5_diagonal 0 from (by unfold ga_nn'; decide +kernel)) hR hk hb rfl hs d rfl kk
set_option maxHeartbeats 4000000 in
set_option maxRecDepth 100000 in
theorem m_X0_minor (l : Launch) (D : ga_G) (h : ga_H) (b e : Nat) (ro co i j p q : Int) (f : Int → Int) (hb : h b = some (oE 5 [.int (iI ro), .int (iI co), .int (iI 9), .ref e])) (he : h e = some (aL 9 f)) (hrc : (1 ≤ ro ∧ ro ≤ 3) ∧ 1 ≤ co ∧ co ≤ 3) (h1 : (0 ≤ i ∧ i ≤ 2) ∧ (0 ≤ j ∧ j ≤ 2) ∧ (0 ≤ p ∧ p < co) ∧ 0 ≤ q ∧ q < co) : rM l D yX0_minor (ws_ yX0_minor cX0_minor 5 (some .long)) (gR 1) [.ref b, .int (iI i), .int (iI j), .int (iI p), .int (iI q)] h (some (.long (lI (zMi f co i j p q)))) := by
  refine ga_met (own := RX0) 0 (by decide) rfl (Nat.le_of_ble_eq_true rfl) (L0 := [some (.ref b), some (.int (iI i)), some (.int (iI j)), some (.int (iI p)), some (.int (iI q))]) rfl (fun X _ _ hE => ?_)
  refine ga_aload_n (pc := 0) dX0_minor_0 rfl ?_
  refine ga_iload_n (pc := 1) dX0_minor_1 rfl ?_
  refine ga_iload_n (pc := 2) dX0_minor_2 rfl ?_
  refine k_X5_at_X0 (pc := 3) (b := b) (e := e) (ro := ro) (co := co) (i := i) (j := p) (f := f) (hb) (he) (zIx hrc.2 (by omega) (by omega) (by omega)) (rfl) ⟨Nat.le_of_ble_eq_true rfl, Nat.le_of_ble_eq_true rfl⟩ ⟨Nat.le_of_ble_eq_true rfl, Nat.le_of_ble_eq_true rfl⟩ (Nat.le_of_ble_eq_true rfl) dX0_minor_3 ?_
  refine ga_aload_n (pc := 6) dX0_minor_6 rfl ?_
  refine ga_iload_n (pc := 7) dX0_minor_7 rfl ?_
  refine ga_iload (pc := 8) dX0_minor_8 rfl ?_
  refine k_X5_at_X0 (pc := 10) (b := b) (e := e) (ro := ro) (co := co) (i := j) (j := q) (f := f) (hb) (he) (zIx hrc.2 (by omega) (by omega) (by omega)) (rfl) ⟨Nat.le_of_ble_eq_true rfl, Nat.le_of_ble_eq_true rfl⟩ ⟨Nat.le_of_ble_eq_true rfl, Nat.le_of_ble_eq_true rfl⟩ (Nat.le_of_ble_eq_true rfl) dX0_minor_10 ?_
  refine ga_lmul (pc := 13) dX0_minor_13 ?_
  refine ga_aload_n (pc := 14) dX0_minor_14 rfl ?_
  refine ga_iload_n (pc := 15) dX0_minor_15 rfl ?_
  refine ga_iload (pc := 16) dX0_minor_16 rfl ?_
  refine k_X5_at_X0 (pc := 18) (b := b) (e := e) (ro := ro) (co := co) (i := i) (j := q) (f := f) (hb) (he) (zIx hrc.2 (by omega) (by omega) (by omega)) (rfl) ⟨Nat.le_of_ble_eq_true rfl, Nat.le_of_ble_eq_true rfl⟩ ⟨Nat.le_of_ble_eq_true rfl, Nat.le_of_ble_eq_true rfl⟩ (Nat.le_of_ble_eq_true rfl) dX0_minor_18 ?_
  refine ga_aload_n (pc := 21) dX0_minor_21 rfl ?_
  refine ga_iload_n (pc := 22) dX0_minor_22 rfl ?_
  refine ga_iload_n (pc := 23) dX0_minor_23 rfl ?_
  refine k_X5_at_X0 (pc := 24) (b := b) (e := e) (ro := ro) (co := co) (i := j) (j := p) (f := f) (hb) (he) (zIx hrc.2 (by omega) (by omega) (by omega)) (rfl) ⟨Nat.le_of_ble_eq_true rfl, Nat.le_of_ble_eq_true rfl⟩ ⟨Nat.le_of_ble_eq_true rfl, Nat.le_of_ble_eq_true rfl⟩ (Nat.le_of_ble_eq_true rfl) dX0_minor_24 ?_
  refine ga_lmul (pc := 27) dX0_minor_27 ?_
  refine ga_lsub (pc := 28) dX0_minor_28 ?_
  exact ga_lret hE dX0_minor_29 (Nat.le_of_ble_eq_true rfl) (Nat.le_of_ble_eq_true rfl) (⟨congrArg (fun z => some (Value.long (lI z))) (by first | rfl | omega | ((repeat' split) <;> omega)), rfl⟩)
theorem k_X0_minor_X0 {X : ga_X} {R : Room} {nL : Nat} {cc : ByteArray} {h : ga_H} {k n pc : Nat} {L : List (Option Value)} {st : List Value} {b e : Nat} {ro co i j p q : Int} {f : Int → Int} {z : Int} (hb : h b = some (oE 5 [.int (iI ro), .int (iI co), .int (iI 9), .ref e])) (he : h e = some (aL 9 f)) (hrc : (1 ≤ ro ∧ ro ≤ 3) ∧ 1 ≤ co ∧ co ≤ 3) (h1 : (0 ≤ i ∧ i ≤ 2) ∧ (0 ≤ j ∧ j ≤ 2) ∧ (0 ≤ p ∧ p < co) ∧ 0 ≤ q ∧ q < co) (hz : (zMi f co i j p q) = z) (hR : 1 + 1 ≤ R.frames ∧ 19 + 5 + 64 * 1 ≤ R.locals) (hk : k ≤ R.cells ∧ n ≤ R.slots) (hs : (st.map fun v => v.category).sum ≤ 8) (d : decode cc pc = .ok (.invokestatic 191, 3)) (kk : G X R RX0 nL cc h k n (pc + 3) L (.long (lI z) :: st)) : G X R RX0 nL cc h k n pc L (.int (iI q) :: .int (iI p) :: .int (iI j) :: .int (iI i) :: .ref b :: st) := by
  subst hz
  exact rm_runS (m_X0_minor _ _ h b e ro co i j p q f hb he hrc h1) (lw_S q499 q500 q102 q501) (show ga_nn' yX0_minor 5 from (by unfold ga_nn'; decide +kernel)) hR hk hs d rfl kk
