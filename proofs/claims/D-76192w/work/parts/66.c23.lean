/-! THE CLASS: tables as wholes -/
theorem ga_fu {h : ga_H} {q : Nat} {E : ga_E} (hq : h q = none) {a : Nat} {e : ga_E} (ha : h a = some e) : ga_u h q E a = some e := by
  rw [ga_un (fun z => by rw [z, hq] at ha; cases ha)]
  exact ha
theorem cOn.fr {h h1 : ga_H} {ad : Nat → Nat} {J : Nat → Int} {B : Nat → Int → Int} {Q : Nat → Int → Option Nat} {Z : ga_H} (hc : cOn h ad J B Q Z) (hf : ∀ a e, h a = some e → h1 a = some e) : cOn h1 ad J B Q Z := ⟨fun r hr => hf _ _ (hc.1 r hr), hc.2.1, fun a e ha => ⟨hf _ _ (hc.2.2 a e ha).1, (hc.2.2 a e ha).2⟩⟩
abbrev nM (l : Launch) (D : ga_G) (y : MethodName) (ws : List Cond) (rm : Room) (As : List Value) (h : ga_H) (v : Option Value) (mc ms : Nat) : Prop := ga_M l D y ws rm As h (fun w h1 => w = v ∧ ∀ a e, h a = some e → h1 a = some e) pX0 mc ms
theorem nm_runS {X : ga_X} {R : Room} {own : String} {nL : Nat} {cc : ByteArray} {h : ga_H} {k n pc : Nat} {L : List (Option Value)} {y : MethodName} {bytes : ByteArray} {maxL dc idx mc ms : Nat} {ret : Option FieldType} {As rest st0 : List Value} {v : Option Value} (hM : nM (ga_la X) (ga_D X) y (ws_ y bytes maxL ret) (gK dc mc ms) As h v mc ms) (hV : GoodIn lw_all (va_wsS own idx y (ws_ y bytes maxL ret))) (hy : ga_nn' y As.length) (hR : dc + 1 ≤ R.frames ∧ 19 + maxL + 64 * dc ≤ R.locals) (hk : k + mc ≤ R.cells ∧ n + ms ≤ R.slots) (hs : (rest.map fun v => v.category).sum ≤ 8) (dd : decode cc pc = .ok (.invokestatic idx, 3)) (hst : st0 = As.reverse ++ rest)
    (kk : ∀ h1 : ga_H, (∀ a e, h a = some e → h1 a = some e) → G X R own nL cc h1 (k + mc) (n + ms) (pc + 3) L (v.toList ++ rest)) : G X R own nL cc h k n pc L st0 :=
  ga_go (ga_runS (mc := mc) (ms := ms) hM hV hy ⟨rfl, rfl⟩ ⟨hR.1, by show 8 + (maxL + 11) + 64 * dc ≤ _; omega⟩ hk hs dd hst) (fun _ _ _ z => z.elim) (fun v h1 hp => by obtain ⟨rfl, hp⟩ := hp; exact kk h1 hp)
set_option maxHeartbeats 4000000 in
set_option maxRecDepth 100000 in
theorem m_X0_sum (l : Launch) (D : ga_G) (h : ga_H) (b : Nat) (f : Int → Int) (hb : h b = some (aL 3 f)) (hf : ∀ k : Int, 0 ≤ k → k < 3 → -1099511627776 ≤ f k ∧ f k ≤ 1099511627776) : rM l D yX0_sum (ws_ yX0_sum cX0_sum 8 (some .long)) (gR 1) [.ref b] h (some (.long (lI (zsum f 3)))) := by
  refine ga_met (own := RX0) 7 (by decide) rfl (Nat.le_of_ble_eq_true rfl) (L0 := [some (.ref b), none, none, none, none, none, none, none]) rfl (fun X _ _ hE => ?_)
  refine ga_lconst (pc := 0) 0 dX0_sum_0 rfl ?_
  refine ga_lstore_n (pc := 1) (L1 := [some (.ref b), some (.long (lI 0)), none, none, none, none, none, none]) dX0_sum_1 rfl (by decide) rfl ?_
  refine ga_aload_n (pc := 2) dX0_sum_2 rfl ?_
  refine ga_astore_n (pc := 3) (L1 := [some (.ref b), some (.long (lI 0)), none, some (.ref b), none, none, none, none]) dX0_sum_3 rfl (by decide) rfl ?_
  refine ga_aload_n (pc := 4) dX0_sum_4 rfl ?_
  refine ga_alen (pc := 5) (z := 3) hb rfl dX0_sum_5 ?_
  refine ga_istore (pc := 6) (L1 := [some (.ref b), some (.long (lI 0)), none, some (.ref b), some (.int (iI 3)), none, none, none]) dX0_sum_6 rfl (by decide) rfl ?_
  refine ga_iconst (pc := 8) dX0_sum_8 ?_
  refine ga_istore (pc := 9) (L1 := [some (.ref b), some (.long (lI 0)), none, some (.ref b), some (.int (iI 3)), some (.int (iI 0)), none, none]) dX0_sum_9 rfl (by decide) rfl ?_
  have lp11 : ∀ (N11 : Nat) (v i : Int), (0 ≤ i ∧ i ≤ 3) → (v = zsum f (Int.toNat i)) → (-(1099511627776 * i) ≤ v ∧ v ≤ 1099511627776 * i) → (3 - i).toNat < N11 → G X (gR 1) RX0 8 cX0_sum h 0 0 11 [some (.ref b), some (.long (lI v)), none, some (.ref b), some (.int (iI 3)), some (.int (iI i)), none, none] [] := by
    intro N11
    induction N11 with
    | zero => intro v i hi hv hvr hN11; exact absurd hN11 (Nat.not_lt_zero _)
    | succ N11 ih11 =>
      intro v i hi hv hvr hN11
      refine ga_iload (pc := 11) dX0_sum_11 rfl ?_
      refine ga_iload (pc := 13) dX0_sum_13 rfl ?_
      refine ga_icmp_ge (pc := 15) (tgt := 37) dX0_sum_15 rfl (by omega) (by omega) (fun c15 => ?_) (fun c15 => ?_)
      · skip
        refine ga_lload_n (pc := 37) dX0_sum_37 rfl ?_
        exact ga_lret hE dX0_sum_38 (Nat.le_of_ble_eq_true rfl) (Nat.le_of_ble_eq_true rfl) (⟨congrArg (fun z => some (Value.long (lI z))) (by rw [hv, show i = 3 by omega]; rfl), rfl⟩)
      · skip
        refine ga_aload_n (pc := 18) dX0_sum_18 rfl ?_
        refine ga_iload (pc := 19) dX0_sum_19 rfl ?_
        have hfi := hf i (by omega) (by omega)
        refine ga_lald (pc := 21) (N := 3) (f := f) hb (by omega) (by decide) dX0_sum_21 ?_
        refine ga_lstore (pc := 22) (L1 := [some (.ref b), some (.long (lI v)), none, some (.ref b), some (.int (iI 3)), some (.int (iI i)), some (.long (lI (f i))), none]) dX0_sum_22 rfl (by decide) rfl ?_
        refine ga_lload_n (pc := 24) dX0_sum_24 rfl ?_
        refine ga_lload (pc := 25) dX0_sum_25 rfl ?_
        refine k_J3_addExact_X0 (pc := 27) (a := v) (b := (f i)) (by omega) (by omega) (rfl) ⟨Nat.le_of_ble_eq_true rfl, Nat.le_of_ble_eq_true rfl⟩ ⟨Nat.le_of_ble_eq_true rfl, Nat.le_of_ble_eq_true rfl⟩ (Nat.le_of_ble_eq_true rfl) dX0_sum_27 ?_
        refine ga_lstore_n (pc := 30) (L1 := [some (.ref b), some (.long (lI (v + (f i)))), none, some (.ref b), some (.int (iI 3)), some (.int (iI i)), some (.long (lI (f i))), none]) dX0_sum_30 rfl (by decide) rfl ?_
        refine ga_iinc (pc := 31) (L1 := [some (.ref b), some (.long (lI (v + (f i)))), none, some (.ref b), some (.int (iI 3)), some (.int (iI (i + 1))), some (.long (lI (f i))), none]) dX0_sum_31 rfl rfl (by decide) rfl ?_
        refine ga_goto (pc := 34) (tgt := 11) dX0_sum_34 rfl ?_
        refine ga_kill (pc := 11) 6 (L1 := [some (.ref b), some (.long (lI (v + (f i)))), none, some (.ref b), some (.int (iI 3)), some (.int (iI (i + 1))), none, none]) rfl ?_
        exact ih11 (v + (f i)) (i + 1) (by omega) (by rw [zsum_s _ hi.1, hv]) (by omega) (by omega)
  exact lp11 _ 0 0 (by omega) (rfl) (by omega) (Nat.lt_succ_self _)
theorem k_X0_sum_X0 {X : ga_X} {R : Room} {nL : Nat} {cc : ByteArray} {h : ga_H} {k n pc : Nat} {L : List (Option Value)} {st : List Value} {b : Nat} {f : Int → Int} {z : Int} (hb : h b = some (aL 3 f)) (hf : ∀ k : Int, 0 ≤ k → k < 3 → -1099511627776 ≤ f k ∧ f k ≤ 1099511627776) (hz : (zsum f 3) = z) (hR : 1 + 1 ≤ R.frames ∧ 19 + 8 + 64 * 1 ≤ R.locals) (hk : k ≤ R.cells ∧ n ≤ R.slots) (hs : (st.map fun v => v.category).sum ≤ 8) (d : decode cc pc = .ok (.invokestatic 195, 3)) (kk : G X R RX0 nL cc h k n (pc + 3) L (.long (lI z) :: st)) : G X R RX0 nL cc h k n pc L (.ref b :: st) := by
  subst hz
  exact rm_runS (m_X0_sum _ _ h b f hb hf) (lw_S q502 q503 q102 q504) (show ga_nn' yX0_sum 1 from (by unfold ga_nn'; decide +kernel)) hR hk hs d rfl kk
def cAbs (f : Int → Int) : Nat → Int
  | 0 => 1
  | k + 1 => if cAbs f k = 1 ∧ 0 < f k then 1 else 0
theorem cAbs_s {f : Int → Int} {i : Int} (h0 : 0 ≤ i) (h : cAbs f i.toNat = 1) : cAbs f (i + 1).toNat = if 0 < f i then 1 else 0 := by
  rw [show (i + 1).toNat = i.toNat + 1 by omega]
  show (if cAbs f i.toNat = 1 ∧ 0 < f (i.toNat : Nat) then 1 else 0) = _
  rw [show ((i.toNat : Nat) : Int) = i by omega]
  by_cases z : 0 < f i
  · rw [if_pos ⟨h, z⟩, if_pos z]
  · rw [if_neg (fun q => z q.2), if_neg z]
theorem cAbs_0 {f : Int → Int} {i : Int} (h0 : 0 ≤ i) (h : cAbs f (i + 1).toNat = 0) : ∀ n : Nat, i < n → cAbs f n = 0 := by
  intro n
  induction n with
  | zero => intro hn; omega
  | succ n ih =>
    intro hn
    by_cases e : i = n
    · rw [show n + 1 = (i + 1).toNat by omega]; exact h
    · show (if cAbs f n = 1 ∧ 0 < f n then 1 else 0) = 0
      rw [if_neg (fun q => by rw [ih (by omega)] at q; omega)]
set_option maxHeartbeats 4000000 in
set_option maxRecDepth 100000 in
theorem m_X0_areAbove_1 (l : Launch) (D : ga_G) (h : ga_H) (b : Nat) (f : Int → Int) (hb : h b = some (aL 1 f)) (hf : ∀ k : Int, 0 ≤ k → k < 1 → -9223372036854775808 ≤ f k ∧ f k < 9223372036854775808) : rM l D yX0_areAbove (ws_ yX0_areAbove cX0_areAbove 6 (some .boolean)) (gR 0) [.ref b] h (some (.int (iI (cAbs f 1)))) := by
  refine ga_met (own := RX0) 5 (by decide) rfl (Nat.le_of_ble_eq_true rfl) (L0 := [some (.ref b), none, none, none, none, none]) rfl (fun X _ _ hE => ?_)
  refine ga_aload_n (pc := 0) dX0_areAbove_0 rfl ?_
  refine ga_astore_n (pc := 1) (L1 := [some (.ref b), some (.ref b), none, none, none, none]) dX0_areAbove_1 rfl (by decide) rfl ?_
  refine ga_aload_n (pc := 2) dX0_areAbove_2 rfl ?_
  refine ga_alen (pc := 3) (z := 1) hb rfl dX0_areAbove_3 ?_
  refine ga_istore_n (pc := 4) (L1 := [some (.ref b), some (.ref b), some (.int (iI 1)), none, none, none]) dX0_areAbove_4 rfl (by decide) rfl ?_
  refine ga_iconst (pc := 5) dX0_areAbove_5 ?_
  refine ga_istore_n (pc := 6) (L1 := [some (.ref b), some (.ref b), some (.int (iI 1)), some (.int (iI 0)), none, none]) dX0_areAbove_6 rfl (by decide) rfl ?_
  have lp7 : ∀ (N7 : Nat) (i : Int), (0 ≤ i ∧ i ≤ 1) → (cAbs f (Int.toNat i) = 1) → (1 - i).toNat < N7 → G X (gR 0) RX0 6 cX0_areAbove h 0 0 7 [some (.ref b), some (.ref b), some (.int (iI 1)), some (.int (iI i)), none, none] [] := by
    intro N7
    induction N7 with
    | zero => intro i hi hv hN7; exact absurd hN7 (Nat.not_lt_zero _)
    | succ N7 ih7 =>
      intro i hi hv hN7
      refine ga_iload_n (pc := 7) dX0_areAbove_7 rfl ?_
      refine ga_iload_n (pc := 8) dX0_areAbove_8 rfl ?_
      refine ga_icmp_ge (pc := 9) (tgt := 32) dX0_areAbove_9 rfl (by omega) (by omega) (fun c9 => ?_) (fun c9 => ?_)
      · skip
        refine ga_iconst (pc := 32) dX0_areAbove_32 ?_
        exact ga_zret hE dX0_areAbove_33 (Nat.le_of_ble_eq_true rfl) (Nat.le_of_ble_eq_true rfl) (by first | exact Or.inl rfl | exact Or.inr rfl) (⟨congrArg (fun z => some (Value.int (iI z))) (by rw [← hv, show i = 1 by omega]; rfl), rfl⟩)
      · skip
        refine ga_aload_n (pc := 12) dX0_areAbove_12 rfl ?_
        refine ga_iload_n (pc := 13) dX0_areAbove_13 rfl ?_
        have hfi := hf i (by omega) (by omega)
        refine ga_lald (pc := 14) (N := 1) (f := f) hb (by omega) (by decide) dX0_areAbove_14 ?_
        refine ga_lstore (pc := 15) (L1 := [some (.ref b), some (.ref b), some (.int (iI 1)), some (.int (iI i)), some (.long (lI (f i))), none]) dX0_areAbove_15 rfl (by decide) rfl ?_
        refine ga_lload (pc := 17) dX0_areAbove_17 rfl ?_
        refine ga_lconst (pc := 19) 0 dX0_areAbove_19 rfl ?_
        refine ga_lcmp (pc := 20) dX0_areAbove_20 (by omega) (by omega) ?_
        refine ga_ifc_gt (pc := 21) (tgt := 26) dX0_areAbove_21 rfl (fun c21 => ?_) (fun c21 => ?_)
        · skip
          refine ga_iinc (pc := 26) (L1 := [some (.ref b), some (.ref b), some (.int (iI 1)), some (.int (iI (i + 1))), some (.long (lI (f i))), none]) dX0_areAbove_26 rfl rfl (by decide) rfl ?_
          refine ga_goto (pc := 29) (tgt := 7) dX0_areAbove_29 rfl ?_
          refine ga_kill (pc := 7) 4 (L1 := [some (.ref b), some (.ref b), some (.int (iI 1)), some (.int (iI (i + 1))), none, none]) rfl ?_
          exact ih7 (i + 1) (by omega) (by rw [cAbs_s hi.1 hv, if_pos (by omega)]) (by omega)
        · skip
          refine ga_iconst (pc := 24) dX0_areAbove_24 ?_
          exact ga_zret hE dX0_areAbove_25 (Nat.le_of_ble_eq_true rfl) (Nat.le_of_ble_eq_true rfl) (by first | exact Or.inl rfl | exact Or.inr rfl) (⟨congrArg (fun z => some (Value.int (iI z))) ((cAbs_0 hi.1 (by rw [cAbs_s hi.1 hv, if_neg (by omega)]) 1 (by omega)).symm), rfl⟩)
  exact lp7 _ 0 (by omega) (rfl) (Nat.lt_succ_self _)
theorem k_X0_areAbove_1_X0 {X : ga_X} {R : Room} {nL : Nat} {cc : ByteArray} {h : ga_H} {k n pc : Nat} {L : List (Option Value)} {st : List Value} {b : Nat} {f : Int → Int} {z : Int} (hb : h b = some (aL 1 f)) (hf : ∀ k : Int, 0 ≤ k → k < 1 → -9223372036854775808 ≤ f k ∧ f k < 9223372036854775808) (hz : (cAbs f 1) = z) (hR : 0 + 1 ≤ R.frames ∧ 19 + 6 + 64 * 0 ≤ R.locals) (hk : k ≤ R.cells ∧ n ≤ R.slots) (hs : (st.map fun v => v.category).sum ≤ 8) (d : decode cc pc = .ok (.invokestatic 448, 3)) (kk : G X R RX0 nL cc h k n (pc + 3) L (.int (iI z) :: st)) : G X R RX0 nL cc h k n pc L (.ref b :: st) := by
  subst hz
  exact rm_runS (m_X0_areAbove_1 _ _ h b f hb hf) (lw_S q1108 q1109 q102 q1110) (show ga_nn' yX0_areAbove 1 from (by unfold ga_nn'; decide +kernel)) hR hk hs d rfl kk
set_option maxHeartbeats 4000000 in
set_option maxRecDepth 100000 in
theorem m_X0_areAbove_2 (l : Launch) (D : ga_G) (h : ga_H) (b : Nat) (f : Int → Int) (hb : h b = some (aL 2 f)) (hf : ∀ k : Int, 0 ≤ k → k < 2 → -9223372036854775808 ≤ f k ∧ f k < 9223372036854775808) : rM l D yX0_areAbove (ws_ yX0_areAbove cX0_areAbove 6 (some .boolean)) (gR 0) [.ref b] h (some (.int (iI (cAbs f 2)))) := by
  refine ga_met (own := RX0) 5 (by decide) rfl (Nat.le_of_ble_eq_true rfl) (L0 := [some (.ref b), none, none, none, none, none]) rfl (fun X _ _ hE => ?_)
  refine ga_aload_n (pc := 0) dX0_areAbove_0 rfl ?_
  refine ga_astore_n (pc := 1) (L1 := [some (.ref b), some (.ref b), none, none, none, none]) dX0_areAbove_1 rfl (by decide) rfl ?_
  refine ga_aload_n (pc := 2) dX0_areAbove_2 rfl ?_
  refine ga_alen (pc := 3) (z := 2) hb rfl dX0_areAbove_3 ?_
  refine ga_istore_n (pc := 4) (L1 := [some (.ref b), some (.ref b), some (.int (iI 2)), none, none, none]) dX0_areAbove_4 rfl (by decide) rfl ?_
  refine ga_iconst (pc := 5) dX0_areAbove_5 ?_
  refine ga_istore_n (pc := 6) (L1 := [some (.ref b), some (.ref b), some (.int (iI 2)), some (.int (iI 0)), none, none]) dX0_areAbove_6 rfl (by decide) rfl ?_
  have lp7 : ∀ (N7 : Nat) (i : Int), (0 ≤ i ∧ i ≤ 2) → (cAbs f (Int.toNat i) = 1) → (2 - i).toNat < N7 → G X (gR 0) RX0 6 cX0_areAbove h 0 0 7 [some (.ref b), some (.ref b), some (.int (iI 2)), some (.int (iI i)), none, none] [] := by
    intro N7
    induction N7 with
    | zero => intro i hi hv hN7; exact absurd hN7 (Nat.not_lt_zero _)
    | succ N7 ih7 =>
      intro i hi hv hN7
      refine ga_iload_n (pc := 7) dX0_areAbove_7 rfl ?_
      refine ga_iload_n (pc := 8) dX0_areAbove_8 rfl ?_
      refine ga_icmp_ge (pc := 9) (tgt := 32) dX0_areAbove_9 rfl (by omega) (by omega) (fun c9 => ?_) (fun c9 => ?_)
      · skip
        refine ga_iconst (pc := 32) dX0_areAbove_32 ?_
        exact ga_zret hE dX0_areAbove_33 (Nat.le_of_ble_eq_true rfl) (Nat.le_of_ble_eq_true rfl) (by first | exact Or.inl rfl | exact Or.inr rfl) (⟨congrArg (fun z => some (Value.int (iI z))) (by rw [← hv, show i = 2 by omega]; rfl), rfl⟩)
      · skip
        refine ga_aload_n (pc := 12) dX0_areAbove_12 rfl ?_
        refine ga_iload_n (pc := 13) dX0_areAbove_13 rfl ?_
        have hfi := hf i (by omega) (by omega)
        refine ga_lald (pc := 14) (N := 2) (f := f) hb (by omega) (by decide) dX0_areAbove_14 ?_
        refine ga_lstore (pc := 15) (L1 := [some (.ref b), some (.ref b), some (.int (iI 2)), some (.int (iI i)), some (.long (lI (f i))), none]) dX0_areAbove_15 rfl (by decide) rfl ?_
        refine ga_lload (pc := 17) dX0_areAbove_17 rfl ?_
        refine ga_lconst (pc := 19) 0 dX0_areAbove_19 rfl ?_
        refine ga_lcmp (pc := 20) dX0_areAbove_20 (by omega) (by omega) ?_
        refine ga_ifc_gt (pc := 21) (tgt := 26) dX0_areAbove_21 rfl (fun c21 => ?_) (fun c21 => ?_)
        · skip
          refine ga_iinc (pc := 26) (L1 := [some (.ref b), some (.ref b), some (.int (iI 2)), some (.int (iI (i + 1))), some (.long (lI (f i))), none]) dX0_areAbove_26 rfl rfl (by decide) rfl ?_
          refine ga_goto (pc := 29) (tgt := 7) dX0_areAbove_29 rfl ?_
          refine ga_kill (pc := 7) 4 (L1 := [some (.ref b), some (.ref b), some (.int (iI 2)), some (.int (iI (i + 1))), none, none]) rfl ?_
          exact ih7 (i + 1) (by omega) (by rw [cAbs_s hi.1 hv, if_pos (by omega)]) (by omega)
        · skip
          refine ga_iconst (pc := 24) dX0_areAbove_24 ?_
          exact ga_zret hE dX0_areAbove_25 (Nat.le_of_ble_eq_true rfl) (Nat.le_of_ble_eq_true rfl) (by first | exact Or.inl rfl | exact Or.inr rfl) (⟨congrArg (fun z => some (Value.int (iI z))) ((cAbs_0 hi.1 (by rw [cAbs_s hi.1 hv, if_neg (by omega)]) 2 (by omega)).symm), rfl⟩)
  exact lp7 _ 0 (by omega) (rfl) (Nat.lt_succ_self _)
theorem k_X0_areAbove_2_X0 {X : ga_X} {R : Room} {nL : Nat} {cc : ByteArray} {h : ga_H} {k n pc : Nat} {L : List (Option Value)} {st : List Value} {b : Nat} {f : Int → Int} {z : Int} (hb : h b = some (aL 2 f)) (hf : ∀ k : Int, 0 ≤ k → k < 2 → -9223372036854775808 ≤ f k ∧ f k < 9223372036854775808) (hz : (cAbs f 2) = z) (hR : 0 + 1 ≤ R.frames ∧ 19 + 6 + 64 * 0 ≤ R.locals) (hk : k ≤ R.cells ∧ n ≤ R.slots) (hs : (st.map fun v => v.category).sum ≤ 8) (d : decode cc pc = .ok (.invokestatic 448, 3)) (kk : G X R RX0 nL cc h k n (pc + 3) L (.int (iI z) :: st)) : G X R RX0 nL cc h k n pc L (.ref b :: st) := by
  subst hz
  exact rm_runS (m_X0_areAbove_2 _ _ h b f hb hf) (lw_S q1108 q1109 q102 q1110) (show ga_nn' yX0_areAbove 1 from (by unfold ga_nn'; decide +kernel)) hR hk hs d rfl kk
set_option maxHeartbeats 4000000 in
set_option maxRecDepth 100000 in
theorem m_X0_areAbove_3 (l : Launch) (D : ga_G) (h : ga_H) (b : Nat) (f : Int → Int) (hb : h b = some (aL 3 f)) (hf : ∀ k : Int, 0 ≤ k → k < 3 → -9223372036854775808 ≤ f k ∧ f k < 9223372036854775808) : rM l D yX0_areAbove (ws_ yX0_areAbove cX0_areAbove 6 (some .boolean)) (gR 0) [.ref b] h (some (.int (iI (cAbs f 3)))) := by
  refine ga_met (own := RX0) 5 (by decide) rfl (Nat.le_of_ble_eq_true rfl) (L0 := [some (.ref b), none, none, none, none, none]) rfl (fun X _ _ hE => ?_)
  refine ga_aload_n (pc := 0) dX0_areAbove_0 rfl ?_
  refine ga_astore_n (pc := 1) (L1 := [some (.ref b), some (.ref b), none, none, none, none]) dX0_areAbove_1 rfl (by decide) rfl ?_
  refine ga_aload_n (pc := 2) dX0_areAbove_2 rfl ?_
  refine ga_alen (pc := 3) (z := 3) hb rfl dX0_areAbove_3 ?_
  refine ga_istore_n (pc := 4) (L1 := [some (.ref b), some (.ref b), some (.int (iI 3)), none, none, none]) dX0_areAbove_4 rfl (by decide) rfl ?_
  refine ga_iconst (pc := 5) dX0_areAbove_5 ?_
  refine ga_istore_n (pc := 6) (L1 := [some (.ref b), some (.ref b), some (.int (iI 3)), some (.int (iI 0)), none, none]) dX0_areAbove_6 rfl (by decide) rfl ?_
  have lp7 : ∀ (N7 : Nat) (i : Int), (0 ≤ i ∧ i ≤ 3) → (cAbs f (Int.toNat i) = 1) → (3 - i).toNat < N7 → G X (gR 0) RX0 6 cX0_areAbove h 0 0 7 [some (.ref b), some (.ref b), some (.int (iI 3)), some (.int (iI i)), none, none] [] := by
    intro N7
    induction N7 with
    | zero => intro i hi hv hN7; exact absurd hN7 (Nat.not_lt_zero _)
    | succ N7 ih7 =>
      intro i hi hv hN7
      refine ga_iload_n (pc := 7) dX0_areAbove_7 rfl ?_
      refine ga_iload_n (pc := 8) dX0_areAbove_8 rfl ?_
      refine ga_icmp_ge (pc := 9) (tgt := 32) dX0_areAbove_9 rfl (by omega) (by omega) (fun c9 => ?_) (fun c9 => ?_)
      · skip
        refine ga_iconst (pc := 32) dX0_areAbove_32 ?_
        exact ga_zret hE dX0_areAbove_33 (Nat.le_of_ble_eq_true rfl) (Nat.le_of_ble_eq_true rfl) (by first | exact Or.inl rfl | exact Or.inr rfl) (⟨congrArg (fun z => some (Value.int (iI z))) (by rw [← hv, show i = 3 by omega]; rfl), rfl⟩)
      · skip
        refine ga_aload_n (pc := 12) dX0_areAbove_12 rfl ?_
        refine ga_iload_n (pc := 13) dX0_areAbove_13 rfl ?_
        have hfi := hf i (by omega) (by omega)
        refine ga_lald (pc := 14) (N := 3) (f := f) hb (by omega) (by decide) dX0_areAbove_14 ?_
        refine ga_lstore (pc := 15) (L1 := [some (.ref b), some (.ref b), some (.int (iI 3)), some (.int (iI i)), some (.long (lI (f i))), none]) dX0_areAbove_15 rfl (by decide) rfl ?_
        refine ga_lload (pc := 17) dX0_areAbove_17 rfl ?_
        refine ga_lconst (pc := 19) 0 dX0_areAbove_19 rfl ?_
        refine ga_lcmp (pc := 20) dX0_areAbove_20 (by omega) (by omega) ?_
        refine ga_ifc_gt (pc := 21) (tgt := 26) dX0_areAbove_21 rfl (fun c21 => ?_) (fun c21 => ?_)
        · skip
          refine ga_iinc (pc := 26) (L1 := [some (.ref b), some (.ref b), some (.int (iI 3)), some (.int (iI (i + 1))), some (.long (lI (f i))), none]) dX0_areAbove_26 rfl rfl (by decide) rfl ?_
          refine ga_goto (pc := 29) (tgt := 7) dX0_areAbove_29 rfl ?_
          refine ga_kill (pc := 7) 4 (L1 := [some (.ref b), some (.ref b), some (.int (iI 3)), some (.int (iI (i + 1))), none, none]) rfl ?_
          exact ih7 (i + 1) (by omega) (by rw [cAbs_s hi.1 hv, if_pos (by omega)]) (by omega)
        · skip
          refine ga_iconst (pc := 24) dX0_areAbove_24 ?_
          exact ga_zret hE dX0_areAbove_25 (Nat.le_of_ble_eq_true rfl) (Nat.le_of_ble_eq_true rfl) (by first | exact Or.inl rfl | exact Or.inr rfl) (⟨congrArg (fun z => some (Value.int (iI z))) ((cAbs_0 hi.1 (by rw [cAbs_s hi.1 hv, if_neg (by omega)]) 3 (by omega)).symm), rfl⟩)
  exact lp7 _ 0 (by omega) (rfl) (Nat.lt_succ_self _)
theorem k_X0_areAbove_3_X0 {X : ga_X} {R : Room} {nL : Nat} {cc : ByteArray} {h : ga_H} {k n pc : Nat} {L : List (Option Value)} {st : List Value} {b : Nat} {f : Int → Int} {z : Int} (hb : h b = some (aL 3 f)) (hf : ∀ k : Int, 0 ≤ k → k < 3 → -9223372036854775808 ≤ f k ∧ f k < 9223372036854775808) (hz : (cAbs f 3) = z) (hR : 0 + 1 ≤ R.frames ∧ 19 + 6 + 64 * 0 ≤ R.locals) (hk : k ≤ R.cells ∧ n ≤ R.slots) (hs : (st.map fun v => v.category).sum ≤ 8) (d : decode cc pc = .ok (.invokestatic 448, 3)) (kk : G X R RX0 nL cc h k n (pc + 3) L (.int (iI z) :: st)) : G X R RX0 nL cc h k n pc L (.ref b :: st) := by
  subst hz
  exact rm_runS (m_X0_areAbove_3 _ _ h b f hb hf) (lw_S q1108 q1109 q102 q1110) (show ga_nn' yX0_areAbove 1 from (by unfold ga_nn'; decide +kernel)) hR hk hs d rfl kk
