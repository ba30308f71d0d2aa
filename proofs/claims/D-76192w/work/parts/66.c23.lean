/-! THE CLASS: tables as wholes -/
theorem ga_fu {h : ga_H} {q : Nat} {E : ga_E} (hq : h q = none) {a : Nat} {e : ga_E} (ha : h a = some e) : ga_u h q E a = some e := by
  rw [ga_un (fun z => by rw [z, hq] at ha; cases ha)]
  exact ha
theorem cOn.fr {h h1 : ga_H} {ad : Nat → Nat} {J : Nat → Int} {B : Nat → Int → Int} {Q : Nat → Int → Option Nat} {Z : ga_H} (hc : cOn h ad J B Q Z) (hf : ∀ a e, h a = some e → h1 a = some e) : cOn h1 ad J B Q Z := ⟨fun r hr => hf _ _ (hc.1 r hr), hc.2.1, fun a e ha => ⟨hf _ _ (hc.2.2 a e ha).1, (hc.2.2 a e ha).2⟩⟩
abbrev nM (l : Launch) (D : ga_G) (y : MethodName) (ws : List Cond) (rm : Room) (As : List Value) (h : ga_H) (v : Option Value) (mc ms : Nat) : Prop := ga_M l D y ws rm As h (fun w h1 => w = v ∧ ∀ a e, h a = some e → h1 a = some e) pX0 mc ms
theorem nm_runS {X : ga_X} {R : Room} {own : String} {nL : Nat} {cc : ByteArray} {h : ga_H} {k n pc : Nat} {L : List (Option Value)} {y : MethodName} {bytes : ByteArray} {maxL dc idx mc ms : Nat} {ret : Option FieldType} {As rest st0 : List Value} {v : Option Value} (hM : nM (ga_la X) (ga_D X) y (ws_ y bytes maxL ret) (gK dc mc ms) As h v mc ms) (hV : GoodIn lw_all (va_wsS own idx y (ws_ y bytes maxL ret))) (hy : ga_nn' y As.length) (hR : dc + 1 ≤ R.frames ∧ 19 + maxL + 64 * dc ≤ R.locals) (hk : k + mc ≤ R.cells ∧ n + ms ≤ R.slots) (hs : (rest.map fun v => v.category).sum ≤ 8) (dd : decode cc pc = .ok (.invokestatic idx, 3)) (hst : st0 = As.reverse ++ rest)
    (kk : ∀ h1 : ga_H, (∀ a e, h a = some e → h1 a = some e) → G X R own nL cc h1 (k + mc) (n + ms) (pc + 3) L (v.toList ++ rest)) : G X R own nL cc h k n pc L st0 :=
  ga_go (ga_runS (mc := mc) (ms := ms) hM hV hy ⟨rfl, rfl⟩ ⟨hR.1, by show 8 + (maxL + 11) + 64 * dc ≤ _; omega⟩ hk hs dd hst) (fun _ _ _ z => z.elim) (fun v h1 hp => by obtain ⟨rfl, hp⟩ := hp; exact kk h1 hp)
set_option maxHeartbeats 4000000 in
set_option maxRecDepth 100000 in
theorem m_X0_sum (l : Launch) (D : ga_G) (h : ga_H) (b : Nat) (f : Int → Int) (hb : h b = some (aL 3 f)) (hf : ∀ k : Int, 0 ≤ k → k < 3 → -1099511627776 ≤ f k ∧ f k ≤ 1099511627776) : rM l D yX0_sum (ws_ yX0_sum cX0_sum 8 (some .long)) (gR 1) [.ref b] h (some (.long (lI (zsum f 3)))) := by
  refine ga_met (own := RX0) 7 (by decide) rfl (Nat.le_of_ble_eq_true rfl) (L0 := [some (.ref b), none, none, none, none, none, none, none]) rfl (fun X _ _ hE => ?_)
  refine ga_lconst (pc := 0) 0 dX0_sum_0 rfl ?_
  refine ga_lstore_n (pc := 1) (L1 := [some (.ref b), some (.long (lI 0)), none, none, none, none, none, none]) dX0_sum_1 rfl (by decide) rfl ?_
  refine ga_aload_n (pc := 2) dX0_sum_2 rfl ?_
  refine ga_astore_n (pc := 3) (L1 := [some (.ref b), some (.long (lI 0)), none, some (.ref b), none, none, none, none]) dX0_sum_3 rfl (by decide) rfl ?_
  refine ga_aload_n (pc := 4) dX0_sum_4 rfl ?_
  refine ga_alen (pc := 5) (z := 3) hb rfl dX0_sum_5 ?_
  refine ga_istore (pc := 6) (L1 := [some (.ref b), some (.long (lI 0)), none, some (.ref b), some (.int (iI 3)), none, none, none]) dX0_sum_6 rfl (by decide) rfl ?_
  refine ga_iconst (pc := 8) dX0_sum_8 ?_
  refine ga_istore (pc := 9) (L1 := [some (.ref b), some (.long (lI 0)), none, some (.ref b), some (.int (iI 3)), some (.int (iI 0)), none, none]) dX0_sum_9 rfl (by decide) rfl ?_
  have lp11 : ∀ (N11 : Nat) (v i : Int), (0 ≤ i ∧ i ≤ 3) → (v = zsum f (Int.toNat i)) → (-(1099511627776 * i) ≤ v ∧ v ≤ 1099511627776 * i) → (3 - i).toNat < N11 → G X (gR 1) RX0 8 cX0_sum h 0 0 11 [some (.ref b), some (.long (lI v)), none, some (.ref b), some (.int (iI 3)), some (.int (iI i)), none, none] [] := by
    intro N11
    induction N11 with
    | zero => intro v i hi hv hvr hN11; exact absurd hN11 (Nat.not_lt_zero _)
    | succ N11 ih11 =>
      intro v i hi hv hvr hN11
      refine ga_iload (pc := 11) dX0_sum_11 rfl ?_
      refine ga_iload (pc := 13) dX0_sum_13 rfl ?_
      refine ga_icmp_ge (pc := 15) (tgt := 37) dX0_sum_15 rfl (by omega) (by omega) (fun c15 => ?_) (fun c15 => ?_)
      · skip
        refine ga_lload_n (pc := 37) dX0_sum_37 rfl ?_
        exact ga_lret hE dX0_sum_38 (Nat.le_of_ble_eq_true rfl) (Nat.le_of_ble_eq_true rfl) (⟨congrArg (fun z => some (Value.long (lI z))) (by rw [hv, show i = 3 by omega]; rfl), rfl⟩)
      · skip
        refine ga_aload_n (pc := 18) dX0_sum_18 rfl ?_
        refine ga_iload (pc := 19) dX0_sum_19 rfl ?_
        have hfi := hf i (by omega) (by omega)
        refine ga_lald (pc := 21) (N := 3) (f := f) hb (by omega) (by decide) dX0_sum_21 ?_
        refine ga_lstore (pc := 22) (L1 := [some (.ref b), some (.long (lI v)), none, some (.ref b), some (.int (iI 3)), some (.int (iI i)), some (.long (lI (f i))), none]) dX0_sum_22 rfl (by decide) rfl ?_
        refine ga_lload_n (pc := 24) dX0_sum_24 rfl ?_
        refine ga_lload (pc := 25) dX0_sum_25 rfl ?_
        refine k_J3_addExact_X0 (pc := 27) (a := v) (b := (f i)) (by omega) (by omega) (rfl) ⟨Nat.le_of_ble_eq_true rfl, Nat.le_of_ble_eq_true rfl⟩ ⟨Nat.le_of_ble_eq_true rfl, Nat.le_of_ble_eq_true rfl⟩ (Nat.le_of_ble_eq_true rfl) dX0_sum_27 ?_
        refine ga_lstore_n (pc := 30) (L1 := [some (.ref b), some (.long (lI (v + (f i)))), none, some (.ref b), some (.int (iI 3)), some (.int (iI i)), some (.long (lI (f i))), none]) dX0_sum_30 rfl (by decide) rfl ?_
        refine ga_iinc (pc := 31) (L1 := [some (.ref b), some (.long (lI (v + (f i)))), none, some (.ref b), some (.int (iI 3)), some (.int (iI (i + 1))), some (.long (lI (f i))), none]) dX0_sum_31 rfl rfl (by decide) rfl ?_
        refine ga_goto (pc := 34) (tgt := 11) dX0_sum_34 rfl ?_
        refine ga_kill (pc := 11) 6 (L1 := [some (.ref b), some (.long (lI (v + (f i)))), none, some (.ref b), some (.int (iI 3)), some (.int (iI (i + 1))), none, none]) rfl ?_
        exact ih11 (v + (f i)) (i + 1) (by omega) (by rw [zsum_s _ hi.1, hv]) (by omega) (by omega)
  exact lp11 _ 0 0 (by omega) (rfl) (by omega) (Nat.lt_succ_self _)
theorem k_X0_sum_X0 {X : ga_X} {R : Room} {nL : Nat} {cc : ByteArray} {h : ga_H} {k n pc : Nat} {L : List (Option Value)} {st : List Value} {b : Nat} {f : Int → Int} {z : Int} (hb : h b = some (aL 3 f)) (hf : ∀ k : Int, 0 ≤ k → k < 3 → -1099511627776 ≤ f k ∧ f k ≤ 1099511627776) (hz : (zsum f 3) = z) (hR : 1 + 1 ≤ R.frames ∧ 19 + 8 + 64 * 1 ≤ R.locals) (hk : k ≤ R.cells ∧ n ≤ R.slots) (hs : (st.map fun v => v.category).sum ≤ 8) (d : decode cc pc = .ok (.invokestatic 195, 3)) (kk : G X R RX0 nL cc h k n (pc + 3) L (.long (lI z) :: st)) : G X R RX0 nL cc h k n pc L (.ref b :: st) := by
  subst hz
  exact rm_runS (m_X0_sum _ _ h b f hb hf) (lw_S q502 q503 q102 q504) (show ga_nn' yX0_sum 1 from (by unfold ga_nn'; decide +kernel)) hR hk hs d rfl kk
def cAbs (f : Int → Int) : Nat → Int
  | 0 => 1
  | k + 1 => if cAbs f k = 1 ∧ 0 < f k then 1 else 0
theorem cAbs_s {f : Int → Int} {i : Int} (h0 : 0 ≤ i) (h : cAbs f i.toNat = 1) : cAbs f (i + 1).toNat = if 0 < f i then 1 else 0 := by
  rw [show (i + 1).toNat = i.toNat + 1 by omega]
  show (if cAbs f i.toNat = 1 ∧ 0 < f (i.toNat : Nat) then 1 else 0) = _
  rw [show ((i.toNat : Nat) : Int) = i by omega]
  by_cases z : 0 < f i
  · rw [if_pos ⟨h, z⟩, if_pos z]
  · rw [if_neg (fun q => z q.2), if_neg z]
theorem cAbs_0 {f : Int → Int} {i : Int} (h0 : 0 ≤ i) (h : cAbs f (i + 1).toNat = 0) : ∀ n : Nat, i < n → cAbs f n = 0 := by
  intro n
  induction n with
  | zero => intro hn; omega
  | succ n ih =>
    intro hn
    by_cases e : i = n
    · rw [show n + 1 = (i + 1).toNat by omega]; exact h
    · show (if cAbs f n = 1 ∧ 0 < f n then 1 else 0) = 0
      rw [if_neg (fun q => by rw [ih (by omega)] at q; omega)]
set_option maxHeartbeats 4000000 in
set_option maxRecDepth 100000 in
theorem m_X0_areAbove_1 (l : Launch) (D : ga_G) (h : ga_H) (b : Nat) (f : Int → Int) (hb : h b = some (aL 1 f)) (hf : ∀ k : Int, 0 ≤ k → k < 1 → -9223372036854775808 ≤ f k ∧ f k < 9223372036854775808) : rM l D yX0_areAbove (ws_ yX0_areAbove cX0_areAbove 6 (some .boolean)) (gR 0) [.ref b] h (some (.int (iI (cAbs f 1)))) := by
  refine ga_met (own := RX0) 5 (by decide) rfl (Nat.le_of_ble_eq_true rfl) (L0 := [some (.ref b), none, none, none, none, none]) rfl (fun X _ _ hE => ?_)
  refine ga_aload_n (pc := 0) dX0_areAbove_0 rfl ?_
  refine ga_astore_n (pc := 1) (L1 := [some (.ref b), some (.ref b), none, none, none, none]) dX0_areAbove_1 rfl (by decide) rfl ?_
  refine ga_aload_n (pc := 2) dX0_areAbove_2 rfl ?_
  refine ga_alen (pc := 3) (z := 1) hb rfl dX0_areAbove_3 ?_
  refine ga_istore_n (pc := 4) (L1 := [some (.ref b), some (.ref b), some (.int (iI 1)), none, none, none]) dX0_areAbove_4 rfl (by decide) rfl ?_
  refine ga_iconst (pc := 5) dX0_areAbove_5 ?_
  refine ga_istore_n (pc := 6) (L1 := [some (.ref b), some (.ref b), some (.int (iI 1)), some (.int (iI 0)), none, none]) dX0_areAbove_6 rfl (by decide) rfl ?_
  have lp7 : ∀ (N7 : Nat) (i : Int), (0 ≤ i ∧ i ≤ 1) → (cAbs f (Int.toNat i) = 1) → (1 - i).toNat < N7 → G X (gR 0) RX0 6 cX0_areAbove h 0 0 7 [some (.ref b), some (.ref b), some (.int (iI 1)), some (.int (iI i)), none, none] [] := by
    intro N7
    induction N7 with
    | zero => intro i hi hv hN7; exact absurd hN7 (Nat.not_lt_zero _)
    | succ N7 ih7 =>
      intro i hi hv hN7
      refine ga_iload_n (pc := 7) dX0_areAbove_7 rfl ?_
      refine ga_iload_n (pc := 8) dX0_areAbove_8 rfl ?_
      refine ga_icmp_ge (pc := 9) (tgt := 32) dX0_areAbove_9 rfl (by omega) (by omega) (fun c9 => ?_) (fun c9 => ?_)
      · skip
        refine ga_iconst (pc := 32) dX0_areAbove_32 ?_
        exact ga_zret hE dX0_areAbove_33 (Nat.le_of_ble_eq_true rfl) (Nat.le_of_ble_eq_true rfl) (by first | exact Or.inl rfl | exact Or.inr rfl) (⟨congrArg (fun z => some (Value.int (iI z))) (by rw [← hv, show i = 1 by omega]; rfl), rfl⟩)
      · skip
        refine ga_aload_n (pc := 12) dX0_areAbove_12 rfl ?_
        refine ga_iload_n (pc := 13) dX0_areAbove_13 rfl ?_
        have hfi := hf i (by omega) (by omega)
        refine ga_lald (pc := 14) (N := 1) (f := f) hb (by omega) (by decide) dX0_areAbove_14 ?_
        refine ga_lstore (pc := 15) (L1 := [some (.ref b), some (.ref b), some (.int (iI 1)), some (.int (iI i)), some (.long (lI (f i))), none]) dX0_areAbove_15 rfl (by decide) rfl ?_
        refine ga_lload (pc := 17) dX0_areAbove_17 rfl ?_
        refine ga_lconst (pc := 19) 0 dX0_areAbove_19 rfl ?_
        refine ga_lcmp (pc := 20) dX0_areAbove_20 (by omega) (by omega) ?_
        refine ga_ifc_gt (pc := 21) (tgt := 26) dX0_areAbove_21 rfl (fun c21 => ?_) (fun c21 => ?_)
        · skip
          refine ga_iinc (pc := 26) (L1 := [some (.ref b), some (.ref b), some (.int (iI 1)), some (.int (iI (i + 1))), some (.long (lI (f i))), none]) dX0_areAbove_26 rfl rfl (by decide) rfl ?_
          refine ga_goto (pc := 29) (tgt := 7) dX0_areAbove_29 rfl ?_
          refine ga_kill (pc := 7) 4 (L1 := [some (.ref b), some (.ref b), some (.int (iI 1)), some (.int (iI (i + 1))), none, none]) rfl ?_
          exact ih7 (i + 1) (by omega) (by rw [cAbs_s hi.1 hv, if_pos (by omega)]) (by omega)
        · skip
          refine ga_iconst (pc := 24) dX0_areAbove_24 ?_
          exact ga_zret hE dX0_areAbove_25 (Nat.le_of_ble_eq_true rfl) (Nat.le_of_ble_eq_true rfl) (by first | exact Or.inl rfl | exact Or.inr rfl) (⟨congrArg (fun z => some (Value.int (iI z))) ((cAbs_0 hi.1 (by rw [cAbs_s hi.1 hv, if_neg (by omega)]) 1 (by omega)).symm), rfl⟩)
  exact lp7 _ 0 (by omega) (rfl) (Nat.lt_succ_self _)
theorem k_X0_areAbove_1_X0 {X : ga_X} {R : Room} {nL : Nat} {cc : ByteArray} {h : ga_H} {k n pc : Nat} {L : List (Option Value)} {st : List Value} {b : Nat} {f : Int → Int} {z : Int} (hb : h b = some (aL 1 f)) (hf : ∀ k : Int, 0 ≤ k → k < 1 → -9223372036854775808 ≤ f k ∧ f k < 9223372036854775808) (hz : (cAbs f 1) = z) (hR : 0 + 1 ≤ R.frames ∧ 19 + 6 + 64 * 0 ≤ R.locals) (hk : k ≤ R.cells ∧ n ≤ R.slots) (hs : (st.map fun v => v.category).sum ≤ 8) (d : decode cc pc = .ok (.invokestatic 448, 3)) (kk : G X R RX0 nL cc h k n (pc + 3) L (.int (iI z) :: st)) : G X R RX0 nL cc h k n pc L (.ref b :: st) := by
  subst hz
  exact rm_runS (m_X0_areAbove_1 _ _ h b f hb hf) (lw_S q1108 q1109 q102 q1110) (show ga_nn' yX0_areAbove 1 from (by unfold ga_nn'; decide +kernel)) hR hk hs d rfl kk
set_option maxHeartbeats 4000000 in
set_option maxRecDepth 100000 in
theorem m_X0_areAbove_2 (l : Launch) (D : ga_G) (h : ga_H) (b : Nat) (f : Int → Int) (hb : h b = some (aL 2 f)) (hf : ∀ k : Int, 0 ≤ k → k < 2 → -9223372036854775808 ≤ f k ∧ f k < 9223372036854775808) : rM l D yX0_areAbove (ws_ yX0_areAbove cX0_areAbove 6 (some .boolean)) (gR 0) [.ref b] h (some (.int (iI (cAbs f 2)))) := by
  refine ga_met (own := RX0) 5 (by decide) rfl (Nat.le_of_ble_eq_true rfl) (L0 := [some (.ref b), none, none, none, none, none]) rfl (fun X _ _ hE => ?_)
  refine ga_aload_n (pc := 0) dX0_areAbove_0 rfl ?_
  refine ga_astore_n (pc := 1) (L1 := [some (.ref b), some (.ref b), none, none, none, none]) dX0_areAbove_1 rfl (by decide) rfl ?_
  refine ga_aload_n (pc := 2) dX0_areAbove_2 rfl ?_
  refine ga_alen (pc := 3) (z := 2) hb rfl dX0_areAbove_3 ?_
  refine ga_istore_n (pc := 4) (L1 := [some (.ref b), some (.ref b), some (.int (iI 2)), none, none, none]) dX0_areAbove_4 rfl (by decide) rfl ?_
  refine ga_iconst (pc := 5) dX0_areAbove_5 ?_
  refine ga_istore_n (pc := 6) (L1 := [some (.ref b), some (.ref b), some (.int (iI 2)), some (.int (iI 0)), none, none]) dX0_areAbove_6 rfl (by decide) rfl ?_
  have lp7 : ∀ (N7 : Nat) (i : Int), (0 ≤ i ∧ i ≤ 2) → (cAbs f (Int.toNat i) = 1) → (2 - i).toNat < N7 → G X (gR 0) RX0 6 cX0_areAbove h 0 0 7 [some (.ref b), some (.ref b), some (.int (iI 2)), some (.int (iI i)), none, none] [] := by
    intro N7
    induction N7 with
    | zero => intro i hi hv hN7; exact absurd hN7 (Nat.not_lt_zero _)
    | succ N7 ih7 =>
      intro i hi hv hN7
      refine ga_iload_n (pc := 7) dX0_areAbove_7 rfl ?_
      refine ga_iload_n (pc := 8) dX0_areAbove_8 rfl ?_
      refine ga_icmp_ge (pc := 9) (tgt := 32) dX0_areAbove_9 rfl (by omega) (by omega) (fun c9 => ?_) (fun c9 => ?_)
      · skip
        refine ga_iconst (pc := 32) dX0_areAbove_32 ?_
        exact ga_zret hE dX0_areAbove_33 (Nat.le_of_ble_eq_true rfl) (Nat.le_of_ble_eq_true rfl) (by first | exact Or.inl rfl | exact Or.inr rfl) (⟨congrArg (fun z => some (Value.int (iI z))) (by rw [← hv, show i = 2 by omega]; rfl), rfl⟩)
      · skip
        refine ga_aload_n (pc := 12) dX0_areAbove_12 rfl ?_
        refine ga_iload_n (pc := 13) dX0_areAbove_13 rfl ?_
        have hfi := hf i (by omega) (by omega)
        refine ga_lald (pc := 14) (N := 2) (f := f) hb (by omega) (by decide) dX0_areAbove_14 ?_
        refine ga_lstore (pc := 15) (L1 := [some (.ref b), some (.ref b), some (.int (iI 2)), some (.int (iI i)), some (.long (lI (f i))), none]) dX0_areAbove_15 rfl (by decide) rfl ?_
        refine ga_lload (pc := 17) dX0_areAbove_17 rfl ?_
        refine ga_lconst (pc := 19) 0 dX0_areAbove_19 rfl ?_
        refine ga_lcmp (pc := 20) dX0_areAbove_20 (by omega) (by omega) ?_
        refine ga_ifc_gt (pc := 21) (tgt := 26) dX0_areAbove_21 rfl (fun c21 => ?_) (fun c21 => ?_)
        · skip
          refine ga_iinc (pc := 26) (L1 := [some (.ref b), some (.ref b), some (.int (iI 2)), some (.int (iI (i + 1))), some (.long (lI (f i))), none]) dX0_areAbove_26 rfl rfl (by decide) rfl ?_
          refine ga_goto (pc := 29) (tgt := 7) dX0_areAbove_29 rfl ?_
          refine ga_kill (pc := 7) 4 (L1 := [some (.ref b), some (.ref b), some (.int (iI 2)), some (.int (iI (i + 1))), none, none]) rfl ?_
          exact ih7 (i + 1) (by omega) (by rw [cAbs_s hi.1 hv, if_pos (by omega)]) (by omega)
        · skip
          refine ga_iconst (pc := 24) dX0_areAbove_24 ?_
          exact ga_zret hE dX0_areAbove_25 (Nat.le_of_ble_eq_true rfl) (Nat.le_of_ble_eq_true rfl) (by first | exact Or.inl rfl | exact Or.inr rfl) (⟨congrArg (fun z => some (Value.int (iI z))) ((cAbs_0 hi.1 (by rw [cAbs_s hi.1 hv, if_neg (by omega)]) 2 (by omega)).symm), rfl⟩)
  exact lp7 _ 0 (by omega) (rfl) (Nat.lt_succ_self _)
theorem k_X0_areAbove_2_X0 {X : ga_X} {R : Room} {nL : Nat} {cc : ByteArray} {h : ga_H} {k n pc : Nat} {L : List (Option Value)} {st : List Value} {b : Nat} {f : Int → Int} {z : Int} (hb : h b = some (aL 2 f)) (hf : ∀ k : Int, 0 ≤ k → k < 2 → -9223372036854775808 ≤ f k ∧ f k < 9223372036854775808) (hz : (cAbs f 2) = z) (hR : 0 + 1 ≤ R.frames ∧ 19 + 6 + 64 * 0 ≤ R.locals) (hk : k ≤ R.cells ∧ n ≤ R.slots) (hs : (st.map fun v => v.category).sum ≤ 8) (d : decode cc pc = .ok (.invokestatic 448, 3)) (kk : G X R RX0 nL cc h k n (pc + 3) L (.int (iI z) :: st)) : G X R RX0 nL cc h k n pc L (.ref b :: st) := by
  subst hz
  exact rm_runS (m_X0_areAbove_2 _ _ h b f hb hf) (lw_S q1108 q1109 q102 q1110) (show ga_nn' yX0_areAbove 1 from (by unfold ga_nn'; decide +kernel)) hR hk hs d rfl kk
set_option maxHeartbeats 4000000 in
set_option maxRecDepth 100000 in
theorem m_X0_areAbove_3 (l : Launch) (D : ga_G) (h : ga_H) (b : Nat) (f : Int → Int) (hb : h b = some (aL 3 f)) (hf : ∀ k : Int, 0 ≤ k → k < 3 → -9223372036854775808 ≤ f k ∧ f k < 9223372036854775808) : rM l D yX0_areAbove (ws_ yX0_areAbove cX0_areAbove 6 (some .boolean)) (gR 0) [.ref b] h (some (.int (iI (cAbs f 3)))) := by
  refine ga_met (own := RX0) 5 (by decide) rfl (Nat.le_of_ble_eq_true rfl) (L0 := [some (.ref b), none, none, none, none, none]) rfl (fun X _ _ hE => ?_)
  refine ga_aload_n (pc := 0) dX0_areAbove_0 rfl ?_
  refine ga_astore_n (pc := 1) (L1 := [some (.ref b), some (.ref b), none, none, none, none]) dX0_areAbove_1 rfl (by decide) rfl ?_
  refine ga_aload_n (pc := 2) dX0_areAbove_2 rfl ?_
  refine ga_alen (pc := 3) (z := 3) hb rfl dX0_areAbove_3 ?_
  refine ga_istore_n (pc := 4) (L1 := [some (.ref b), some (.ref b), some (.int (iI 3)), none, none, none]) dX0_areAbove_4 rfl (by decide) rfl ?_
  refine ga_iconst (pc := 5) dX0_areAbove_5 ?_
  refine ga_istore_n (pc := 6) (L1 := [some (.ref b), some (.ref b), some (.int (iI 3)), some (.int (iI 0)), none, none]) dX0_areAbove_6 rfl (by decide) rfl ?_
  have lp7 : ∀ (N7 : Nat) (i : Int), (0 ≤ i ∧ i ≤ 3) → (cAbs f (Int.toNat i) = 1) → (3 - i).toNat < N7 → G X (gR 0) RX0 6 cX0_areAbove h 0 0 7 [some (.ref b), some (.ref b), some (.int (iI 3)), some (.int (iI i)), none, none] [] := by
    intro N7
    induction N7 with
    | zero => intro i hi hv hN7; exact absurd hN7 (Nat.not_lt_zero _)
    | succ N7 ih7 =>
      intro i hi hv hN7
      refine ga_iload_n (pc := 7) dX0_areAbove_7 rfl ?_
      refine ga_iload_n (pc := 8) dX0_areAbove_8 rfl ?_
      refine ga_icmp_ge (pc := 9) (tgt := 32) dX0_areAbove_9 rfl (by omega) (by omega) (fun c9 => ?_) (fun c9 => ?_)
      · skip
        refine ga_iconst (pc := 32) dX0_areAbove_32 ?_
        exact ga_zret hE dX0_areAbove_33 (Nat.le_of_ble_eq_true rfl) (Nat.le_of_ble_eq_true rfl) (by first | exact Or.inl rfl | exact Or.inr rfl) (⟨congrArg (fun z => some (Value.int (iI z))) (by rw [← hv, show i = 3 by omega]; rfl), rfl⟩)
      · skip
        refine ga_aload_n (pc := 12) dX0_areAbove_12 rfl ?_
        refine ga_iload_n (pc := 13) dX0_areAbove_13 rfl ?_
        have hfi := hf i (by omega) (by omega)
        refine ga_lald (pc := 14) (N := 3) (f := f) hb (by omega) (by decide) dX0_areAbove_14 ?_
        refine ga_lstore (pc := 15) (L1 := [some (.ref b), some (.ref b), some (.int (iI 3)), some (.int (iI i)), some (.long (lI (f i))), none]) dX0_areAbove_15 rfl (by decide) rfl ?_
        refine ga_lload (pc := 17) dX0_areAbove_17 rfl ?_
        refine ga_lconst (pc := 19) 0 dX0_areAbove_19 rfl ?_
        refine ga_lcmp (pc := 20) dX0_areAbove_20 (by omega) (by omega) ?_
        refine ga_ifc_gt (pc := 21) (tgt := 26) dX0_areAbove_21 rfl (fun c21 => ?_) (fun c21 => ?_)
        · skip
          refine ga_iinc (pc := 26) (L1 := [some (.ref b), some (.ref b), some (.int (iI 3)), some (.int (iI (i + 1))), some (.long (lI (f i))), none]) dX0_areAbove_26 rfl rfl (by decide) rfl ?_
          refine ga_goto (pc := 29) (tgt := 7) dX0_areAbove_29 rfl ?_
          refine ga_kill (pc := 7) 4 (L1 := [some (.ref b), some (.ref b), some (.int (iI 3)), some (.int (iI (i + 1))), none, none]) rfl ?_
          exact ih7 (i + 1) (by omega) (by rw [cAbs_s hi.1 hv, if_pos (by omega)]) (by omega)
        · skip
          refine ga_iconst (pc := 24) dX0_areAbove_24 ?_
          exact ga_zret hE dX0_areAbove_25 (Nat.le_of_ble_eq_true rfl) (Nat.le_of_ble_eq_true rfl) (by first | exact Or.inl rfl | exact Or.inr rfl) (⟨congrArg (fun z => some (Value.int (iI z))) ((cAbs_0 hi.1 (by rw [cAbs_s hi.1 hv, if_neg (by omega)]) 3 (by omega)).symm), rfl⟩)
  exact lp7 _ 0 (by omega) (rfl) (Nat.lt_succ_self _)
theorem k_X0_areAbove_3_X0 {X : ga_X} {R : Room} {nL : Nat} {cc : ByteArray} {h : ga_H} {k n pc : Nat} {L : List (Option Value)} {st : List Value} {b : Nat} {f : Int → Int} {z : Int} (hb : h b = some (aL 3 f)) (hf : ∀ k : Int, 0 ≤ k → k < 3 → -9223372036854775808 ≤ f k ∧ f k < 9223372036854775808) (hz : (cAbs f 3) = z) (hR : 0 + 1 ≤ R.frames ∧ 19 + 6 + 64 * 0 ≤ R.locals) (hk : k ≤ R.cells ∧ n ≤ R.slots) (hs : (st.map fun v => v.category).sum ≤ 8) (d : decode cc pc = .ok (.invokestatic 448, 3)) (kk : G X R RX0 nL cc h k n (pc + 3) L (.int (iI z) :: st)) : G X R RX0 nL cc h k n pc L (.ref b :: st) := by
  subst hz
  exact rm_runS (m_X0_areAbove_3 _ _ h b f hb hf) (lw_S q1108 q1109 q102 q1110) (show ga_nn' yX0_areAbove 1 from (by unfold ga_nn'; decide +kernel)) hR hk hs d rfl kk
theorem zMi_r {f : Int → Int} (h : ∀ k : Int, -50 ≤ f k ∧ f k ≤ 50) (co i j p q : Int) : -5000 ≤ zMi f co i j p q ∧ zMi f co i j p q ≤ 5000 := by
  have a := h (co * i + p); have b := h (co * j + q); have c := h (co * i + q); have d := h (co * j + p)
  have m : ∀ x y : Int, (-50 ≤ x ∧ x ≤ 50) → (-50 ≤ y ∧ y ≤ 50) → -2500 ≤ x * y ∧ x * y ≤ 2500 := fun x y hx hy => by
    have : (x * y).natAbs ≤ 50 * 50 := by rw [Int.natAbs_mul]; exact Nat.mul_le_mul (by omega) (by omega)
    omega
  have m1 := m _ _ a b
  have m2 := m _ _ c d
  unfold zMi
  omega
theorem zPrx {x y : Int} (hx : -50 ≤ x ∧ x ≤ 50) (hy : -5000 ≤ y ∧ y ≤ 5000) : -250000 ≤ x * y ∧ x * y ≤ 250000 := by
  have : (x * y).natAbs ≤ 50 * 5000 := by rw [Int.natAbs_mul]; exact Nat.mul_le_mul (by omega) (by omega)
  omega
theorem cB3 {x0 x1 x2 b : Int} (h0 : -b ≤ x0 ∧ x0 ≤ b) (h1 : -b ≤ x1 ∧ x1 ≤ b) (h2 : -b ≤ x2 ∧ x2 ≤ b) (k : Int) (k0 : 0 ≤ k) (k1 : k < 3) : -b ≤ uZ (uZ (uZ (fun _ => 0) 0 x0) 1 x1) 2 x2 k ∧ uZ (uZ (uZ (fun _ => 0) 0 x0) 1 x1) 2 x2 k ≤ b := by
  rcases (by omega : k = 0 ∨ k = 1 ∨ k = 2) with rfl | rfl | rfl
  · exact h0
  · exact h1
  · exact h2
theorem cS3 (x0 x1 x2 : Int) : zsum (uZ (uZ (uZ (fun _ => 0) 0 x0) 1 x1) 2 x2) 3 = x0 + x1 + x2 := by
  show ((0 + x0) + x1) + x2 = _
  omega
def cDt (f : Int → Int) (ro : Int) : Int := if ro = 1 then f (ro * 0 + 0) else if ro = 2 then zMi f ro 0 1 0 1 else f (ro * 0 + 0) * zMi f ro 1 2 1 2 + -f (ro * 0 + 1) * zMi f ro 1 2 0 2 + f (ro * 0 + 2) * zMi f ro 1 2 0 1
def cMs (f : Int → Int) (ro : Int) : Int := if ro < 3 then cDt f ro else zMi f ro 0 1 0 1 + zMi f ro 0 2 0 2 + zMi f ro 1 2 1 2
theorem cDt_r {f : Int → Int} (h : ∀ k : Int, -50 ≤ f k ∧ f k ≤ 50) (ro : Int) : -1000000 ≤ cDt f ro ∧ cDt f ro ≤ 1000000 := by
  have a := h (ro * 0 + 0); have b := h (ro * 0 + 1); have c := h (ro * 0 + 2)
  have m0 := zMi_r h ro 0 1 0 1
  have m1 := zPrx a (zMi_r h ro 1 2 1 2)
  have m2 := zPrx (show -50 ≤ -f (ro * 0 + 1) ∧ -f (ro * 0 + 1) ≤ 50 by omega) (zMi_r h ro 1 2 0 2)
  have m3 := zPrx c (zMi_r h ro 1 2 0 1)
  unfold cDt
  (repeat' split) <;> omega
theorem cMs_r {f : Int → Int} (h : ∀ k : Int, -50 ≤ f k ∧ f k ≤ 50) (ro : Int) : -1000000 ≤ cMs f ro ∧ cMs f ro ≤ 1000000 := by
  have m0 := cDt_r h ro
  have m1 := zMi_r h ro 0 1 0 1
  have m2 := zMi_r h ro 0 2 0 2
  have m3 := zMi_r h ro 1 2 1 2
  unfold cMs
  split <;> omega
set_option maxHeartbeats 4000000 in
set_option maxRecDepth 100000 in
theorem m_X0_determinant (l : Launch) (D : ga_G) (h : ga_H) (b e : Nat) (ro : Int) (f : Int → Int) (hb : h b = some (oE 5 [.int (iI ro), .int (iI ro), .int (iI 9), .ref e])) (he : h e = some (aL 9 f)) (hrc : 1 ≤ ro ∧ ro ≤ 3) (hen : ∀ k : Int, -50 ≤ f k ∧ f k ≤ 50) : nM l D yX0_determinant (ws_ yX0_determinant cX0_determinant 1 (some .long)) (gK 2 1 3) [.ref b] h (some (.long (lI (cDt f ro)))) 1 3 := by
  refine ga_met (own := RX0) 0 (by decide) rfl (Nat.le_of_ble_eq_true rfl) (L0 := [some (.ref b)]) rfl (fun X _ _ hE => ?_)
  refine ga_aload_n (pc := 0) dX0_determinant_0 rfl ?_
  refine ga_getN (pc := 1) (C := RX5) (T := TX5) (N := 4) (v := .int (iI ro)) in_X5 rfl hb 0 (by decide) (ga_nt q289 rfl) rfl rfl dX0_determinant_1 ?_
  refine ga_iconst (pc := 4) dX0_determinant_4 ?_
  refine ga_icmp_ne (pc := 5) (tgt := 15) dX0_determinant_5 rfl (by omega) (by omega) (fun c5 => ?_) (fun c5 => ?_)
  · skip
    refine ga_aload_n (pc := 15) dX0_determinant_15 rfl ?_
    refine ga_getN (pc := 16) (C := RX5) (T := TX5) (N := 4) (v := .int (iI ro)) in_X5 rfl hb 0 (by decide) (ga_nt q289 rfl) rfl rfl dX0_determinant_16 ?_
    refine ga_iconst (pc := 19) dX0_determinant_19 ?_
    refine ga_icmp_ne (pc := 20) (tgt := 32) dX0_determinant_20 rfl (by omega) (by omega) (fun c20 => ?_) (fun c20 => ?_)
    · skip
      refine ga_iconst (pc := 32) dX0_determinant_32 ?_
      refine ga_newL (pc := 33) (N := 3) rfl (by decide) (by decide) (by decide) dX0_determinant_33 (fun q haq => ?_)
      refine ga_dup (pc := 35) dX0_determinant_35 rfl ?_
      refine ga_iconst (pc := 36) dX0_determinant_36 ?_
      refine ga_aload_n (pc := 37) dX0_determinant_37 rfl ?_
      refine ga_iconst (pc := 38) dX0_determinant_38 ?_
      refine ga_iconst (pc := 39) dX0_determinant_39 ?_
      refine k_X5_at_X0 (pc := 40) (b := b) (e := e) (ro := ro) (co := ro) (i := 0) (j := 0) (f := f) (ga_fu haq hb) (ga_fu haq he) (by first | exact hij | omega) (rfl) ⟨Nat.le_of_ble_eq_true rfl, Nat.le_of_ble_eq_true rfl⟩ ⟨Nat.le_of_ble_eq_true rfl, Nat.le_of_ble_eq_true rfl⟩ (Nat.le_of_ble_eq_true rfl) dX0_determinant_40 ?_
      refine ga_aload_n (pc := 43) dX0_determinant_43 rfl ?_
      refine ga_iconst (pc := 44) dX0_determinant_44 ?_
      refine ga_iconst (pc := 45) dX0_determinant_45 ?_
      refine ga_iconst (pc := 46) dX0_determinant_46 ?_
      refine ga_iconst (pc := 47) dX0_determinant_47 ?_
      refine k_X0_minor_X0 (pc := 48) (b := b) (e := e) (ro := ro) (co := ro) (i := 1) (j := 2) (p := 1) (q := 2) (f := f) (ga_fu haq hb) (ga_fu haq he) (by first | exact hrc | omega) (by first | exact h1 | omega) (rfl) ⟨Nat.le_of_ble_eq_true rfl, Nat.le_of_ble_eq_true rfl⟩ ⟨Nat.le_of_ble_eq_true rfl, Nat.le_of_ble_eq_true rfl⟩ (Nat.le_of_ble_eq_true rfl) dX0_determinant_48 ?_
      refine ga_lmul (pc := 51) dX0_determinant_51 ?_
      refine ga_last (pc := 52) (N := 3) (f := (fun _ => 0)) (ga_us _ _ _) (by decide) (by decide) dX0_determinant_52 ?_
      refine ga_heq (pc := 53) (ga_uu _ _ _ _) ?_
      refine ga_dup (pc := 53) dX0_determinant_53 rfl ?_
      refine ga_iconst (pc := 54) dX0_determinant_54 ?_
      refine ga_aload_n (pc := 55) dX0_determinant_55 rfl ?_
      refine ga_iconst (pc := 56) dX0_determinant_56 ?_
      refine ga_iconst (pc := 57) dX0_determinant_57 ?_
      refine k_X5_at_X0 (pc := 58) (b := b) (e := e) (ro := ro) (co := ro) (i := 0) (j := 1) (f := f) (ga_fu haq hb) (ga_fu haq he) (by first | exact hij | omega) (rfl) ⟨Nat.le_of_ble_eq_true rfl, Nat.le_of_ble_eq_true rfl⟩ ⟨Nat.le_of_ble_eq_true rfl, Nat.le_of_ble_eq_true rfl⟩ (Nat.le_of_ble_eq_true rfl) dX0_determinant_58 ?_
      refine ga_lneg (pc := 61) dX0_determinant_61 ?_
      refine ga_aload_n (pc := 62) dX0_determinant_62 rfl ?_
      refine ga_iconst (pc := 63) dX0_determinant_63 ?_
      refine ga_iconst (pc := 64) dX0_determinant_64 ?_
      refine ga_iconst (pc := 65) dX0_determinant_65 ?_
      refine ga_iconst (pc := 66) dX0_determinant_66 ?_
      refine k_X0_minor_X0 (pc := 67) (b := b) (e := e) (ro := ro) (co := ro) (i := 1) (j := 2) (p := 0) (q := 2) (f := f) (ga_fu haq hb) (ga_fu haq he) (by first | exact hrc | omega) (by first | exact h1 | omega) (rfl) ⟨Nat.le_of_ble_eq_true rfl, Nat.le_of_ble_eq_true rfl⟩ ⟨Nat.le_of_ble_eq_true rfl, Nat.le_of_ble_eq_true rfl⟩ (Nat.le_of_ble_eq_true rfl) dX0_determinant_67 ?_
      refine ga_lmul (pc := 70) dX0_determinant_70 ?_
      refine ga_last (pc := 71) (N := 3) (f := (uZ (fun _ => 0) 0 ((f (ro * 0 + 0)) * (zMi f ro 1 2 1 2)))) (ga_us _ _ _) (by decide) (by decide) dX0_determinant_71 ?_
      refine ga_heq (pc := 72) (ga_uu _ _ _ _) ?_
      refine ga_dup (pc := 72) dX0_determinant_72 rfl ?_
      refine ga_iconst (pc := 73) dX0_determinant_73 ?_
      refine ga_aload_n (pc := 74) dX0_determinant_74 rfl ?_
      refine ga_iconst (pc := 75) dX0_determinant_75 ?_
      refine ga_iconst (pc := 76) dX0_determinant_76 ?_
      refine k_X5_at_X0 (pc := 77) (b := b) (e := e) (ro := ro) (co := ro) (i := 0) (j := 2) (f := f) (ga_fu haq hb) (ga_fu haq he) (by first | exact hij | omega) (rfl) ⟨Nat.le_of_ble_eq_true rfl, Nat.le_of_ble_eq_true rfl⟩ ⟨Nat.le_of_ble_eq_true rfl, Nat.le_of_ble_eq_true rfl⟩ (Nat.le_of_ble_eq_true rfl) dX0_determinant_77 ?_
      refine ga_aload_n (pc := 80) dX0_determinant_80 rfl ?_
      refine ga_iconst (pc := 81) dX0_determinant_81 ?_
      refine ga_iconst (pc := 82) dX0_determinant_82 ?_
      refine ga_iconst (pc := 83) dX0_determinant_83 ?_
      refine ga_iconst (pc := 84) dX0_determinant_84 ?_
      refine k_X0_minor_X0 (pc := 85) (b := b) (e := e) (ro := ro) (co := ro) (i := 1) (j := 2) (p := 0) (q := 1) (f := f) (ga_fu haq hb) (ga_fu haq he) (by first | exact hrc | omega) (by first | exact h1 | omega) (rfl) ⟨Nat.le_of_ble_eq_true rfl, Nat.le_of_ble_eq_true rfl⟩ ⟨Nat.le_of_ble_eq_true rfl, Nat.le_of_ble_eq_true rfl⟩ (Nat.le_of_ble_eq_true rfl) dX0_determinant_85 ?_
      refine ga_lmul (pc := 88) dX0_determinant_88 ?_
      refine ga_last (pc := 89) (N := 3) (f := (uZ (uZ (fun _ => 0) 0 ((f (ro * 0 + 0)) * (zMi f ro 1 2 1 2))) 1 ((-(f (ro * 0 + 1))) * (zMi f ro 1 2 0 2)))) (ga_us _ _ _) (by decide) (by decide) dX0_determinant_89 ?_
      refine ga_heq (pc := 90) (ga_uu _ _ _ _) ?_
      refine k_X0_sum_X0 (pc := 90) (b := q) (f := (uZ (uZ (uZ (fun _ => 0) 0 ((f (ro * 0 + 0)) * (zMi f ro 1 2 1 2))) 1 ((-(f (ro * 0 + 1))) * (zMi f ro 1 2 0 2))) 2 ((f (ro * 0 + 2)) * (zMi f ro 1 2 0 1)))) (ga_us _ _ _) (fun k k0 k1 => by have z := cB3 (b := 250000) (zPrx (hen (ro * 0 + 0)) (zMi_r hen ro 1 2 1 2)) (zPrx (show -50 ≤ -f (ro * 0 + 1) ∧ -f (ro * 0 + 1) ≤ 50 by have z9 := hen (ro * 0 + 1); omega) (zMi_r hen ro 1 2 0 2)) (zPrx (hen (ro * 0 + 2)) (zMi_r hen ro 1 2 0 1)) k k0 k1; omega) (rfl) ⟨Nat.le_of_ble_eq_true rfl, Nat.le_of_ble_eq_true rfl⟩ ⟨Nat.le_of_ble_eq_true rfl, Nat.le_of_ble_eq_true rfl⟩ (Nat.le_of_ble_eq_true rfl) dX0_determinant_90 ?_
      exact ga_lret hE dX0_determinant_93 (Nat.le_of_ble_eq_true rfl) (Nat.le_of_ble_eq_true rfl) (⟨congrArg (fun z => some (Value.long (lI z))) (by rw [cS3]; unfold cDt; rw [if_neg (by omega), if_neg (by omega)]), fun a e z => ga_fu haq z⟩)
    · skip
      refine ga_aload_n (pc := 23) dX0_determinant_23 rfl ?_
      refine ga_iconst (pc := 24) dX0_determinant_24 ?_
      refine ga_iconst (pc := 25) dX0_determinant_25 ?_
      refine ga_iconst (pc := 26) dX0_determinant_26 ?_
      refine ga_iconst (pc := 27) dX0_determinant_27 ?_
      refine k_X0_minor_X0 (pc := 28) (b := b) (e := e) (ro := ro) (co := ro) (i := 0) (j := 1) (p := 0) (q := 1) (f := f) (hb) (he) (by first | exact hrc | omega) (by first | exact h1 | omega) (rfl) ⟨Nat.le_of_ble_eq_true rfl, Nat.le_of_ble_eq_true rfl⟩ ⟨Nat.le_of_ble_eq_true rfl, Nat.le_of_ble_eq_true rfl⟩ (Nat.le_of_ble_eq_true rfl) dX0_determinant_28 ?_
      exact ga_lret hE dX0_determinant_31 (Nat.le_of_ble_eq_true rfl) (Nat.le_of_ble_eq_true rfl) (⟨congrArg (fun z => some (Value.long (lI z))) (by unfold cDt; rw [if_neg (by omega), if_pos (by omega)]), fun a e z => z⟩)
  · skip
    refine ga_aload_n (pc := 8) dX0_determinant_8 rfl ?_
    refine ga_iconst (pc := 9) dX0_determinant_9 ?_
    refine ga_iconst (pc := 10) dX0_determinant_10 ?_
    refine k_X5_at_X0 (pc := 11) (b := b) (e := e) (ro := ro) (co := ro) (i := 0) (j := 0) (f := f) (hb) (he) (by first | exact hij | omega) (rfl) ⟨Nat.le_of_ble_eq_true rfl, Nat.le_of_ble_eq_true rfl⟩ ⟨Nat.le_of_ble_eq_true rfl, Nat.le_of_ble_eq_true rfl⟩ (Nat.le_of_ble_eq_true rfl) dX0_determinant_11 ?_
    exact ga_lret hE dX0_determinant_14 (Nat.le_of_ble_eq_true rfl) (Nat.le_of_ble_eq_true rfl) (⟨congrArg (fun z => some (Value.long (lI z))) (by unfold cDt; rw [if_pos (by omega)]), fun a e z => z⟩)
theorem k_X0_determinant {X : ga_X} {R : Room} {nL : Nat} {cc : ByteArray} {h : ga_H} {k n pc : Nat} {L : List (Option Value)} {st : List Value} {b e : Nat} {ro : Int} {f : Int → Int} {z : Int} (hb : h b = some (oE 5 [.int (iI ro), .int (iI ro), .int (iI 9), .ref e])) (he : h e = some (aL 9 f)) (hrc : 1 ≤ ro ∧ ro ≤ 3) (hen : ∀ k : Int, -50 ≤ f k ∧ f k ≤ 50) (hz : (cDt f ro) = z) (hR : 2 + 1 ≤ R.frames ∧ 19 + 1 + 64 * 2 ≤ R.locals) (hk : k + 1 ≤ R.cells ∧ n + 3 ≤ R.slots) (hs : (st.map fun v => v.category).sum ≤ 8) (d : decode cc pc = .ok (.invokestatic 199, 3)) (kk : ∀ h1 : ga_H, (∀ a e, h a = some e → h1 a = some e) → G X R RX0 nL cc h1 (k + 1) (n + 3) (pc + 3) L (.long (lI z) :: st)) : G X R RX0 nL cc h k n pc L (.ref b :: st) := by
  subst hz
  exact nm_runS (m_X0_determinant _ _ h b e ro f hb he hrc hen) (lw_S q496 q497 q102 q498) (show ga_nn' yX0_determinant 1 from (by unfold ga_nn'; decide +kernel)) hR hk hs d rfl kk
set_option maxHeartbeats 4000000 in
set_option maxRecDepth 100000 in
theorem m_X0_minors (l : Launch) (D : ga_G) (h : ga_H) (b e : Nat) (ro : Int) (f : Int → Int) (hb : h b = some (oE 5 [.int (iI ro), .int (iI ro), .int (iI 9), .ref e])) (he : h e = some (aL 9 f)) (hrc : 1 ≤ ro ∧ ro ≤ 3) (hen : ∀ k : Int, -50 ≤ f k ∧ f k ≤ 50) : nM l D yX0_minors (ws_ yX0_minors cX0_minors 1 (some .long)) (gK 3 1 3) [.ref b] h (some (.long (lI (cMs f ro)))) 1 3 := by
  refine ga_met (own := RX0) 0 (by decide) rfl (Nat.le_of_ble_eq_true rfl) (L0 := [some (.ref b)]) rfl (fun X _ _ hE => ?_)
  refine ga_aload_n (pc := 0) dX0_minors_0 rfl ?_
  refine ga_getN (pc := 1) (C := RX5) (T := TX5) (N := 4) (v := .int (iI ro)) in_X5 rfl hb 0 (by decide) (ga_nt q289 rfl) rfl rfl dX0_minors_1 ?_
  refine ga_iconst (pc := 4) dX0_minors_4 ?_
  refine ga_icmp_ge (pc := 5) (tgt := 15) dX0_minors_5 rfl (by omega) (by omega) (fun c5 => ?_) (fun c5 => ?_)
  · skip
    refine ga_iconst (pc := 15) dX0_minors_15 ?_
    refine ga_newL (pc := 16) (N := 3) rfl (by decide) (by decide) (by decide) dX0_minors_16 (fun q haq => ?_)
    refine ga_dup (pc := 18) dX0_minors_18 rfl ?_
    refine ga_iconst (pc := 19) dX0_minors_19 ?_
    refine ga_aload_n (pc := 20) dX0_minors_20 rfl ?_
    refine ga_iconst (pc := 21) dX0_minors_21 ?_
    refine ga_iconst (pc := 22) dX0_minors_22 ?_
    refine ga_iconst (pc := 23) dX0_minors_23 ?_
    refine ga_iconst (pc := 24) dX0_minors_24 ?_
    refine k_X0_minor_X0 (pc := 25) (b := b) (e := e) (ro := ro) (co := ro) (i := 0) (j := 1) (p := 0) (q := 1) (f := f) (ga_fu haq hb) (ga_fu haq he) (by first | exact hrc | omega) (by first | exact h1 | omega) (rfl) ⟨Nat.le_of_ble_eq_true rfl, Nat.le_of_ble_eq_true rfl⟩ ⟨Nat.le_of_ble_eq_true rfl, Nat.le_of_ble_eq_true rfl⟩ (Nat.le_of_ble_eq_true rfl) dX0_minors_25 ?_
    refine ga_last (pc := 28) (N := 3) (f := (fun _ => 0)) (ga_us _ _ _) (by decide) (by decide) dX0_minors_28 ?_
    refine ga_heq (pc := 29) (ga_uu _ _ _ _) ?_
    refine ga_dup (pc := 29) dX0_minors_29 rfl ?_
    refine ga_iconst (pc := 30) dX0_minors_30 ?_
    refine ga_aload_n (pc := 31) dX0_minors_31 rfl ?_
    refine ga_iconst (pc := 32) dX0_minors_32 ?_
    refine ga_iconst (pc := 33) dX0_minors_33 ?_
    refine ga_iconst (pc := 34) dX0_minors_34 ?_
    refine ga_iconst (pc := 35) dX0_minors_35 ?_
    refine k_X0_minor_X0 (pc := 36) (b := b) (e := e) (ro := ro) (co := ro) (i := 0) (j := 2) (p := 0) (q := 2) (f := f) (ga_fu haq hb) (ga_fu haq he) (by first | exact hrc | omega) (by first | exact h1 | omega) (rfl) ⟨Nat.le_of_ble_eq_true rfl, Nat.le_of_ble_eq_true rfl⟩ ⟨Nat.le_of_ble_eq_true rfl, Nat.le_of_ble_eq_true rfl⟩ (Nat.le_of_ble_eq_true rfl) dX0_minors_36 ?_
    refine ga_last (pc := 39) (N := 3) (f := (uZ (fun _ => 0) 0 (zMi f ro 0 1 0 1))) (ga_us _ _ _) (by decide) (by decide) dX0_minors_39 ?_
    refine ga_heq (pc := 40) (ga_uu _ _ _ _) ?_
    refine ga_dup (pc := 40) dX0_minors_40 rfl ?_
    refine ga_iconst (pc := 41) dX0_minors_41 ?_
    refine ga_aload_n (pc := 42) dX0_minors_42 rfl ?_
    refine ga_iconst (pc := 43) dX0_minors_43 ?_
    refine ga_iconst (pc := 44) dX0_minors_44 ?_
    refine ga_iconst (pc := 45) dX0_minors_45 ?_
    refine ga_iconst (pc := 46) dX0_minors_46 ?_
    refine k_X0_minor_X0 (pc := 47) (b := b) (e := e) (ro := ro) (co := ro) (i := 1) (j := 2) (p := 1) (q := 2) (f := f) (ga_fu haq hb) (ga_fu haq he) (by first | exact hrc | omega) (by first | exact h1 | omega) (rfl) ⟨Nat.le_of_ble_eq_true rfl, Nat.le_of_ble_eq_true rfl⟩ ⟨Nat.le_of_ble_eq_true rfl, Nat.le_of_ble_eq_true rfl⟩ (Nat.le_of_ble_eq_true rfl) dX0_minors_47 ?_
    refine ga_last (pc := 50) (N := 3) (f := (uZ (uZ (fun _ => 0) 0 (zMi f ro 0 1 0 1)) 1 (zMi f ro 0 2 0 2))) (ga_us _ _ _) (by decide) (by decide) dX0_minors_50 ?_
    refine ga_heq (pc := 51) (ga_uu _ _ _ _) ?_
    refine k_X0_sum_X0 (pc := 51) (b := q) (f := (uZ (uZ (uZ (fun _ => 0) 0 (zMi f ro 0 1 0 1)) 1 (zMi f ro 0 2 0 2)) 2 (zMi f ro 1 2 1 2))) (ga_us _ _ _) (fun k k0 k1 => by have z := cB3 (b := 5000) (zMi_r hen ro 0 1 0 1) (zMi_r hen ro 0 2 0 2) (zMi_r hen ro 1 2 1 2) k k0 k1; omega) (rfl) ⟨Nat.le_of_ble_eq_true rfl, Nat.le_of_ble_eq_true rfl⟩ ⟨Nat.le_of_ble_eq_true rfl, Nat.le_of_ble_eq_true rfl⟩ (Nat.le_of_ble_eq_true rfl) dX0_minors_51 ?_
    exact ga_lret hE dX0_minors_54 (Nat.le_of_ble_eq_true rfl) (Nat.le_of_ble_eq_true rfl) (⟨congrArg (fun z => some (Value.long (lI z))) (by unfold cMs; first | (rw [if_pos (by omega)]; done) | (rw [cS3, if_neg (by omega)])), fun a e z => ga_fu haq z⟩)
  · skip
    refine ga_aload_n (pc := 8) dX0_minors_8 rfl ?_
    refine k_X0_determinant (pc := 9) (b := b) (e := e) (ro := ro) (f := f) (hb) (he) (by first | exact hrc | omega) (by first | exact hen | omega) (rfl) ⟨Nat.le_of_ble_eq_true rfl, Nat.le_of_ble_eq_true rfl⟩ ⟨Nat.le_of_ble_eq_true rfl, Nat.le_of_ble_eq_true rfl⟩ (Nat.le_of_ble_eq_true rfl) dX0_minors_9 (fun h9 hfr9 => ?_)
    refine ga_goto (pc := 12) (tgt := 54) dX0_minors_12 rfl ?_
    exact ga_lret hE dX0_minors_54 (Nat.le_of_ble_eq_true rfl) (Nat.le_of_ble_eq_true rfl) (⟨congrArg (fun z => some (Value.long (lI z))) (by unfold cMs; first | (rw [if_pos (by omega)]; done) | (rw [cS3, if_neg (by omega)])), fun a e z => hfr9 _ _ ((fun a e z => z) a e z)⟩)
theorem k_X0_minors {X : ga_X} {R : Room} {nL : Nat} {cc : ByteArray} {h : ga_H} {k n pc : Nat} {L : List (Option Value)} {st : List Value} {b e : Nat} {ro : Int} {f : Int → Int} {z : Int} (hb : h b = some (oE 5 [.int (iI ro), .int (iI ro), .int (iI 9), .ref e])) (he : h e = some (aL 9 f)) (hrc : 1 ≤ ro ∧ ro ≤ 3) (hen : ∀ k : Int, -50 ≤ f k ∧ f k ≤ 50) (hz : (cMs f ro) = z) (hR : 3 + 1 ≤ R.frames ∧ 19 + 1 + 64 * 3 ≤ R.locals) (hk : k + 1 ≤ R.cells ∧ n + 3 ≤ R.slots) (hs : (st.map fun v => v.category).sum ≤ 8) (d : decode cc pc = .ok (.invokestatic 211, 3)) (kk : ∀ h1 : ga_H, (∀ a e, h a = some e → h1 a = some e) → G X R RX0 nL cc h1 (k + 1) (n + 3) (pc + 3) L (.long (lI z) :: st)) : G X R RX0 nL cc h k n pc L (.ref b :: st) := by
  subst hz
  exact nm_runS (m_X0_minors _ _ h b e ro f hb he hrc hen) (lw_S q556 q557 q102 q558) (show ga_nn' yX0_minors 1 from (by unfold ga_nn'; decide +kernel)) hR hk hs d rfl kk
set_option maxHeartbeats 4000000 in
set_option maxRecDepth 100000 in
theorem m_X0_characterOf (l : Launch) (D : ga_G) (h : ga_H) (b e : Nat) (ro ch : Int) (f : Int → Int) (hb : h b = some (oE 5 [.int (iI ro), .int (iI ro), .int (iI 9), .ref e])) (he : h e = some (aL 9 f)) (hrc : 1 ≤ ro ∧ ro ≤ 3) (hen : ∀ k : Int, -50 ≤ f k ∧ f k ≤ 50) (hch : 0 ≤ ch ∧ ch ≤ ro) : nM l D yX0_characterOf (ws_ yX0_characterOf cX0_characterOf 3 (some .long)) (gK 4 1 3) [.ref b, .int (iI ch)] h (some (.long (lI (if ro - ch = 0 then 1 else if ro - ch = 1 then -zsum (fun x => f (ro * x + x)) ro.toNat else if ro - ch = 2 then cMs f ro else -cDt f ro)))) 1 3 := by
  refine ga_met (own := RX0) 1 (by decide) rfl (Nat.le_of_ble_eq_true rfl) (L0 := [some (.ref b), some (.int (iI ch)), none]) rfl (fun X _ _ hE => ?_)
  refine ga_aload_n (pc := 0) dX0_characterOf_0 rfl ?_
  refine ga_getN (pc := 1) (C := RX5) (T := TX5) (N := 4) (v := .int (iI ro)) in_X5 rfl hb 0 (by decide) (ga_nt q289 rfl) rfl rfl dX0_characterOf_1 ?_
  refine ga_iload_n (pc := 4) dX0_characterOf_4 rfl ?_
  refine ga_isub (pc := 5) dX0_characterOf_5 ?_
  refine ga_istore_n (pc := 6) (L1 := [some (.ref b), some (.int (iI ch)), some (.int (iI (ro - ch)))]) dX0_characterOf_6 rfl (by decide) rfl ?_
  refine ga_iload_n (pc := 7) dX0_characterOf_7 rfl ?_
  refine ga_if_ne (pc := 8) (tgt := 13) dX0_characterOf_8 rfl (by omega) (fun c8 => ?_) (fun c8 => ?_)
  · skip
    refine ga_iload_n (pc := 13) dX0_characterOf_13 rfl ?_
    refine ga_iconst (pc := 14) dX0_characterOf_14 ?_
    refine ga_icmp_ne (pc := 15) (tgt := 24) dX0_characterOf_15 rfl (by omega) (by omega) (fun c15 => ?_) (fun c15 => ?_)
    · skip
      refine ga_iload_n (pc := 24) dX0_characterOf_24 rfl ?_
      refine ga_iconst (pc := 25) dX0_characterOf_25 ?_
      refine ga_icmp_ne (pc := 26) (tgt := 36) dX0_characterOf_26 rfl (by omega) (by omega) (fun c26 => ?_) (fun c26 => ?_)
      · skip
        refine ga_aload_n (pc := 36) dX0_characterOf_36 rfl ?_
        refine k_X0_determinant (pc := 37) (b := b) (e := e) (ro := ro) (f := f) (hb) (he) (by first | exact hrc | omega) (by first | exact hen | omega) (rfl) ⟨Nat.le_of_ble_eq_true rfl, Nat.le_of_ble_eq_true rfl⟩ ⟨Nat.le_of_ble_eq_true rfl, Nat.le_of_ble_eq_true rfl⟩ (Nat.le_of_ble_eq_true rfl) dX0_characterOf_37 (fun h37 hfr37 => ?_)
        refine ga_lneg (pc := 40) dX0_characterOf_40 ?_
        exact ga_lret hE dX0_characterOf_41 (Nat.le_of_ble_eq_true rfl) (Nat.le_of_ble_eq_true rfl) (⟨congrArg (fun z => some (Value.long (lI z))) (by rw [if_neg (by omega), if_neg (by omega)]; first | (rw [if_pos (by omega)]; done) | rw [if_neg (by omega)]), fun a e z => hfr37 _ _ ((fun a e z => z) a e z)⟩)
      · skip
        refine ga_aload_n (pc := 29) dX0_characterOf_29 rfl ?_
        refine k_X0_minors (pc := 30) (b := b) (e := e) (ro := ro) (f := f) (hb) (he) (by first | exact hrc | omega) (by first | exact hen | omega) (rfl) ⟨Nat.le_of_ble_eq_true rfl, Nat.le_of_ble_eq_true rfl⟩ ⟨Nat.le_of_ble_eq_true rfl, Nat.le_of_ble_eq_true rfl⟩ (Nat.le_of_ble_eq_true rfl) dX0_characterOf_30 (fun h30 hfr30 => ?_)
        refine ga_goto (pc := 33) (tgt := 41) dX0_characterOf_33 rfl ?_
        exact ga_lret hE dX0_characterOf_41 (Nat.le_of_ble_eq_true rfl) (Nat.le_of_ble_eq_true rfl) (⟨congrArg (fun z => some (Value.long (lI z))) (by rw [if_neg (by omega), if_neg (by omega)]; first | (rw [if_pos (by omega)]; done) | rw [if_neg (by omega)]), fun a e z => hfr30 _ _ ((fun a e z => z) a e z)⟩)
    · skip
      refine ga_aload_n (pc := 18) dX0_characterOf_18 rfl ?_
      refine k_X5_diagonal_X0 (pc := 19) (b := b) (e := e) (ro := ro) (co := ro) (f := f) (hb) (he) (by first | exact hrc | omega) (by first | exact hrr | omega) (rfl) ⟨Nat.le_of_ble_eq_true rfl, Nat.le_of_ble_eq_true rfl⟩ ⟨Nat.le_of_ble_eq_true rfl, Nat.le_of_ble_eq_true rfl⟩ (Nat.le_of_ble_eq_true rfl) dX0_characterOf_19 ?_
      refine ga_lneg (pc := 22) dX0_characterOf_22 ?_
      exact ga_lret hE dX0_characterOf_23 (Nat.le_of_ble_eq_true rfl) (Nat.le_of_ble_eq_true rfl) (⟨congrArg (fun z => some (Value.long (lI z))) (by rw [if_neg (by omega), if_pos (by omega)]), fun a e z => z⟩)
  · skip
    refine ga_lconst (pc := 11) 1 dX0_characterOf_11 rfl ?_
    exact ga_lret hE dX0_characterOf_12 (Nat.le_of_ble_eq_true rfl) (Nat.le_of_ble_eq_true rfl) (⟨congrArg (fun z => some (Value.long (lI z))) (by rw [if_pos (by omega)]), fun a e z => z⟩)
theorem k_X0_characterOf {X : ga_X} {R : Room} {nL : Nat} {cc : ByteArray} {h : ga_H} {k n pc : Nat} {L : List (Option Value)} {st : List Value} {b e : Nat} {ro ch : Int} {f : Int → Int} {z : Int} (hb : h b = some (oE 5 [.int (iI ro), .int (iI ro), .int (iI 9), .ref e])) (he : h e = some (aL 9 f)) (hrc : 1 ≤ ro ∧ ro ≤ 3) (hen : ∀ k : Int, -50 ≤ f k ∧ f k ≤ 50) (hch : 0 ≤ ch ∧ ch ≤ ro) (hz : (if ro - ch = 0 then 1 else if ro - ch = 1 then -zsum (fun x => f (ro * x + x)) ro.toNat else if ro - ch = 2 then cMs f ro else -cDt f ro) = z) (hR : 4 + 1 ≤ R.frames ∧ 19 + 3 + 64 * 4 ≤ R.locals) (hk : k + 1 ≤ R.cells ∧ n + 3 ≤ R.slots) (hs : (st.map fun v => v.category).sum ≤ 8) (d : decode cc pc = .ok (.invokestatic 214, 3)) (kk : ∀ h1 : ga_H, (∀ a e, h a = some e → h1 a = some e) → G X R RX0 nL cc h1 (k + 1) (n + 3) (pc + 3) L (.long (lI z) :: st)) : G X R RX0 nL cc h k n pc L (.int (iI ch) :: .ref b :: st) := by
  subst hz
  exact nm_runS (m_X0_characterOf _ _ h b e ro ch f hb he hrc hen hch) (lw_S q553 q554 q102 q555) (show ga_nn' yX0_characterOf 2 from (by unfold ga_nn'; decide +kernel)) hR hk hs d rfl kk
