/-! THE CLASS: equations of any shape, with what stands on the right of another one; calls on them -/
def pOn (h : ga_H) (p : Nat) (kx kd y sh : Int) (q : Nat) (fr : Int) : Prop := (0 ≤ kx ∧ kx ≤ 8) ∧ (0 ≤ kd ∧ kd ≤ 6) ∧ (kx ≤ 6 → kd = kx ∧ h p = some (oE (9 + kx.toNat) [.int (iI y), .int (iI sh)])) ∧ (kx = 7 → h p = some (oE 16 [.int (iI y), .int (iI sh), .ref q])) ∧ (kx = 8 → h p = some (oE 17 [.int (iI y), .int (iI sh), .ref q, .int (iI fr)])) ∧ (7 ≤ kx → ∃ y1 sh1 : Int, h q = some (oE (9 + kd.toNat) [.int (iI y1), .int (iI sh1)]))
theorem pOn.mono {h h1 : ga_H} {p : Nat} {kx kd y sh : Int} {q : Nat} {fr : Int} (g : pOn h p kx kd y sh q fr) (hh : ∀ a e, h a = some e → h1 a = some e) : pOn h1 p kx kd y sh q fr :=
  ⟨g.1, g.2.1, fun z => ⟨(g.2.2.1 z).1, hh _ _ (g.2.2.1 z).2⟩, fun z => hh _ _ (g.2.2.2.1 z), fun z => hh _ _ (g.2.2.2.2.1 z), fun z => by obtain ⟨y1, sh1, e⟩ := g.2.2.2.2.2 z; exact ⟨y1, sh1, hh _ _ e⟩⟩
theorem pOn.of {h : ga_H} {p : Nat} {kd y sh : Int} (hk : 0 ≤ kd ∧ kd ≤ 6) (hp : h p = some (oE (9 + kd.toNat) [.int (iI y), .int (iI sh)])) : pOn h p kd kd y sh 0 0 := ⟨⟨hk.1, by omega⟩, hk, fun _ => ⟨rfl, hp⟩, fun z => by omega, fun z => by omega, fun z => by omega⟩
/-- which unknown stands at a place; how many there are -/
def xCo (kx fr w i j : Int) : Int := if kx = 8 then (if i < fr then 0 else 1 + w * (i - fr) + j) else if kx = 7 then 1 + w * i + j else zCo kx w i j
def xUn (kx fr m w : Int) : Int := if kx = 8 then (m - fr) * w else if kx = 7 then m * w else zUn kx m w
set_option maxHeartbeats 4000000 in
set_option maxRecDepth 100000 in
theorem m_X17_unknowns (l : Launch) (D : ga_G) (h : ga_H) (b o : Nat) (y sh fm m w : Int) (hb : h b = some (oE 17 [.int (iI y), .int (iI sh), .ref o, .int (iI fm)])) : rM l D yX17_unknowns (ws_ yX17_unknowns cX17_unknowns 3 (some .int)) (gR 1) [.ref b, .int (iI m), .int (iI w)] h (some (.int (iI ((m - fm) * w)))) := by
  refine ga_met (own := RX17) 0 (by decide) rfl (Nat.le_of_ble_eq_true rfl) (L0 := [some (.ref b), some (.int (iI m)), some (.int (iI w))]) rfl (fun X _ _ hE => ?_)
  refine ga_aload_n (pc := 0) dX17_unknowns_0 rfl ?_
  refine ga_iload_n (pc := 1) dX17_unknowns_1 rfl ?_
  refine ga_aload_n (pc := 2) dX17_unknowns_2 rfl ?_
  refine ga_get (pc := 3) (C := RX17) (T := TX17) (N := 4) (v := .int (iI fm)) in_X17 rfl hb 3 (by decide) q1090 rfl rfl dX17_unknowns_3 ?_
  refine ga_isub (pc := 6) dX17_unknowns_6 ?_
  refine ga_iload_n (pc := 7) dX17_unknowns_7 rfl ?_
  refine rm_go (pc := 8) (ga_runSO (x := ⟨"TwoSidedTables$Loose", "unknowns", "(II)I"⟩) (m_X9_unknowns _ _ h b (m - fm) w) q837 q838 q840 q841 ⟨rfl, rfl⟩ q822 q121 q842 (by decide) (show ga_nn' yX9_unknowns 2 from (by unfold ga_nn'; decide +kernel)) ⟨rfl, rfl⟩ ⟨by show 0 + 1 ≤ _; exact Nat.le_of_ble_eq_true rfl, by show 8 + (3 + 11) + 64 * 0 ≤ _; exact Nat.le_of_ble_eq_true rfl⟩ ⟨Nat.le_of_ble_eq_true rfl, Nat.le_of_ble_eq_true rfl⟩ hb rfl (Nat.le_of_ble_eq_true rfl) dX17_unknowns_8 rfl) ?_
  exact ga_iret hE dX17_unknowns_11 (Nat.le_of_ble_eq_true rfl) (Nat.le_of_ble_eq_true rfl) (⟨congrArg (fun z => some (Value.int (iI z))) (rfl), rfl⟩)
set_option maxHeartbeats 4000000 in
set_option maxRecDepth 100000 in
theorem m_X17_codeAt (l : Launch) (D : ga_G) (h : ga_H) (b o : Nat) (y sh fm i j w : Int) (hb : h b = some (oE 17 [.int (iI y), .int (iI sh), .ref o, .int (iI fm)])) (hr : (0 ≤ i ∧ i ≤ 2) ∧ (0 ≤ fm ∧ fm ≤ 3)) : rM l D yX17_codeAt (ws_ yX17_codeAt cX17_codeAt 4 (some .int)) (gR 1) [.ref b, .int (iI i), .int (iI j), .int (iI w)] h (some (.int (iI (if i < fm then 0 else 1 + w * (i - fm) + j)))) := by
  refine ga_met (own := RX17) 0 (by decide) rfl (Nat.le_of_ble_eq_true rfl) (L0 := [some (.ref b), some (.int (iI i)), some (.int (iI j)), some (.int (iI w))]) rfl (fun X _ _ hE => ?_)
  refine ga_iload_n (pc := 0) dX17_codeAt_0 rfl ?_
  refine ga_aload_n (pc := 1) dX17_codeAt_1 rfl ?_
  refine ga_get (pc := 2) (C := RX17) (T := TX17) (N := 4) (v := .int (iI fm)) in_X17 rfl hb 3 (by decide) q1090 rfl rfl dX17_codeAt_2 ?_
  refine ga_icmp_ge (pc := 5) (tgt := 12) dX17_codeAt_5 rfl (by omega) (by omega) (fun c5 => ?_) (fun c5 => ?_)
  · skip
    refine ga_aload_n (pc := 12) dX17_codeAt_12 rfl ?_
    refine ga_iload_n (pc := 13) dX17_codeAt_13 rfl ?_
    refine ga_aload_n (pc := 14) dX17_codeAt_14 rfl ?_
    refine ga_get (pc := 15) (C := RX17) (T := TX17) (N := 4) (v := .int (iI fm)) in_X17 rfl hb 3 (by decide) q1090 rfl rfl dX17_codeAt_15 ?_
    refine ga_isub (pc := 18) dX17_codeAt_18 ?_
    refine ga_iload_n (pc := 19) dX17_codeAt_19 rfl ?_
    refine ga_iload_n (pc := 20) dX17_codeAt_20 rfl ?_
    refine rm_go (pc := 21) (ga_runSO (x := ⟨"TwoSidedTables$Loose", "codeAt", "(III)I"⟩) (m_X9_codeAt _ _ h b (i - fm) j w) q931 q932 q840 q841 ⟨rfl, rfl⟩ q907 q121 q922 (by decide) (show ga_nn' yX9_codeAt 3 from (by unfold ga_nn'; decide +kernel)) ⟨rfl, rfl⟩ ⟨by show 0 + 1 ≤ _; exact Nat.le_of_ble_eq_true rfl, by show 8 + (4 + 11) + 64 * 0 ≤ _; exact Nat.le_of_ble_eq_true rfl⟩ ⟨Nat.le_of_ble_eq_true rfl, Nat.le_of_ble_eq_true rfl⟩ hb rfl (Nat.le_of_ble_eq_true rfl) dX17_codeAt_21 rfl) ?_
    exact ga_iret hE dX17_codeAt_24 (Nat.le_of_ble_eq_true rfl) (Nat.le_of_ble_eq_true rfl) (⟨congrArg (fun z => some (Value.int (iI z))) (by first | (rw [if_pos (by omega)]; done) | rw [if_neg (by omega)]), rfl⟩)
  · skip
    refine ga_iconst (pc := 8) dX17_codeAt_8 ?_
    refine ga_goto (pc := 9) (tgt := 24) dX17_codeAt_9 rfl ?_
    exact ga_iret hE dX17_codeAt_24 (Nat.le_of_ble_eq_true rfl) (Nat.le_of_ble_eq_true rfl) (⟨congrArg (fun z => some (Value.int (iI z))) (by first | (rw [if_pos (by omega)]; done) | rw [if_neg (by omega)]), rfl⟩)
set_option maxRecDepth 100000 in
theorem v_right_X16 {X : ga_X} {R : Room} {nL : Nat} {cc : ByteArray} {h : ga_H} {k n pc : Nat} {L : List (Option Value)} {st : List Value} {p : Nat} {kd y sh : Int} {t ta tb tc ea eb : Nat} {m w ra ca rb cb i j : Int} {fa fb : Int → Int} {z : Int} (hb : h p = some (oE (9 + kd.toNat) [.int (iI y), .int (iI sh)])) (hk9 : 0 ≤ kd ∧ kd ≤ 6) (ht : h t = some (oE 4 [.int (iI m), .int (iI w), .ref ta, .ref tb, .ref tc])) (hta : h ta = some (oE 5 [.int (iI ra), .int (iI ca), .int (iI 9), .ref ea])) (hea : h ea = some (aL 9 fa)) (htb : h tb = some (oE 5 [.int (iI rb), .int (iI cb), .int (iI 9), .ref eb])) (heb : h eb = some (aL 9 fb)) (h0 : kd = 0 → 0 ≤ cb * i + j ∧ cb * i + j < 9) (h2 : kd = 2 ∨ kd = 4 → 0 ≤ ca * i + j ∧ ca * i + j < 9) (h3 : kd = 3 ∨ 5 ≤ kd → 0 ≤ ca * j + i ∧ ca * j + i < 9) (hz : (zRg kd fa fb ca cb i j) = z) (hR : 1 + 1 ≤ R.frames ∧ 19 + 4 + 64 * 1 ≤ R.locals) (hk : k ≤ R.cells ∧ n ≤ R.slots) (hs : (st.map fun v => v.category).sum ≤ 8) (d : decode cc pc = .ok (.invokevirtual 20, 3)) (kk : G X R RX16 nL cc h k n (pc + 3) L (.long (lI z) :: st)) : G X R RX16 nL cc h k n pc L (.int (iI j) :: .int (iI i) :: .ref t :: .ref p :: st) := by
  subst hz
  rcases (by omega : kd = 0 ∨ kd = 1 ∨ kd = 2 ∨ kd = 3 ∨ kd = 4 ∨ kd = 5 ∨ kd = 6) with rfl | rfl | rfl | rfl | rfl | rfl | rfl
  · exact rm_go (ga_runV (C := RX9) (T := TX9) (N := 2) (m_X9_right _ _ h p t ta tb tc eb m w rb cb i j fb ht htb heb (h0 rfl)) (lw_V q961 q943 q944 q121 q965) rfl (show ga_nn' yX9_right 3 from (by unfold ga_nn'; decide +kernel)) ⟨rfl, rfl⟩ ⟨by show 1 + 1 ≤ _; omega, by show 8 + (4 + 11) + 64 * 1 ≤ _; omega⟩ hk hb rfl hs d rfl) kk
  · exact rm_go (ga_runU (C := RX10) (T := TX10) (N := 2) (owner := "TwoSidedTables$Plain") (x := ⟨"TwoSidedTables$Plain", "right", "(LTwoSidedTables$Tables;II)J"⟩) (m_X10_right _ _ h p t i j) q961 q945 q943 q965 q954 q955 q122 q956 ⟨by decide, by decide⟩ (show ga_nn' yX9_right 3 from (by unfold ga_nn'; decide +kernel)) ⟨rfl, rfl⟩ ⟨by show 0 + 1 ≤ _; omega, by show 8 + (4 + 11) + 64 * 0 ≤ _; omega⟩ hk hb rfl hs d rfl) kk
  · exact rm_go (ga_runU (C := RX11) (T := TX11) (N := 2) (owner := "TwoSidedTables$Plain") (x := ⟨"TwoSidedTables$Plain", "right", "(LTwoSidedTables$Tables;II)J"⟩) (m_X11_right _ _ h p t ta tb tc ea m w ra ca i j fa ht hta hea (h2 (by omega))) q961 q945 q943 q965 q946 q947 q123 q948 ⟨by decide, by decide⟩ (show ga_nn' yX9_right 3 from (by unfold ga_nn'; decide +kernel)) ⟨rfl, rfl⟩ ⟨by show 1 + 1 ≤ _; omega, by show 8 + (4 + 11) + 64 * 1 ≤ _; omega⟩ hk hb rfl hs d rfl) kk
  · exact rm_go (ga_runU (C := RX12) (T := TX12) (N := 2) (owner := "TwoSidedTables$Plain") (x := ⟨"TwoSidedTables$Plain", "right", "(LTwoSidedTables$Tables;II)J"⟩) (m_X12_right _ _ h p t ta tb tc ea m w ra ca i j fa ht hta hea (h3 (by omega))) q961 q945 q943 q965 q964 q951 q124 q952 ⟨by decide, by decide⟩ (show ga_nn' yX9_right 3 from (by unfold ga_nn'; decide +kernel)) ⟨rfl, rfl⟩ ⟨by show 1 + 1 ≤ _; omega, by show 8 + (4 + 11) + 64 * 1 ≤ _; omega⟩ hk hb rfl hs d rfl) kk
  · exact rm_go (ga_runU (C := RX13) (T := TX13) (N := 2) (owner := "TwoSidedTables$Plain") (x := ⟨"TwoSidedTables$Plain", "right", "(LTwoSidedTables$Tables;II)J"⟩) (m_X11_right _ _ h p t ta tb tc ea m w ra ca i j fa ht hta hea (h2 (by omega))) q961 q945 q943 q965 q957 q947 q123 q948 ⟨by decide, by decide⟩ (show ga_nn' yX9_right 3 from (by unfold ga_nn'; decide +kernel)) ⟨rfl, rfl⟩ ⟨by show 1 + 1 ≤ _; omega, by show 8 + (4 + 11) + 64 * 1 ≤ _; omega⟩ hk hb rfl hs d rfl) kk
  · exact rm_go (ga_runU (C := RX14) (T := TX14) (N := 2) (owner := "TwoSidedTables$Plain") (x := ⟨"TwoSidedTables$Plain", "right", "(LTwoSidedTables$Tables;II)J"⟩) (m_X12_right _ _ h p t ta tb tc ea m w ra ca i j fa ht hta hea (h3 (by omega))) q961 q945 q943 q965 q950 q951 q124 q952 ⟨by decide, by decide⟩ (show ga_nn' yX9_right 3 from (by unfold ga_nn'; decide +kernel)) ⟨rfl, rfl⟩ ⟨by show 1 + 1 ≤ _; omega, by show 8 + (4 + 11) + 64 * 1 ≤ _; omega⟩ hk hb rfl hs d rfl) kk
  · exact rm_go (ga_runU (C := RX15) (T := TX15) (N := 2) (owner := "TwoSidedTables$Plain") (x := ⟨"TwoSidedTables$Plain", "right", "(LTwoSidedTables$Tables;II)J"⟩) (m_X12_right _ _ h p t ta tb tc ea m w ra ca i j fa ht hta hea (h3 (by omega))) q961 q945 q943 q965 q963 q951 q124 q952 ⟨by decide, by decide⟩ (show ga_nn' yX9_right 3 from (by unfold ga_nn'; decide +kernel)) ⟨rfl, rfl⟩ ⟨by show 1 + 1 ≤ _; omega, by show 8 + (4 + 11) + 64 * 1 ≤ _; omega⟩ hk hb rfl hs d rfl) kk
set_option maxHeartbeats 4000000 in
set_option maxRecDepth 100000 in
theorem m_X16_right_16 (l : Launch) (D : ga_G) (h : ga_H) (b o : Nat) (y sh y1 sh1 kd : Int) (t ta tb tc ea eb : Nat) (m w ra ca rb cb i j : Int) (fa fb : Int → Int) (hb : h b = some (oE 16 [.int (iI y), .int (iI sh), .ref o])) (ho : h o = some (oE (9 + kd.toNat) [.int (iI y1), .int (iI sh1)])) (hkd : 0 ≤ kd ∧ kd ≤ 6) (ht : h t = some (oE 4 [.int (iI m), .int (iI w), .ref ta, .ref tb, .ref tc])) (hta : h ta = some (oE 5 [.int (iI ra), .int (iI ca), .int (iI 9), .ref ea])) (hea : h ea = some (aL 9 fa)) (htb : h tb = some (oE 5 [.int (iI rb), .int (iI cb), .int (iI 9), .ref eb])) (heb : h eb = some (aL 9 fb)) (h0 : kd = 0 → 0 ≤ cb * i + j ∧ cb * i + j < 9) (h2 : kd = 2 ∨ kd = 4 → 0 ≤ ca * i + j ∧ ca * i + j < 9) (h3 : kd = 3 ∨ 5 ≤ kd → 0 ≤ ca * j + i ∧ ca * j + i < 9) : rM l D yX16_right (ws_ yX16_right cX16_right 4 (some .long)) (gR 2) [.ref b, .ref t, .int (iI i), .int (iI j)] h (some (.long (lI (zRg kd fa fb ca cb i j)))) := by
  refine ga_met (own := RX16) 0 (by decide) rfl (Nat.le_of_ble_eq_true rfl) (L0 := [some (.ref b), some (.ref t), some (.int (iI i)), some (.int (iI j))]) rfl (fun X _ _ hE => ?_)
  refine ga_aload_n (pc := 0) dX16_right_0 rfl ?_
  refine ga_get (pc := 1) (C := RX16) (T := TX16) (N := 3) (v := .ref o) in_X16 rfl hb 2 (by decide) q1067 rfl rfl dX16_right_1 ?_
  refine ga_aload_n (pc := 4) dX16_right_4 rfl ?_
  refine ga_iload_n (pc := 5) dX16_right_5 rfl ?_
  refine ga_iload_n (pc := 6) dX16_right_6 rfl ?_
  refine v_right_X16 (pc := 7) (p := o) (kd := kd) (y := y1) (sh := sh1) (t := t) (ta := ta) (tb := tb) (tc := tc) (ea := ea) (eb := eb) (m := m) (w := w) (ra := ra) (ca := ca) (rb := rb) (cb := cb) (i := i) (j := j) (fa := fa) (fb := fb) ho hkd ht hta hea htb heb h0 h2 h3 rfl ⟨Nat.le_of_ble_eq_true rfl, Nat.le_of_ble_eq_true rfl⟩ ⟨Nat.le_of_ble_eq_true rfl, Nat.le_of_ble_eq_true rfl⟩ (Nat.le_of_ble_eq_true rfl) dX16_right_7 ?_
  exact ga_lret hE dX16_right_10 (Nat.le_of_ble_eq_true rfl) (Nat.le_of_ble_eq_true rfl) (⟨congrArg (fun z => some (Value.long (lI z))) (rfl), rfl⟩)
set_option maxHeartbeats 4000000 in
set_option maxRecDepth 100000 in
theorem m_X16_right_17 (l : Launch) (D : ga_G) (h : ga_H) (b o : Nat) (y sh y1 sh1 kd : Int) (fm : Int) (t ta tb tc ea eb : Nat) (m w ra ca rb cb i j : Int) (fa fb : Int → Int) (hb : h b = some (oE 17 [.int (iI y), .int (iI sh), .ref o, .int (iI fm)])) (ho : h o = some (oE (9 + kd.toNat) [.int (iI y1), .int (iI sh1)])) (hkd : 0 ≤ kd ∧ kd ≤ 6) (ht : h t = some (oE 4 [.int (iI m), .int (iI w), .ref ta, .ref tb, .ref tc])) (hta : h ta = some (oE 5 [.int (iI ra), .int (iI ca), .int (iI 9), .ref ea])) (hea : h ea = some (aL 9 fa)) (htb : h tb = some (oE 5 [.int (iI rb), .int (iI cb), .int (iI 9), .ref eb])) (heb : h eb = some (aL 9 fb)) (h0 : kd = 0 → 0 ≤ cb * i + j ∧ cb * i + j < 9) (h2 : kd = 2 ∨ kd = 4 → 0 ≤ ca * i + j ∧ ca * i + j < 9) (h3 : kd = 3 ∨ 5 ≤ kd → 0 ≤ ca * j + i ∧ ca * j + i < 9) : rM l D yX16_right (ws_ yX16_right cX16_right 4 (some .long)) (gR 2) [.ref b, .ref t, .int (iI i), .int (iI j)] h (some (.long (lI (zRg kd fa fb ca cb i j)))) := by
  refine ga_met (own := RX16) 0 (by decide) rfl (Nat.le_of_ble_eq_true rfl) (L0 := [some (.ref b), some (.ref t), some (.int (iI i)), some (.int (iI j))]) rfl (fun X _ _ hE => ?_)
  refine ga_aload_n (pc := 0) dX16_right_0 rfl ?_
  refine ga_get (pc := 1) (C := RX17) (T := TX17) (N := 4) (v := .ref o) in_X17 rfl hb 2 (by decide) q1067 rfl rfl dX16_right_1 ?_
  refine ga_aload_n (pc := 4) dX16_right_4 rfl ?_
  refine ga_iload_n (pc := 5) dX16_right_5 rfl ?_
  refine ga_iload_n (pc := 6) dX16_right_6 rfl ?_
  refine v_right_X16 (pc := 7) (p := o) (kd := kd) (y := y1) (sh := sh1) (t := t) (ta := ta) (tb := tb) (tc := tc) (ea := ea) (eb := eb) (m := m) (w := w) (ra := ra) (ca := ca) (rb := rb) (cb := cb) (i := i) (j := j) (fa := fa) (fb := fb) ho hkd ht hta hea htb heb h0 h2 h3 rfl ⟨Nat.le_of_ble_eq_true rfl, Nat.le_of_ble_eq_true rfl⟩ ⟨Nat.le_of_ble_eq_true rfl, Nat.le_of_ble_eq_true rfl⟩ (Nat.le_of_ble_eq_true rfl) dX16_right_7 ?_
  exact ga_lret hE dX16_right_10 (Nat.le_of_ble_eq_true rfl) (Nat.le_of_ble_eq_true rfl) (⟨congrArg (fun z => some (Value.long (lI z))) (rfl), rfl⟩)
set_option maxRecDepth 100000 in
theorem x_shift {X : ga_X} {R : Room} {nL : Nat} {cc : ByteArray} {h : ga_H} {k n pc : Nat} {L : List (Option Value)} {st : List Value} {p q : Nat} {kx kd y sh fr : Int}  {z : Int} (hb : pOn h p kx kd y sh q fr)  (hz : sh = z) (hR : 4 + 1 ≤ R.frames ∧ 19 + 1 + 64 * 4 ≤ R.locals) (hk : k ≤ R.cells ∧ n ≤ R.slots) (hs : (st.map fun v => v.category).sum ≤ 8) (d : decode cc pc = .ok (.invokevirtual 303, 3)) (kk : G X R RX0 nL cc h k n (pc + 3) L (.int (iI z) :: st)) : G X R RX0 nL cc h k n pc L (.ref p :: st) := by
  obtain ⟨hk8, hkd, hb6, hb7, hb8, hbq⟩ := hb
  by_cases c6 : kx ≤ 6
  · obtain ⟨e6, hb⟩ := hb6 c6
    exact v_shift_X0 (kd := kx) hb ⟨hk8.1, c6⟩ hz ⟨by omega, by omega⟩ hk hs d kk
  by_cases c7 : kx = 7
  · have hb := hb7 c7
    refine rm_go (ga_runU (C := RX16) (T := TX16) (N := 3) (owner := "TwoSidedTables$Plain") (x := ⟨"TwoSidedTables$Plain", "shift", "()I"⟩) (m_X9_shift_16 _ _ h p y sh q hb) q873 q876 q874 q885 q881 q874 q121 q885 ⟨by decide, by decide⟩ (show ga_nn' yX9_shift 0 from (by unfold ga_nn'; decide +kernel)) ⟨rfl, rfl⟩ ⟨by show 0 + 1 ≤ _; omega, by show 8 + (1 + 11) + 64 * 0 ≤ _; omega⟩ hk hb rfl hs d rfl) ?_
    subst hz
    subst c7
    exact kk
  · have c8 : kx = 8 := by omega
    have hb := hb8 c8
    refine rm_go (ga_runU (C := RX17) (T := TX17) (N := 4) (owner := "TwoSidedTables$Plain") (x := ⟨"TwoSidedTables$Plain", "shift", "()I"⟩) (m_X9_shift_17 _ _ h p y sh q fr hb) q873 q876 q874 q885 q882 q874 q121 q885 ⟨by decide, by decide⟩ (show ga_nn' yX9_shift 0 from (by unfold ga_nn'; decide +kernel)) ⟨rfl, rfl⟩ ⟨by show 0 + 1 ≤ _; omega, by show 8 + (1 + 11) + 64 * 0 ≤ _; omega⟩ hk hb rfl hs d rfl) ?_
    subst hz
    subst c8
    exact kk
set_option maxRecDepth 100000 in
theorem x_codeAt {X : ga_X} {R : Room} {nL : Nat} {cc : ByteArray} {h : ga_H} {k n pc : Nat} {L : List (Option Value)} {st : List Value} {p q : Nat} {kx kd y sh fr : Int} {i j w : Int} {z : Int} (hb : pOn h p kx kd y sh q fr) (h1 : (0 ≤ i ∧ i ≤ 2) ∧ (0 ≤ j ∧ j ≤ 2)) (hfr : 0 ≤ fr ∧ fr ≤ 3) (hz : (xCo kx fr w i j) = z) (hR : 4 + 1 ≤ R.frames ∧ 19 + 4 + 64 * 4 ≤ R.locals) (hk : k ≤ R.cells ∧ n ≤ R.slots) (hs : (st.map fun v => v.category).sum ≤ 8) (d : decode cc pc = .ok (.invokevirtual 299, 3)) (kk : G X R RX0 nL cc h k n (pc + 3) L (.int (iI z) :: st)) : G X R RX0 nL cc h k n pc L (.int (iI w) :: .int (iI j) :: .int (iI i) :: .ref p :: st) := by
  obtain ⟨hk8, hkd, hb6, hb7, hb8, hbq⟩ := hb
  by_cases c6 : kx ≤ 6
  · obtain ⟨e6, hb⟩ := hb6 c6
    exact v_codeAt_X0 (kd := kx) hb ⟨hk8.1, c6⟩ h1 (by rw [← hz]; unfold xCo; rw [if_neg (by omega), if_neg (by omega)]) ⟨by omega, by omega⟩ hk hs d kk
  by_cases c7 : kx = 7
  · have hb := hb7 c7
    refine rm_go (ga_runU (C := RX16) (T := TX16) (N := 3) (owner := "TwoSidedTables$Plain") (x := ⟨"TwoSidedTables$Plain", "codeAt", "(III)I"⟩) (m_X9_codeAt _ _ h p i j w) q906 q909 q907 q922 q927 q907 q121 q922 ⟨by decide, by decide⟩ (show ga_nn' yX9_codeAt 3 from (by unfold ga_nn'; decide +kernel)) ⟨rfl, rfl⟩ ⟨by show 0 + 1 ≤ _; omega, by show 8 + (4 + 11) + 64 * 0 ≤ _; omega⟩ hk hb rfl hs d rfl) ?_
    subst hz
    subst c7
    exact kk
  · have c8 : kx = 8 := by omega
    have hb := hb8 c8
    refine rm_go (ga_runU (C := RX17) (T := TX17) (N := 4) (owner := "TwoSidedTables$Plain") (x := ⟨"TwoSidedTables$Plain", "codeAt", "(III)I"⟩) (m_X17_codeAt _ _ h p q y sh fr i j w hb ⟨h1.1, hfr⟩) q906 q909 q907 q922 q928 q929 q130 q930 ⟨by decide, by decide⟩ (show ga_nn' yX9_codeAt 3 from (by unfold ga_nn'; decide +kernel)) ⟨rfl, rfl⟩ ⟨by show 1 + 1 ≤ _; omega, by show 8 + (4 + 11) + 64 * 1 ≤ _; omega⟩ hk hb rfl hs d rfl) ?_
    subst hz
    subst c8
    exact kk
set_option maxRecDepth 100000 in
theorem x_unknowns {X : ga_X} {R : Room} {nL : Nat} {cc : ByteArray} {h : ga_H} {k n pc : Nat} {L : List (Option Value)} {st : List Value} {p q : Nat} {kx kd y sh fr : Int} {m w : Int} {z : Int} (hb : pOn h p kx kd y sh q fr) (h1 : 1 ≤ m ∧ m ≤ 3) (hz : (xUn kx fr m w) = z) (hR : 4 + 1 ≤ R.frames ∧ 19 + 3 + 64 * 4 ≤ R.locals) (hk : k ≤ R.cells ∧ n ≤ R.slots) (hs : (st.map fun v => v.category).sum ≤ 8) (d : decode cc pc = .ok (.invokevirtual 151, 3)) (kk : G X R RX0 nL cc h k n (pc + 3) L (.int (iI z) :: st)) : G X R RX0 nL cc h k n pc L (.int (iI w) :: .int (iI m) :: .ref p :: st) := by
  obtain ⟨hk8, hkd, hb6, hb7, hb8, hbq⟩ := hb
  by_cases c6 : kx ≤ 6
  · obtain ⟨e6, hb⟩ := hb6 c6
    exact v_unknowns_X0 (kd := kx) hb ⟨hk8.1, c6⟩ h1 (by rw [← hz]; unfold xUn; rw [if_neg (by omega), if_neg (by omega)]) ⟨by omega, by omega⟩ hk hs d kk
  by_cases c7 : kx = 7
  · have hb := hb7 c7
    refine rm_go (ga_runU (C := RX16) (T := TX16) (N := 3) (owner := "TwoSidedTables$Plain") (x := ⟨"TwoSidedTables$Plain", "unknowns", "(II)I"⟩) (m_X9_unknowns _ _ h p m w) q821 q824 q822 q842 q833 q822 q121 q842 ⟨by decide, by decide⟩ (show ga_nn' yX9_unknowns 2 from (by unfold ga_nn'; decide +kernel)) ⟨rfl, rfl⟩ ⟨by show 0 + 1 ≤ _; omega, by show 8 + (3 + 11) + 64 * 0 ≤ _; omega⟩ hk hb rfl hs d rfl) ?_
    subst hz
    subst c7
    exact kk
  · have c8 : kx = 8 := by omega
    have hb := hb8 c8
    refine rm_go (ga_runU (C := RX17) (T := TX17) (N := 4) (owner := "TwoSidedTables$Plain") (x := ⟨"TwoSidedTables$Plain", "unknowns", "(II)I"⟩) (m_X17_unknowns _ _ h p q y sh fr m w hb) q821 q824 q822 q842 q834 q835 q130 q836 ⟨by decide, by decide⟩ (show ga_nn' yX9_unknowns 2 from (by unfold ga_nn'; decide +kernel)) ⟨rfl, rfl⟩ ⟨by show 1 + 1 ≤ _; omega, by show 8 + (3 + 11) + 64 * 1 ≤ _; omega⟩ hk hb rfl hs d rfl) ?_
    subst hz
    subst c8
    exact kk
set_option maxRecDepth 100000 in
theorem x_right {X : ga_X} {R : Room} {nL : Nat} {cc : ByteArray} {h : ga_H} {k n pc : Nat} {L : List (Option Value)} {st : List Value} {p q : Nat} {kx kd y sh fr : Int} {t ta tb tc ea eb : Nat} {m w ra ca rb cb i j : Int} {fa fb : Int → Int} {z : Int} (hb : pOn h p kx kd y sh q fr) (ht : h t = some (oE 4 [.int (iI m), .int (iI w), .ref ta, .ref tb, .ref tc])) (hta : h ta = some (oE 5 [.int (iI ra), .int (iI ca), .int (iI 9), .ref ea])) (hea : h ea = some (aL 9 fa)) (htb : h tb = some (oE 5 [.int (iI rb), .int (iI cb), .int (iI 9), .ref eb])) (heb : h eb = some (aL 9 fb)) (h0 : kd = 0 → 0 ≤ cb * i + j ∧ cb * i + j < 9) (h2 : kd = 2 ∨ kd = 4 → 0 ≤ ca * i + j ∧ ca * i + j < 9) (h3 : kd = 3 ∨ 5 ≤ kd → 0 ≤ ca * j + i ∧ ca * j + i < 9) (hz : (zRg kd fa fb ca cb i j) = z) (hR : 4 + 1 ≤ R.frames ∧ 19 + 4 + 64 * 4 ≤ R.locals) (hk : k ≤ R.cells ∧ n ≤ R.slots) (hs : (st.map fun v => v.category).sum ≤ 8) (d : decode cc pc = .ok (.invokevirtual 312, 3)) (kk : G X R RX0 nL cc h k n (pc + 3) L (.long (lI z) :: st)) : G X R RX0 nL cc h k n pc L (.int (iI j) :: .int (iI i) :: .ref t :: .ref p :: st) := by
  obtain ⟨hk8, hkd, hb6, hb7, hb8, hbq⟩ := hb
  by_cases c6 : kx ≤ 6
  · obtain ⟨e6, hb⟩ := hb6 c6
    exact v_right_X0 (kd := kx) hb ⟨hk8.1, c6⟩ ht hta hea htb heb (fun z => h0 (e6.trans z)) (fun z => h2 (by omega)) (fun z => h3 (by omega)) (by rw [← e6]; exact hz) ⟨by omega, by omega⟩ hk hs d kk
  by_cases c7 : kx = 7
  · have hb := hb7 c7
    obtain ⟨y1, sh1, ho⟩ := hbq (by omega)
    refine rm_go (ga_runU (C := RX16) (T := TX16) (N := 3) (owner := "TwoSidedTables$Plain") (x := ⟨"TwoSidedTables$Plain", "right", "(LTwoSidedTables$Tables;II)J"⟩) (m_X16_right_16 _ _ h p q y sh y1 sh1 kd t ta tb tc ea eb m w ra ca rb cb i j fa fb hb ho hkd ht hta hea htb heb h0 h2 h3) q942 q945 q943 q965 q958 q959 q129 q960 ⟨by decide, by decide⟩ (show ga_nn' yX9_right 3 from (by unfold ga_nn'; decide +kernel)) ⟨rfl, rfl⟩ ⟨by show 2 + 1 ≤ _; omega, by show 8 + (4 + 11) + 64 * 2 ≤ _; omega⟩ hk hb rfl hs d rfl) ?_
    subst hz
    subst c7
    exact kk
  · have c8 : kx = 8 := by omega
    have hb := hb8 c8
    obtain ⟨y1, sh1, ho⟩ := hbq (by omega)
    refine rm_go (ga_runU (C := RX17) (T := TX17) (N := 4) (owner := "TwoSidedTables$Plain") (x := ⟨"TwoSidedTables$Plain", "right", "(LTwoSidedTables$Tables;II)J"⟩) (m_X16_right_17 _ _ h p q y sh y1 sh1 kd fr t ta tb tc ea eb m w ra ca rb cb i j fa fb hb ho hkd ht hta hea htb heb h0 h2 h3) q942 q945 q943 q965 q962 q959 q129 q960 ⟨by decide, by decide⟩ (show ga_nn' yX9_right 3 from (by unfold ga_nn'; decide +kernel)) ⟨rfl, rfl⟩ ⟨by show 2 + 1 ≤ _; omega, by show 8 + (4 + 11) + 64 * 2 ≤ _; omega⟩ hk hb rfl hs d rfl) ?_
    subst hz
    subst c8
    exact kk
