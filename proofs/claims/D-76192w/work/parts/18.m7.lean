/-! ELIMINATION without fractions, over rows and columns of whole numbers -/
abbrev eOn (H W w : Int) (f : Int → Int) (T : Int → Int → Int) : Prop := ∀ p q : Int, 0 ≤ p → p < H → 0 ≤ q → q ≤ W → f (w * p + q) = T p q
def eSw (T : Int → Int → Int) (a b : Int) : Int → Int → Int := fun i k => if i = a then T b k else if i = b then T a k else T i k
def eCl (T : Int → Int → Int) (r c d : Int) : Int → Int → Int := fun i k => if i = r then T r k else (T r c * T i k - T i c * T r k).tdiv d
/-- the first row from r on that has something in a column; H: none -/
def zFind (T : Int → Int → Int) (H c : Int) : Nat → Int → Int
  | 0, r => r
  | f + 1, r => if r < H ∧ T r c = 0 then zFind T H c f (r + 1) else r
theorem zFind_t {T : Int → Int → Int} {H c r : Int} (h : r < H ∧ T r c = 0) : zFind T H c (H - r).toNat r = zFind T H c (H - (r + 1)).toNat (r + 1) := by
  rw [show (H - r).toNat = (H - (r + 1)).toNat + 1 by omega]
  show (if r < H ∧ T r c = 0 then _ else _) = _
  rw [if_pos h]
theorem zFind_x {T : Int → Int → Int} {H c r : Int} (h : ¬ (r < H ∧ T r c = 0)) : zFind T H c (H - r).toNat r = r := by
  cases hf : (H - r).toNat with
  | zero => rfl
  | succ f =>
    show (if r < H ∧ T r c = 0 then _ else _) = _
    rw [if_neg h]
theorem zFind_r (T : Int → Int → Int) (H c : Int) : ∀ (f : Nat) (r : Int), r ≤ zFind T H c f r ∧ (r ≤ H → zFind T H c f r ≤ H) := by
  intro f
  induction f with
  | zero => intro r; exact ⟨Int.le_refl _, fun h => h⟩
  | succ f ih =>
    intro r
    unfold zFind
    split
    · have := ih (r + 1)
      exact ⟨by omega, fun _ => this.2 (by omega)⟩
    · exact ⟨Int.le_refl _, fun h => h⟩
theorem zFind_n {T : Int → Int → Int} {H c : Int} : ∀ (f : Nat) (r : Int), H ≤ r + f → zFind T H c f r < H → T (zFind T H c f r) c ≠ 0 := by
  intro f
  induction f with
  | zero => intro r h0 h1; have : r < H := h1; omega
  | succ f ih =>
    intro r h0 h1
    unfold zFind at h1 ⊢
    split at h1
    · rename_i h
      rw [if_pos h]
      exact ih (r + 1) (by omega) h1
    · rename_i h
      rw [if_neg h]
      intro h2
      exact h ⟨h1, h2⟩
/-- rows; how many lead; how many exchanges changed a thing; what all is parted by; which row a column leads -/
abbrev eS : Type := (Int → Int → Int) × Int × Int × Int × (Int → Int)
def eRow (H c : Int) (s : eS) : Int := zFind s.1 H c (H - s.2.1).toNat s.2.1
def eStep (H c : Int) (s : eS) : eS := if eRow H c s = H then (s.1, s.2.1, s.2.2.1, s.2.2.2.1, uZ s.2.2.2.2 c (-1)) else (eCl (eSw s.1 (eRow H c s) s.2.1) s.2.1 c s.2.2.2.1, s.2.1 + 1, s.2.2.1 + (if eRow H c s = s.2.1 then 0 else 1), eSw s.1 (eRow H c s) s.2.1 s.2.1 c, uZ s.2.2.2.2 c s.2.1)
def eRed (H : Int) (T : Int → Int → Int) : Nat → eS
  | 0 => (T, 0, 0, 1, fun _ => -1)
  | c + 1 => eStep H c (eRed H T c)
theorem eRed_s (H : Int) (T : Int → Int → Int) {c : Int} (hc : 0 ≤ c) : eRed H T (c + 1).toNat = eStep H c (eRed H T c.toNat) := by
  rw [show (c + 1).toNat = c.toNat + 1 by omega]
  show eStep H (c.toNat : Nat) _ = _
  rw [show ((c.toNat : Nat) : Int) = c by omega]
theorem eStep_n {H c : Int} {s : eS} (h : eRow H c s = H) : eStep H c s = (s.1, s.2.1, s.2.2.1, s.2.2.2.1, uZ s.2.2.2.2 c (-1)) := if_pos h
theorem eStep_y {H c : Int} {s : eS} (h : eRow H c s ≠ H) : eStep H c s = (eCl (eSw s.1 (eRow H c s) s.2.1) s.2.1 c s.2.2.2.1, s.2.1 + 1, s.2.2.1 + (if eRow H c s = s.2.1 then 0 else 1), eSw s.1 (eRow H c s) s.2.1 s.2.1 c, uZ s.2.2.2.2 c s.2.1) := if_neg h
abbrev z40 (x : Int) : Prop := -1099511627776 < x ∧ x < 1099511627776
abbrev z62 (x : Int) : Prop := -4611686018427387904 < x ∧ x < 4611686018427387904
/-- nothing in the step to come is too great -/
abbrev eFit (H W c : Int) (s : eS) : Prop := (∀ p q : Int, 0 ≤ p → p < H → 0 ≤ q → q ≤ W → z40 (s.1 p q)) ∧ (s.2.2.2.1 ≠ 0 ∧ z40 s.2.2.2.1) ∧ (c < W → eRow H c s < H → ∀ p q : Int, 0 ≤ p → p < H → p ≠ s.2.1 → 0 ≤ q → q ≤ W → z62 (eSw s.1 (eRow H c s) s.2.1 s.2.1 c * eSw s.1 (eRow H c s) s.2.1 p q) ∧ z62 (eSw s.1 (eRow H c s) s.2.1 p c * eSw s.1 (eRow H c s) s.2.1 s.2.1 q))
def eSafe (H W : Int) (T : Int → Int → Int) : Prop := ∀ c : Int, 0 ≤ c → c ≤ W → eFit H W c (eRed H T c.toNat)
theorem eRed_r (H : Int) (T : Int → Int → Int) (hH : 0 ≤ H) : ∀ c : Nat, (0 ≤ (eRed H T c).2.1 ∧ (eRed H T c).2.1 ≤ c ∧ (eRed H T c).2.1 ≤ H) ∧ (0 ≤ (eRed H T c).2.2.1 ∧ (eRed H T c).2.2.1 ≤ c) ∧ ∀ k : Int, -1 ≤ (eRed H T c).2.2.2.2 k ∧ (eRed H T c).2.2.2.2 k < (eRed H T c).2.1 := by
  intro c
  induction c with
  | zero => exact ⟨⟨Int.le_refl _, Int.le_refl _, hH⟩, ⟨Int.le_refl _, Int.le_refl _⟩, fun k => ⟨Int.le_refl _, by show (-1 : Int) < 0; decide⟩⟩
  | succ c ih =>
    have hr := zFind_r (eRed H T c).1 H c (H - (eRed H T c).2.1).toNat (eRed H T c).2.1
    rw [show eRed H T (c + 1) = eStep H c (eRed H T c) from rfl]
    by_cases h : eRow H c (eRed H T c) = H
    · rw [eStep_n h]
      dsimp only
      refine ⟨by omega, by omega, fun k => ?_⟩
      have := ih.2.2 k
      unfold uZ
      split <;> omega
    · rw [eStep_y h]
      unfold eRow at h ⊢
      dsimp only
      refine ⟨by omega, by split <;> omega, fun k => ?_⟩
      have := ih.2.2 k
      unfold uZ
      split <;> omega
theorem eIx {w p q i k : Int} (hw : w = 8 ∨ w = 10 ∨ w = 9) (hq : 0 ≤ q ∧ q < w) (hk : 0 ≤ k ∧ k < w) : w * p + q = w * i + k ↔ p = i ∧ q = k := by
  rcases hw with rfl | rfl | rfl <;> omega
theorem eSw_s {H W w a b k : Int} {f : Int → Int} {T : Int → Int → Int} (hw : w = 8 ∨ w = 10 ∨ w = 9) (hW : W < w) (ha : 0 ≤ a ∧ a < H) (hb : 0 ≤ b ∧ b < H) (hk : 0 ≤ k ∧ k ≤ W) (hf : eOn H W w f (fun p q => if q < k then eSw T a b p q else T p q)) : eOn H W w (uZ (uZ f (w * a + k) (f (w * b + k))) (w * b + k) (f (w * a + k))) (fun p q => if q < k + 1 then eSw T a b p q else T p q) := by
  intro p q p0 p1 q0 q1
  have h1 := hf p q p0 p1 q0 q1
  have h2 := hf a k ha.1 ha.2 hk.1 hk.2
  have h3 := hf b k hb.1 hb.2 hk.1 hk.2
  dsimp only at h1 h2 h3 ⊢
  rw [if_neg (Int.lt_irrefl k)] at h2 h3
  have ia := eIx (p := p) (q := q) (i := a) (k := k) hw (by omega) (by omega)
  have ib := eIx (p := p) (q := q) (i := b) (k := k) hw (by omega) (by omega)
  unfold uZ
  rw [h2, h3]
  by_cases e1 : q = k
  · subst e1
    rw [if_neg (Int.lt_irrefl q)] at h1
    have r1 : (if q < q + 1 then eSw T a b p q else T p q) = eSw T a b p q := if_pos (by omega)
    rw [r1]
    unfold eSw
    by_cases e2 : p = b
    · rw [if_pos (ib.mpr ⟨e2, rfl⟩)]
      by_cases e3 : p = a
      · rw [if_pos e3, ← e3, e2]
      · rw [if_neg e3, if_pos e2]
    · rw [if_neg (fun z => e2 (ib.mp z).1)]
      by_cases e3 : p = a
      · rw [if_pos (ia.mpr ⟨e3, rfl⟩), if_pos e3]
      · rw [if_neg (fun z => e3 (ia.mp z).1), if_neg e3, if_neg e2, h1]
  · rw [if_neg (fun z => e1 (ib.mp z).2), if_neg (fun z => e1 (ia.mp z).2), h1]
    by_cases e2 : q < k
    · rw [if_pos e2, if_pos (by omega)]
    · rw [if_neg e2, if_neg (by omega)]
theorem eCl_s {H W w r c d i k : Int} {f : Int → Int} {T : Int → Int → Int} (hw : w = 8 ∨ w = 10 ∨ w = 9) (hW : W < w) (hi : 0 ≤ i ∧ i < H ∧ i ≠ r) (hk : 0 ≤ k ∧ k ≤ W) (hf : eOn H W w f (fun p q => if p < i ∨ (p = i ∧ q < k) then eCl T r c d p q else T p q)) : eOn H W w (uZ f (w * i + k) ((T r c * T i k - T i c * T r k).tdiv d)) (fun p q => if p < i ∨ (p = i ∧ q < k + 1) then eCl T r c d p q else T p q) := by
  intro p q p0 p1 q0 q1
  have h1 := hf p q p0 p1 q0 q1
  dsimp only at h1 ⊢
  have ia := eIx (p := p) (q := q) (i := i) (k := k) hw (by omega) (by omega)
  unfold uZ
  by_cases e1 : p = i ∧ q = k
  · rw [if_pos (ia.mpr e1), if_pos (by omega), e1.1, e1.2]
    unfold eCl
    rw [if_neg hi.2.2]
  · rw [if_neg (fun z => e1 (ia.mp z)), h1]
    by_cases e2 : p < i ∨ (p = i ∧ q < k)
    · rw [if_pos e2, if_pos (by omega)]
    · rw [if_neg e2, if_neg (by omega)]
set_option maxHeartbeats 4000000 in
set_option maxRecDepth 100000 in
theorem m_X8_swaps (l : Launch) (D : ga_G) (mo : Nat) (ad : Nat → Nat) (I : Nat → Int) (A : Nat → Int → Int) (a b : Int) (T : Int → Int → Int) (hsz : (0 ≤ I 26 ∧ I 26 ≤ 9) ∧ 0 ≤ I 27 ∧ I 27 ≤ 7) (h1 : (0 ≤ a ∧ a < I 26) ∧ 0 ≤ b ∧ b < I 26) (hT : eOn (I 26) (I 27) 8 (A 23) T) : mM l D yX8_swaps (ws_ yX8_swaps cX8_swaps 6 none) (gR 0) [.int (iI a), .int (iI b)] mo ad I A (mV (fun I1 A1 => I1 = uN I 29 (I 29 + if a = b then 0 else 1) ∧ ∃ f, A1 = uN A 23 f ∧ eOn (I 26) (I 27) 8 f (eSw T a b))) := by
  refine mm_met 3 rfl (Nat.le_of_ble_eq_true rfl) (L0 := [some (.ref mo), some (.int (iI a)), some (.int (iI b)), none, none, none]) rfl (fun X ok hE => ?_)
  have jn15 : ∀ (x : Int), (x = if a = b then 0 else 1) → G X (gR 0) RX8 6 cX8_swaps (mH mo ad I A) 0 0 15 [some (.ref mo), some (.int (iI a)), some (.int (iI b)), none, none, none] [.int (iI x), .int (iI (I 29)), .ref mo] := by
    intro x hx
    refine ga_iadd (pc := 15) dX8_swaps_15 ?_
    refine mm_p29 (pc := 16) (I1 := (uN I 29 ((I 29) + x))) (rfl) dX8_swaps_16 ?_
    refine ga_iconst (pc := 19) dX8_swaps_19 ?_
    refine ga_istore_n (pc := 20) (L1 := [some (.ref mo), some (.int (iI a)), some (.int (iI b)), some (.int (iI 0)), none, none]) dX8_swaps_20 rfl (by decide) rfl ?_
    refine ga_heq (pc := 21) (h1 := mH mo ad (uN I 29 (I 29 + x)) (uN A 23 (A 23))) (congr (congrArg (mH mo ad) (by funext j; by_cases e0 : j = 29; (subst e0; rfl); simp only [uN, if_neg e0])) (by funext j; by_cases e0 : j = 23; (subst e0; exact (show (A 23) = (A 23) from rfl)); simp only [uN, if_neg e0])) ?_
    have lp21 : ∀ (N21 : Nat) (k : Int) (f : Int → Int), (0 ≤ k ∧ k ≤ I 27 + 1) → (eOn (I 26) (I 27) 8 f (fun p q => if q < k then eSw T a b p q else T p q)) → (I 27 + 1 - k).toNat < N21 → G X (gR 0) RX8 6 cX8_swaps (mH mo ad (uN I 29 (I 29 + x)) (uN A 23 f)) 0 0 21 [some (.ref mo), some (.int (iI a)), some (.int (iI b)), some (.int (iI k)), none, none] [] := by
      intro N21
      induction N21 with
      | zero => intro k f hk hf hN21; exact absurd hN21 (Nat.not_lt_zero _)
      | succ N21 ih21 =>
        intro k f hk hf hN21
        refine ga_iload_n (pc := 21) dX8_swaps_21 rfl ?_
        refine ga_aload_n (pc := 22) dX8_swaps_22 rfl ?_
        refine mm_g27 (pc := 23) (z := I 27) rfl dX8_swaps_23 ?_
        refine ga_icmp_gt (pc := 26) (tgt := 83) dX8_swaps_26 rfl (by omega) (by omega) (fun c26 => ?_) (fun c26 => ?_)
        · skip
          exact mm_vret hE dX8_swaps_83 (⟨rfl, by dsimp only; (obtain rfl : k = I 27 + 1 := by omega); exact ⟨by rw [hx], f, rfl, fun p q p0 p1 q0 q1 => (hf p q p0 p1 q0 q1).trans (if_pos (by omega))⟩⟩)
        · skip
          refine ga_aload_n (pc := 29) dX8_swaps_29 rfl ?_
          refine mm_g23 (pc := 30) dX8_swaps_30 ?_
          refine ga_bipush (pc := 33) dX8_swaps_33 rfl ?_
          refine ga_iload_n (pc := 35) dX8_swaps_35 rfl ?_
          refine ga_imul (pc := 36) dX8_swaps_36 ?_
          refine ga_iload_n (pc := 37) dX8_swaps_37 rfl ?_
          refine ga_iadd (pc := 38) dX8_swaps_38 ?_
          refine mm_ald23 (pc := 39) (x := f ((8 * a) + k)) ok (by omega) (rfl) dX8_swaps_39 ?_
          refine ga_lstore (pc := 40) (L1 := [some (.ref mo), some (.int (iI a)), some (.int (iI b)), some (.int (iI k)), some (.long (lI (f ((8 * a) + k)))), none]) dX8_swaps_40 rfl (by decide) rfl ?_
          refine ga_aload_n (pc := 42) dX8_swaps_42 rfl ?_
          refine mm_g23 (pc := 43) dX8_swaps_43 ?_
          refine ga_bipush (pc := 46) dX8_swaps_46 rfl ?_
          refine ga_iload_n (pc := 48) dX8_swaps_48 rfl ?_
          refine ga_imul (pc := 49) dX8_swaps_49 ?_
          refine ga_iload_n (pc := 50) dX8_swaps_50 rfl ?_
          refine ga_iadd (pc := 51) dX8_swaps_51 ?_
          refine ga_aload_n (pc := 52) dX8_swaps_52 rfl ?_
          refine mm_g23 (pc := 53) dX8_swaps_53 ?_
          refine ga_bipush (pc := 56) dX8_swaps_56 rfl ?_
          refine ga_iload_n (pc := 58) dX8_swaps_58 rfl ?_
          refine ga_imul (pc := 59) dX8_swaps_59 ?_
          refine ga_iload_n (pc := 60) dX8_swaps_60 rfl ?_
          refine ga_iadd (pc := 61) dX8_swaps_61 ?_
          refine mm_ald23 (pc := 62) (x := f ((8 * b) + k)) ok (by omega) (rfl) dX8_swaps_62 ?_
          refine mm_ast23 (pc := 63) (f := f) (A1 := (uN A 23 (uZ f ((8 * a) + k) (f ((8 * b) + k))))) ok (by omega) rfl (by funext j; by_cases e0 : j = 23; (subst e0; rfl); simp only [uN, if_neg e0]) dX8_swaps_63 ?_
          refine ga_aload_n (pc := 64) dX8_swaps_64 rfl ?_
          refine mm_g23 (pc := 65) dX8_swaps_65 ?_
          refine ga_bipush (pc := 68) dX8_swaps_68 rfl ?_
          refine ga_iload_n (pc := 70) dX8_swaps_70 rfl ?_
          refine ga_imul (pc := 71) dX8_swaps_71 ?_
          refine ga_iload_n (pc := 72) dX8_swaps_72 rfl ?_
          refine ga_iadd (pc := 73) dX8_swaps_73 ?_
          refine ga_lload (pc := 74) dX8_swaps_74 rfl ?_
          refine mm_ast23 (pc := 76) (f := (uZ f ((8 * a) + k) (f ((8 * b) + k)))) (A1 := (uN A 23 (uZ (uZ f ((8 * a) + k) (f ((8 * b) + k))) ((8 * b) + k) (f ((8 * a) + k))))) ok (by omega) rfl (by funext j; by_cases e0 : j = 23; (subst e0; rfl); simp only [uN, if_neg e0]) dX8_swaps_76 ?_
          refine ga_iinc (pc := 77) (L1 := [some (.ref mo), some (.int (iI a)), some (.int (iI b)), some (.int (iI (k + 1))), some (.long (lI (f ((8 * a) + k)))), none]) dX8_swaps_77 rfl rfl (by decide) rfl ?_
          refine ga_goto (pc := 80) (tgt := 21) dX8_swaps_80 rfl ?_
          refine ga_kill (pc := 21) 4 (L1 := [some (.ref mo), some (.int (iI a)), some (.int (iI b)), some (.int (iI (k + 1))), none, none]) rfl ?_
          exact ih21 (k + 1) (uZ (uZ f ((8 * a) + k) (f ((8 * b) + k))) ((8 * b) + k) (f ((8 * a) + k))) (by omega) (eSw_s (w := 8) (Or.inl rfl) (by omega) h1.1 h1.2 (by omega) hf) (by omega)
    exact lp21 _ 0 (A 23) (by omega) (fun p q p0 p1 q0 q1 => (hT p q p0 p1 q0 q1).trans (if_neg (by omega)).symm) (Nat.lt_succ_self _)
  refine ga_aload_n (pc := 0) dX8_swaps_0 rfl ?_
  refine ga_dup (pc := 1) dX8_swaps_1 rfl ?_
  refine mm_g29 (pc := 2) (z := I 29) rfl dX8_swaps_2 ?_
  refine ga_iload_n (pc := 5) dX8_swaps_5 rfl ?_
  refine ga_iload_n (pc := 6) dX8_swaps_6 rfl ?_
  refine ga_icmp_ne (pc := 7) (tgt := 14) dX8_swaps_7 rfl (by omega) (by omega) (fun c7 => ?_) (fun c7 => ?_)
  · skip
    refine ga_iconst (pc := 14) dX8_swaps_14 ?_
    exact jn15 1 (by first | rw [if_pos (by omega)] | rw [if_neg (by omega)])
  · skip
    refine ga_iconst (pc := 10) dX8_swaps_10 ?_
    refine ga_goto (pc := 11) (tgt := 15) dX8_swaps_11 rfl ?_
    exact jn15 0 (by first | rw [if_pos (by omega)] | rw [if_neg (by omega)])
theorem k_X8_swaps {X : ga_X} {nL : Nat} {cc : ByteArray} {mo : Nat} {ad : Nat → Nat} {I : Nat → Int} {A : Nat → Int → Int} {d pc : Nat} {L : List (Option Value)} {st : List Value} {a b : Int} {T : Int → Int → Int}  (ok : mOk mo ad) (hsz : (0 ≤ I 26 ∧ I 26 ≤ 9) ∧ 0 ≤ I 27 ∧ I 27 ≤ 7) (h1 : (0 ≤ a ∧ a < I 26) ∧ 0 ≤ b ∧ b < I 26) (hT : eOn (I 26) (I 27) 8 (A 23) T)  (hR : 0 + 1 ≤ d ∧ 19 + 6 + 64 * 0 ≤ 64 * d) (hs : (st.map fun v => v.category).sum ≤ 8) (dd : decode cc pc = .ok (.invokevirtual 242, 3)) (kk : ∀ (I1 : Nat → Int) (A1 : Nat → Int → Int), (I1 = uN I 29 (I 29 + if a = b then 0 else 1) ∧ ∃ f, A1 = uN A 23 f ∧ eOn (I 26) (I 27) 8 f (eSw T a b)) → G X (gR d) RX8 nL cc (mH mo ad I1 A1) 0 0 (pc + 3) L st) : G X (gR d) RX8 nL cc (mH mo ad I A) 0 0 pc L (.int (iI b) :: .int (iI a) :: .ref mo :: st) :=
  mm_run ok (m_X8_swaps _ _ mo ad I A a b T hsz h1 hT) (lw_V q1901 q1903 qs71 q113 q1904) rfl (show ga_nn' yX8_swaps 2 from (by unfold ga_nn'; decide +kernel)) hR hs dd rfl (fun v I1 A1 hp => by
    obtain ⟨rfl, hp⟩ := hp
    exact kk I1 A1 hp)
set_option maxHeartbeats 4000000 in
set_option maxRecDepth 100000 in
theorem m_X8_clears (l : Launch) (D : ga_G) (mo : Nat) (ad : Nat → Nat) (I : Nat → Int) (A : Nat → Int → Int) (r c : Int) (T : Int → Int → Int) (hsz : (0 ≤ I 26 ∧ I 26 ≤ 9) ∧ 0 ≤ I 27 ∧ I 27 ≤ 7) (h1 : (0 ≤ r ∧ r < I 26) ∧ 0 ≤ c ∧ c ≤ I 27) (hd : I 30 ≠ 0 ∧ z40 (I 30)) (hT : eOn (I 26) (I 27) 8 (A 23) T) (hpr : ∀ p q : Int, 0 ≤ p → p < I 26 → p ≠ r → 0 ≤ q → q ≤ I 27 → z62 (T r c * T p q) ∧ z62 (T p c * T r q)) : mM l D yX8_clears (ws_ yX8_clears cX8_clears 9 none) (gR 0) [.int (iI r), .int (iI c)] mo ad I A (mV (fun I1 A1 => I1 = uN I 30 (T r c) ∧ ∃ f, A1 = uN A 23 f ∧ eOn (I 26) (I 27) 8 f (eCl T r c (I 30)))) := by
  refine mm_met 6 rfl (Nat.le_of_ble_eq_true rfl) (L0 := [some (.ref mo), some (.int (iI r)), some (.int (iI c)), none, none, none, none, none, none]) rfl (fun X ok hE => ?_)
  refine ga_aload_n (pc := 0) dX8_clears_0 rfl ?_
  refine mm_g23 (pc := 1) dX8_clears_1 ?_
  refine ga_bipush (pc := 4) dX8_clears_4 rfl ?_
  refine ga_iload_n (pc := 6) dX8_clears_6 rfl ?_
  refine ga_imul (pc := 7) dX8_clears_7 ?_
  refine ga_iload_n (pc := 8) dX8_clears_8 rfl ?_
  refine ga_iadd (pc := 9) dX8_clears_9 ?_
  refine mm_ald23 (pc := 10) (x := T r c) ok (by omega) (hT r c (by omega) (by omega) (by omega) (by omega)) dX8_clears_10 ?_
  refine ga_lstore_n (pc := 11) (L1 := [some (.ref mo), some (.int (iI r)), some (.int (iI c)), some (.long (lI (T r c))), none, none, none, none, none]) dX8_clears_11 rfl (by decide) rfl ?_
  refine ga_iconst (pc := 12) dX8_clears_12 ?_
  refine ga_istore (pc := 13) (L1 := [some (.ref mo), some (.int (iI r)), some (.int (iI c)), some (.long (lI (T r c))), none, some (.int (iI 0)), none, none, none]) dX8_clears_13 rfl (by decide) rfl ?_
  refine ga_heq (pc := 15) (h1 := mH mo ad I (uN A 23 (A 23))) (congr (congrArg (mH mo ad) (rfl)) (by funext j; by_cases e0 : j = 23; (subst e0; exact (show (A 23) = (A 23) from rfl)); simp only [uN, if_neg e0])) ?_
  have lp15 : ∀ (N15 : Nat) (i : Int) (f : Int → Int), (0 ≤ i ∧ i ≤ I 26) → (eOn (I 26) (I 27) 8 f (fun p q => if p < i then eCl T r c (I 30) p q else T p q)) → (I 26 - i).toNat < N15 → G X (gR 0) RX8 9 cX8_clears (mH mo ad I (uN A 23 f)) 0 0 15 [some (.ref mo), some (.int (iI r)), some (.int (iI c)), some (.long (lI (T r c))), none, some (.int (iI i)), none, none, none] [] := by
    intro N15
    induction N15 with
    | zero => intro i f hi hf hN15; exact absurd hN15 (Nat.not_lt_zero _)
    | succ N15 ih15 =>
      intro i f hi hf hN15
      refine ga_iload (pc := 15) dX8_clears_15 rfl ?_
      refine ga_aload_n (pc := 17) dX8_clears_17 rfl ?_
      refine mm_g26 (pc := 18) (z := I 26) rfl dX8_clears_18 ?_
      refine ga_icmp_ge (pc := 21) (tgt := 120) dX8_clears_21 rfl (by omega) (by omega) (fun c21 => ?_) (fun c21 => ?_)
      · skip
        refine ga_aload_n (pc := 120) dX8_clears_120 rfl ?_
        refine ga_lload_n (pc := 121) dX8_clears_121 rfl ?_
        refine mm_p30 (pc := 122) (I1 := (uN I 30 (T r c))) (rfl) dX8_clears_122 ?_
        exact mm_vret hE dX8_clears_125 (⟨rfl, by dsimp only; (obtain rfl : i = I 26 := by omega); exact ⟨rfl, f, rfl, fun p q p0 p1 q0 q1 => (hf p q p0 p1 q0 q1).trans (if_pos (by omega))⟩⟩)
      · skip
        have jn114 : ∀ (f2 : Int → Int), (eOn (I 26) (I 27) 8 f2 (fun p q => if p < i + 1 then eCl T r c (I 30) p q else T p q)) → G X (gR 0) RX8 9 cX8_clears (mH mo ad I (uN A 23 f2)) 0 0 114 [some (.ref mo), some (.int (iI r)), some (.int (iI c)), some (.long (lI (T r c))), none, some (.int (iI i)), none, none, none] [] := by
          intro f2 hf2
          refine ga_iinc (pc := 114) (L1 := [some (.ref mo), some (.int (iI r)), some (.int (iI c)), some (.long (lI (T r c))), none, some (.int (iI (i + 1))), none, none, none]) dX8_clears_114 rfl rfl (by decide) rfl ?_
          refine ga_goto (pc := 117) (tgt := 15) dX8_clears_117 rfl ?_
          exact ih15 (i + 1) f2 (by omega) (by omega) (by omega)
        refine ga_iload (pc := 24) dX8_clears_24 rfl ?_
        refine ga_iload_n (pc := 26) dX8_clears_26 rfl ?_
        refine ga_icmp_ne (pc := 27) (tgt := 33) dX8_clears_27 rfl (by omega) (by omega) (fun c27 => ?_) (fun c27 => ?_)
        · skip
          refine ga_aload_n (pc := 33) dX8_clears_33 rfl ?_
          refine mm_g23 (pc := 34) dX8_clears_34 ?_
          refine ga_bipush (pc := 37) dX8_clears_37 rfl ?_
          refine ga_iload (pc := 39) dX8_clears_39 rfl ?_
          refine ga_imul (pc := 41) dX8_clears_41 ?_
          refine ga_iload_n (pc := 42) dX8_clears_42 rfl ?_
          refine ga_iadd (pc := 43) dX8_clears_43 ?_
          refine mm_ald23 (pc := 44) (x := T i c) ok (by omega) ((hf i c (by omega) (by omega) (by omega) (by omega)).trans (if_neg (by omega))) dX8_clears_44 ?_
          refine ga_lstore (pc := 45) (L1 := [some (.ref mo), some (.int (iI r)), some (.int (iI c)), some (.long (lI (T r c))), none, some (.int (iI i)), some (.long (lI (T i c))), none, none]) dX8_clears_45 rfl (by decide) rfl ?_
          refine ga_iconst (pc := 47) dX8_clears_47 ?_
          refine ga_istore (pc := 48) (L1 := [some (.ref mo), some (.int (iI r)), some (.int (iI c)), some (.long (lI (T r c))), none, some (.int (iI i)), some (.long (lI (T i c))), none, some (.int (iI 0))]) dX8_clears_48 rfl (by decide) rfl ?_
          have lp50 : ∀ (N50 : Nat) (k : Int) (g : Int → Int), (0 ≤ k ∧ k ≤ I 27 + 1) → (eOn (I 26) (I 27) 8 g (fun p q => if p < i ∨ (p = i ∧ q < k) then eCl T r c (I 30) p q else T p q)) → (I 27 + 1 - k).toNat < N50 → G X (gR 0) RX8 9 cX8_clears (mH mo ad I (uN A 23 g)) 0 0 50 [some (.ref mo), some (.int (iI r)), some (.int (iI c)), some (.long (lI (T r c))), none, some (.int (iI i)), some (.long (lI (T i c))), none, some (.int (iI k))] [] := by
            intro N50
            induction N50 with
            | zero => intro k g hk hg hN50; exact absurd hN50 (Nat.not_lt_zero _)
            | succ N50 ih50 =>
              intro k g hk hg hN50
              refine ga_iload (pc := 50) dX8_clears_50 rfl ?_
              refine ga_aload_n (pc := 52) dX8_clears_52 rfl ?_
              refine mm_g27 (pc := 53) (z := I 27) rfl dX8_clears_53 ?_
              refine ga_icmp_gt (pc := 56) (tgt := 114) dX8_clears_56 rfl (by omega) (by omega) (fun c56 => ?_) (fun c56 => ?_)
              · skip
                refine ga_kill (pc := 114) 6 (L1 := [some (.ref mo), some (.int (iI r)), some (.int (iI c)), some (.long (lI (T r c))), none, some (.int (iI i)), none, none, some (.int (iI k))]) rfl ?_
                refine ga_kill (pc := 114) 8 (L1 := [some (.ref mo), some (.int (iI r)), some (.int (iI c)), some (.long (lI (T r c))), none, some (.int (iI i)), none, none, none]) rfl ?_
                exact jn114 g (fun p q p0 p1 q0 q1 => (hg p q p0 p1 q0 q1).trans (by dsimp only; by_cases e : p < i + 1; (rw [if_pos e, if_pos (by omega)]); rw [if_neg e, if_neg (by omega)]))
              · skip
                refine ga_aload_n (pc := 59) dX8_clears_59 rfl ?_
                refine mm_g23 (pc := 60) dX8_clears_60 ?_
                refine ga_bipush (pc := 63) dX8_clears_63 rfl ?_
                refine ga_iload (pc := 65) dX8_clears_65 rfl ?_
                refine ga_imul (pc := 67) dX8_clears_67 ?_
                refine ga_iload (pc := 68) dX8_clears_68 rfl ?_
                refine ga_iadd (pc := 70) dX8_clears_70 ?_
                refine ga_lload_n (pc := 71) dX8_clears_71 rfl ?_
                refine ga_aload_n (pc := 72) dX8_clears_72 rfl ?_
                refine mm_g23 (pc := 73) dX8_clears_73 ?_
                refine ga_bipush (pc := 76) dX8_clears_76 rfl ?_
                refine ga_iload (pc := 78) dX8_clears_78 rfl ?_
                refine ga_imul (pc := 80) dX8_clears_80 ?_
                refine ga_iload (pc := 81) dX8_clears_81 rfl ?_
                refine ga_iadd (pc := 83) dX8_clears_83 ?_
                refine mm_ald23 (pc := 84) (x := T i k) ok (by omega) ((hg i k (by omega) (by omega) (by omega) (by omega)).trans (if_neg (by omega))) dX8_clears_84 ?_
                refine ga_lmul (pc := 85) dX8_clears_85 ?_
                refine ga_lload (pc := 86) dX8_clears_86 rfl ?_
                refine ga_aload_n (pc := 88) dX8_clears_88 rfl ?_
                refine mm_g23 (pc := 89) dX8_clears_89 ?_
                refine ga_bipush (pc := 92) dX8_clears_92 rfl ?_
                refine ga_iload_n (pc := 94) dX8_clears_94 rfl ?_
                refine ga_imul (pc := 95) dX8_clears_95 ?_
                refine ga_iload (pc := 96) dX8_clears_96 rfl ?_
                refine ga_iadd (pc := 98) dX8_clears_98 ?_
                refine mm_ald23 (pc := 99) (x := T r k) ok (by omega) ((hg r k (by omega) (by omega) (by omega) (by omega)).trans (by dsimp only; split; (unfold eCl; rw [if_pos rfl]); rfl)) dX8_clears_99 ?_
                refine ga_lmul (pc := 100) dX8_clears_100 ?_
                refine ga_lsub (pc := 101) dX8_clears_101 ?_
                refine ga_aload_n (pc := 102) dX8_clears_102 rfl ?_
                refine mm_g30 (pc := 103) (z := I 30) rfl dX8_clears_103 ?_
                have hs1 := hpr i k (by omega) (by omega) (by omega) (by omega) (by omega)
                refine ga_ldiv (pc := 106) dX8_clears_106 (by omega) (by omega) (by omega) ?_
                refine mm_ast23 (pc := 107) (f := g) (A1 := (uN A 23 (uZ g ((8 * i) + k) ((((T r c) * (T i k)) - ((T i c) * (T r k))).tdiv (I 30))))) ok (by omega) rfl (by funext j; by_cases e0 : j = 23; (subst e0; rfl); simp only [uN, if_neg e0]) dX8_clears_107 ?_
                refine ga_iinc (pc := 108) (L1 := [some (.ref mo), some (.int (iI r)), some (.int (iI c)), some (.long (lI (T r c))), none, some (.int (iI i)), some (.long (lI (T i c))), none, some (.int (iI (k + 1)))]) dX8_clears_108 rfl rfl (by decide) rfl ?_
                refine ga_goto (pc := 111) (tgt := 50) dX8_clears_111 rfl ?_
                exact ih50 (k + 1) (uZ g ((8 * i) + k) ((((T r c) * (T i k)) - ((T i c) * (T r k))).tdiv (I 30))) (by omega) (eCl_s (w := 8) (Or.inl rfl) (by omega) (by omega) (by omega) hg) (by omega)
          exact lp50 _ 0 f (by omega) (fun p q p0 p1 q0 q1 => (hf p q p0 p1 q0 q1).trans (by dsimp only; by_cases e : p < i; (rw [if_pos e, if_pos (Or.inl e)]); rw [if_neg e, if_neg (by omega)])) (Nat.lt_succ_self _)
        · skip
          refine ga_goto (pc := 30) (tgt := 114) dX8_clears_30 rfl ?_
          exact jn114 f (fun p q p0 p1 q0 q1 => (hf p q p0 p1 q0 q1).trans (by dsimp only; by_cases e : p < i; (rw [if_pos e, if_pos (by omega)]); rw [if_neg e]; by_cases e2 : p = i; (rw [if_pos (by omega)]; unfold eCl; rw [if_pos (by omega), show p = r by omega]); rw [if_neg (by omega)]))
  exact lp15 _ 0 (A 23) (by omega) (fun p q p0 p1 q0 q1 => (hT p q p0 p1 q0 q1).trans (if_neg (by omega)).symm) (Nat.lt_succ_self _)
theorem k_X8_clears {X : ga_X} {nL : Nat} {cc : ByteArray} {mo : Nat} {ad : Nat → Nat} {I : Nat → Int} {A : Nat → Int → Int} {d pc : Nat} {L : List (Option Value)} {st : List Value} {r c : Int} {T : Int → Int → Int}  (ok : mOk mo ad) (hsz : (0 ≤ I 26 ∧ I 26 ≤ 9) ∧ 0 ≤ I 27 ∧ I 27 ≤ 7) (h1 : (0 ≤ r ∧ r < I 26) ∧ 0 ≤ c ∧ c ≤ I 27) (hd : I 30 ≠ 0 ∧ z40 (I 30)) (hT : eOn (I 26) (I 27) 8 (A 23) T) (hpr : ∀ p q : Int, 0 ≤ p → p < I 26 → p ≠ r → 0 ≤ q → q ≤ I 27 → z62 (T r c * T p q) ∧ z62 (T p c * T r q))  (hR : 0 + 1 ≤ d ∧ 19 + 9 + 64 * 0 ≤ 64 * d) (hs : (st.map fun v => v.category).sum ≤ 8) (dd : decode cc pc = .ok (.invokevirtual 246, 3)) (kk : ∀ (I1 : Nat → Int) (A1 : Nat → Int → Int), (I1 = uN I 30 (T r c) ∧ ∃ f, A1 = uN A 23 f ∧ eOn (I 26) (I 27) 8 f (eCl T r c (I 30))) → G X (gR d) RX8 nL cc (mH mo ad I1 A1) 0 0 (pc + 3) L st) : G X (gR d) RX8 nL cc (mH mo ad I A) 0 0 pc L (.int (iI c) :: .int (iI r) :: .ref mo :: st) :=
  mm_run ok (m_X8_clears _ _ mo ad I A r c T hsz h1 hd hT hpr) (lw_V q1905 q1907 qs72 q113 q1908) rfl (show ga_nn' yX8_clears 2 from (by unfold ga_nn'; decide +kernel)) hR hs dd rfl (fun v I1 A1 hp => by
    obtain ⟨rfl, hp⟩ := hp
    exact kk I1 A1 hp)
set_option maxHeartbeats 4000000 in
set_option maxRecDepth 100000 in
theorem m_X8_works (l : Launch) (D : ga_G) (mo : Nat) (ad : Nat → Nat) (I : Nat → Int) (A : Nat → Int → Int) (T : Int → Int → Int) (hsz : (0 ≤ I 26 ∧ I 26 ≤ 9) ∧ 0 ≤ I 27 ∧ I 27 ≤ 7) (hT : eOn (I 26) (I 27) 8 (A 23) T) (hsf : eSafe (I 26) (I 27) T) : mM l D yX8_works (ws_ yX8_works cX8_works 3 none) (gR 1) [] mo ad I A (mV (fun I1 A1 => I1 = uN (uN (uN I 28 (eRed (I 26) T (I 27).toNat).2.1) 29 (eRed (I 26) T (I 27).toNat).2.2.1) 30 (eRed (I 26) T (I 27).toNat).2.2.2.1 ∧ ∃ f l g, A1 = uN (uN (uN A 23 f) 24 l) 25 g ∧ eOn (I 26) (I 27) 8 f (eRed (I 26) T (I 27).toNat).1 ∧ ∀ k : Int, 0 ≤ k → k < I 27 → g k = (eRed (I 26) T (I 27).toNat).2.2.2.2 k)) := by
  refine mm_met 2 rfl (Nat.le_of_ble_eq_true rfl) (L0 := [some (.ref mo), none, none]) rfl (fun X ok hE => ?_)
  refine ga_aload_n (pc := 0) dX8_works_0 rfl ?_
  refine ga_iconst (pc := 1) dX8_works_1 ?_
  refine mm_p28 (pc := 2) (I1 := (uN I 28 0)) (rfl) dX8_works_2 ?_
  refine ga_aload_n (pc := 5) dX8_works_5 rfl ?_
  refine ga_iconst (pc := 6) dX8_works_6 ?_
  refine mm_p29 (pc := 7) (I1 := (uN (uN I 28 0) 29 0)) (rfl) dX8_works_7 ?_
  refine ga_aload_n (pc := 10) dX8_works_10 rfl ?_
  refine ga_lconst (pc := 11) 1 dX8_works_11 rfl ?_
  refine mm_p30 (pc := 12) (I1 := (uN (uN (uN I 28 0) 29 0) 30 1)) (rfl) dX8_works_12 ?_
  refine ga_iconst (pc := 15) dX8_works_15 ?_
  refine ga_istore_n (pc := 16) (L1 := [some (.ref mo), some (.int (iI 0)), none]) dX8_works_16 rfl (by decide) rfl ?_
  refine ga_heq (pc := 17) (h1 := mH mo ad (uN (uN (uN I 28 0) 29 0) 30 1) (uN (uN (uN A 23 (A 23)) 24 (A 24)) 25 (A 25))) (congr (congrArg (mH mo ad) (rfl)) (by funext j; by_cases e0 : j = 23; (subst e0; exact (show (A 23) = (A 23) from rfl)); by_cases e1 : j = 24; (subst e1; exact (show (A 24) = (A 24) from rfl)); by_cases e2 : j = 25; (subst e2; exact (show (A 25) = (A 25) from rfl)); simp only [uN, if_neg e0, if_neg e1, if_neg e2])) ?_
  have lp17 : ∀ (N17 : Nat) (c rk ch dd : Int) (f l g : Int → Int), (0 ≤ c ∧ c ≤ I 27) → (rk = (eRed (I 26) T c.toNat).2.1 ∧ ch = (eRed (I 26) T c.toNat).2.2.1 ∧ dd = (eRed (I 26) T c.toNat).2.2.2.1) → (eOn (I 26) (I 27) 8 f (eRed (I 26) T c.toNat).1) → (∀ k : Int, 0 ≤ k → k < c → g k = (eRed (I 26) T c.toNat).2.2.2.2 k) → (I 27 - c).toNat < N17 → G X (gR 1) RX8 3 cX8_works (mH mo ad (uN (uN (uN I 28 rk) 29 ch) 30 dd) (uN (uN (uN A 23 f) 24 l) 25 g)) 0 0 17 [some (.ref mo), some (.int (iI c)), none] [] := by
    intro N17
    induction N17 with
    | zero => intro c rk ch dd f l g hc hr hf hg hN17; exact absurd hN17 (Nat.not_lt_zero _)
    | succ N17 ih17 =>
      intro c rk ch dd f l g hc hr hf hg hN17
      have hrr := (eRed_r (I 26) T hsz.1.1 c.toNat)
      rw [← hr.1, ← hr.2.1] at hrr
      have hcN : ((c.toNat : Nat) : Int) = c := by omega
      have hsc := hsf c hc.1 hc.2
      refine ga_iload_n (pc := 17) dX8_works_17 rfl ?_
      refine ga_aload_n (pc := 18) dX8_works_18 rfl ?_
      refine mm_g27 (pc := 19) (z := I 27) rfl dX8_works_19 ?_
      refine ga_icmp_ge (pc := 22) (tgt := 137) dX8_works_22 rfl (by omega) (by omega) (fun c22 => ?_) (fun c22 => ?_)
      · skip
        exact mm_vret hE dX8_works_137 (⟨rfl, by dsimp only; (obtain rfl : c = I 27 := by omega); exact ⟨by rw [← hr.1, ← hr.2.1, ← hr.2.2], f, l, g, rfl, hf, hg⟩⟩)
      · skip
        refine ga_aload_n (pc := 25) dX8_works_25 rfl ?_
        refine mm_g28 (pc := 26) (z := rk) rfl dX8_works_26 ?_
        refine ga_istore_n (pc := 29) (L1 := [some (.ref mo), some (.int (iI c)), some (.int (iI rk))]) dX8_works_29 rfl (by decide) rfl ?_
        have jn60 : ∀ (row : Int), (rk ≤ row ∧ row ≤ I 26) → (row = eRow (I 26) c (eRed (I 26) T c.toNat)) → G X (gR 1) RX8 3 cX8_works (mH mo ad (uN (uN (uN I 28 rk) 29 ch) 30 dd) (uN (uN (uN A 23 f) 24 l) 25 g)) 0 0 60 [some (.ref mo), some (.int (iI c)), some (.int (iI row))] [] := by
          intro row hrow hE0
          have jn81 : ∀ (x : Int), (x = if row < I 26 then rk else -1) → G X (gR 1) RX8 3 cX8_works (mH mo ad (uN (uN (uN I 28 rk) 29 ch) 30 dd) (uN (uN (uN A 23 f) 24 l) 25 g)) 0 0 81 [some (.ref mo), some (.int (iI c)), some (.int (iI row))] [.int (iI x), .int (iI c), .ref (ad 25)] := by
            intro x hx
            refine mm_ast25 (pc := 81) (f := g) (A1 := (uN (uN (uN A 23 f) 24 l) 25 (uZ g c x))) ok (by omega) rfl (by funext j; by_cases e0 : j = 25; (subst e0; rfl); simp only [uN, if_neg e0]) dX8_works_81 ?_
            have jn131 : ∀ (rk2 ch2 d2 : Int) (f2 l2 g2 : Int → Int), (rk2 = (eRed (I 26) T (c + 1).toNat).2.1 ∧ ch2 = (eRed (I 26) T (c + 1).toNat).2.2.1 ∧ d2 = (eRed (I 26) T (c + 1).toNat).2.2.2.1) → (eOn (I 26) (I 27) 8 f2 (eRed (I 26) T (c + 1).toNat).1) → (∀ k : Int, 0 ≤ k → k < c + 1 → g2 k = (eRed (I 26) T (c + 1).toNat).2.2.2.2 k) → G X (gR 1) RX8 3 cX8_works (mH mo ad (uN (uN (uN I 28 rk2) 29 ch2) 30 d2) (uN (uN (uN A 23 f2) 24 l2) 25 g2)) 0 0 131 [some (.ref mo), some (.int (iI c)), none] [] := by
              intro rk2 ch2 d2 f2 l2 g2 hr2 hf2 hg2
              refine ga_iinc (pc := 131) (L1 := [some (.ref mo), some (.int (iI (c + 1))), none]) dX8_works_131 rfl rfl (by decide) rfl ?_
              refine ga_goto (pc := 134) (tgt := 17) dX8_works_134 rfl ?_
              exact ih17 (c + 1) rk2 ch2 d2 f2 l2 g2 (by omega) (hr2) (hf2) (hg2) (by omega)
            refine ga_iload_n (pc := 82) dX8_works_82 rfl ?_
            refine ga_aload_n (pc := 83) dX8_works_83 rfl ?_
            refine mm_g26 (pc := 84) (z := I 26) rfl dX8_works_84 ?_
            refine ga_icmp_ne (pc := 87) (tgt := 93) dX8_works_87 rfl (by omega) (by omega) (fun c87 => ?_) (fun c87 => ?_)
            · skip
              refine ga_aload_n (pc := 93) dX8_works_93 rfl ?_
              refine ga_iload_n (pc := 94) dX8_works_94 rfl ?_
              refine ga_aload_n (pc := 95) dX8_works_95 rfl ?_
              refine mm_g28 (pc := 96) (z := rk) rfl dX8_works_96 ?_
              refine k_X8_swaps (pc := 99) (a := row) (b := rk) (T := (eRed (I 26) T c.toNat).1) ok (show (0 ≤ (I 26) ∧ (I 26) ≤ 9) ∧ 0 ≤ (I 27) ∧ (I 27) ≤ 7 from by first | exact hsz | omega) (show (0 ≤ row ∧ row < (I 26)) ∧ 0 ≤ rk ∧ rk < (I 26) from by first | exact h1 | omega) (show eOn ((I 26)) ((I 27)) 8 (f) (eRed (I 26) T c.toNat).1 from hf) ⟨Nat.le_of_ble_eq_true rfl, Nat.le_of_ble_eq_true rfl⟩ (Nat.le_of_ble_eq_true rfl) dX8_works_99 (fun I99 A99 hp99 => ?_)
              obtain ⟨rfl, f3, rfl, hf3⟩ := hp99
              refine ga_heq (pc := 102) (h1 := mH mo ad (uN (uN (uN (uN I 28 rk) 29 ch) 30 dd) 29 (ch + if row = rk then 0 else 1)) (uN (uN (uN (uN A 23 f) 24 l) 25 (uZ g c x)) 23 f3)) rfl ?_
              refine ga_aload_n (pc := 102) dX8_works_102 rfl ?_
              refine ga_aload_n (pc := 103) dX8_works_103 rfl ?_
              refine mm_g28 (pc := 104) (z := rk) rfl dX8_works_104 ?_
              refine ga_iload_n (pc := 107) dX8_works_107 rfl ?_
              refine k_X8_clears (pc := 108) (r := rk) (c := c) (T := (eSw (eRed (I 26) T c.toNat).1 row rk)) ok (show (0 ≤ (I 26) ∧ (I 26) ≤ 9) ∧ 0 ≤ (I 27) ∧ (I 27) ≤ 7 from by first | exact hsz | omega) (show (0 ≤ rk ∧ rk < (I 26)) ∧ 0 ≤ c ∧ c ≤ (I 27) from by first | exact h1 | omega) (show dd ≠ 0 ∧ z40 (dd) from by rw [hr.2.2]; exact hsc.2.1) (show eOn ((I 26)) ((I 27)) 8 (f3) (eSw (eRed (I 26) T c.toNat).1 row rk) from hf3) (show ∀ p q : Int, 0 ≤ p → p < (I 26) → p ≠ rk → 0 ≤ q → q ≤ (I 27) → z62 ((eSw (eRed (I 26) T c.toNat).1 row rk) rk c * (eSw (eRed (I 26) T c.toNat).1 row rk) p q) ∧ z62 ((eSw (eRed (I 26) T c.toNat).1 row rk) p c * (eSw (eRed (I 26) T c.toNat).1 row rk) rk q) from fun p q p0 p1 p2 q0 q1 => by rw [hE0, hr.1]; exact hsc.2.2 (by omega) (by rw [← hE0]; omega) p q p0 p1 (by rw [← hr.1]; exact p2) q0 q1) ⟨Nat.le_of_ble_eq_true rfl, Nat.le_of_ble_eq_true rfl⟩ (Nat.le_of_ble_eq_true rfl) dX8_works_108 (fun I108 A108 hp108 => ?_)
              obtain ⟨rfl, f4, rfl, hf4⟩ := hp108
              refine ga_aload_n (pc := 111) dX8_works_111 rfl ?_
              refine mm_g24 (pc := 112) dX8_works_112 ?_
              refine ga_aload_n (pc := 115) dX8_works_115 rfl ?_
              refine mm_g28 (pc := 116) (z := rk) rfl dX8_works_116 ?_
              refine ga_iload_n (pc := 119) dX8_works_119 rfl ?_
              refine mm_ast24 (pc := 120) (f := l) (A1 := (uN (uN (uN (uN (uN A 23 f) 24 (uZ l rk c)) 25 (uZ g c x)) 23 f3) 23 f4)) ok (by omega) rfl (by funext j; by_cases e0 : j = 24; (subst e0; rfl); simp only [uN, if_neg e0]) dX8_works_120 ?_
              refine ga_aload_n (pc := 121) dX8_works_121 rfl ?_
              refine ga_dup (pc := 122) dX8_works_122 rfl ?_
              refine mm_g28 (pc := 123) (z := rk) rfl dX8_works_123 ?_
              refine ga_iconst (pc := 126) dX8_works_126 ?_
              refine ga_iadd (pc := 127) dX8_works_127 ?_
              refine mm_p28 (pc := 128) (I1 := (uN (uN (uN (uN (uN I 28 (rk + 1)) 29 ch) 30 dd) 29 (ch + if row = rk then 0 else 1)) 30 (eSw (eRed (I 26) T c.toNat).1 row rk rk c))) (by funext j; by_cases e0 : j = 28; (subst e0; rfl); simp only [uN, if_neg e0]) dX8_works_128 ?_
              refine ga_kill (pc := 131) 2 (L1 := [some (.ref mo), some (.int (iI c)), none]) rfl ?_
              refine ga_heq (pc := 131) (h1 := mH mo ad (uN (uN (uN I 28 (rk + 1)) 29 (ch + if row = rk then 0 else 1)) 30 (eSw (eRed (I 26) T c.toNat).1 row rk rk c)) (uN (uN (uN A 23 f4) 24 (uZ l rk c)) 25 (uZ g c x))) (congr (congrArg (mH mo ad) (by funext j; by_cases e0 : j = 28; (subst e0; rfl); by_cases e1 : j = 29; (subst e1; rfl); by_cases e2 : j = 30; (subst e2; rfl); simp only [uN, if_neg e0, if_neg e1, if_neg e2])) (by funext j; by_cases e0 : j = 23; (subst e0; rfl); by_cases e1 : j = 24; (subst e1; rfl); by_cases e2 : j = 25; (subst e2; rfl); simp only [uN, if_neg e0, if_neg e1, if_neg e2])) ?_
              exact jn131 (rk + 1) (ch + if row = rk then 0 else 1) (eSw (eRed (I 26) T c.toNat).1 row rk rk c) f4 (uZ l rk c) (uZ g c x) (by rw [eRed_s _ _ hc.1, eStep_y (by omega), ← hE0, ← hr.1, ← hr.2.1, ← hr.2.2]; exact ⟨rfl, rfl, rfl⟩) (by rw [eRed_s _ _ hc.1, eStep_y (by omega), ← hE0, ← hr.1, ← hr.2.1, ← hr.2.2]; exact hf4) (fun k k0 k1 => by rw [eRed_s _ _ hc.1, eStep_y (by omega), ← hE0, ← hr.1, ← hr.2.1, ← hr.2.2]; dsimp only; unfold uZ; split; (rw [hx]; first | rw [if_pos (by omega)] | rw [if_neg (by omega)]); exact hg k k0 (by omega))
            · skip
              refine ga_goto (pc := 90) (tgt := 131) dX8_works_90 rfl ?_
              refine ga_kill (pc := 131) 2 (L1 := [some (.ref mo), some (.int (iI c)), none]) rfl ?_
              exact jn131 rk ch dd f l (uZ g c x) (by rw [eRed_s _ _ hc.1, eStep_n (by omega)]; exact hr) (by rw [eRed_s _ _ hc.1, eStep_n (by omega)]; exact hf) (fun k k0 k1 => by rw [eRed_s _ _ hc.1, eStep_n (by omega)]; dsimp only; unfold uZ; split; (rw [hx]; first | rw [if_pos (by omega)] | rw [if_neg (by omega)]); exact hg k k0 (by omega))
          refine ga_aload_n (pc := 60) dX8_works_60 rfl ?_
          refine mm_g25 (pc := 61) dX8_works_61 ?_
          refine ga_iload_n (pc := 64) dX8_works_64 rfl ?_
          refine ga_iload_n (pc := 65) dX8_works_65 rfl ?_
          refine ga_aload_n (pc := 66) dX8_works_66 rfl ?_
          refine mm_g26 (pc := 67) (z := I 26) rfl dX8_works_67 ?_
          refine ga_icmp_ge (pc := 70) (tgt := 80) dX8_works_70 rfl (by omega) (by omega) (fun c70 => ?_) (fun c70 => ?_)
          · skip
            refine ga_iconst (pc := 80) dX8_works_80 ?_
            exact jn81 (-1) (by first | rw [if_pos (by omega)] | rw [if_neg (by omega)])
          · skip
            refine ga_aload_n (pc := 73) dX8_works_73 rfl ?_
            refine mm_g28 (pc := 74) (z := rk) rfl dX8_works_74 ?_
            refine ga_goto (pc := 77) (tgt := 81) dX8_works_77 rfl ?_
            exact jn81 rk (by first | rw [if_pos (by omega)] | rw [if_neg (by omega)])
        have lp30 : ∀ (N30 : Nat) (row : Int), (rk ≤ row ∧ row ≤ I 26) → (zFind (eRed (I 26) T c.toNat).1 (I 26) c (I 26 - row).toNat row = eRow (I 26) c (eRed (I 26) T c.toNat)) → (I 26 - row).toNat < N30 → G X (gR 1) RX8 3 cX8_works (mH mo ad (uN (uN (uN I 28 rk) 29 ch) 30 dd) (uN (uN (uN A 23 f) 24 l) 25 g)) 0 0 30 [some (.ref mo), some (.int (iI c)), some (.int (iI row))] [] := by
          intro N30
          induction N30 with
          | zero => intro row hrow hfi hN30; exact absurd hN30 (Nat.not_lt_zero _)
          | succ N30 ih30 =>
            intro row hrow hfi hN30
            refine ga_iload_n (pc := 30) dX8_works_30 rfl ?_
            refine ga_aload_n (pc := 31) dX8_works_31 rfl ?_
            refine mm_g26 (pc := 32) (z := I 26) rfl dX8_works_32 ?_
            refine ga_icmp_ge (pc := 35) (tgt := 60) dX8_works_35 rfl (by omega) (by omega) (fun c35 => ?_) (fun c35 => ?_)
            · skip
              exact jn60 row (by omega) (by rw [← hfi, zFind_x (by omega)])
            · skip
              refine ga_aload_n (pc := 38) dX8_works_38 rfl ?_
              refine mm_g23 (pc := 39) dX8_works_39 ?_
              refine ga_bipush (pc := 42) dX8_works_42 rfl ?_
              refine ga_iload_n (pc := 44) dX8_works_44 rfl ?_
              refine ga_imul (pc := 45) dX8_works_45 ?_
              refine ga_iload_n (pc := 46) dX8_works_46 rfl ?_
              refine ga_iadd (pc := 47) dX8_works_47 ?_
              have hsr := hsc.1 row c (by omega) (by omega) (by omega) (by omega)
              refine mm_ald23 (pc := 48) (x := (eRed (I 26) T c.toNat).1 row c) ok (by omega) (hf row c (by omega) (by omega) (by omega) (by omega)) dX8_works_48 ?_
              refine ga_lconst (pc := 49) 0 dX8_works_49 rfl ?_
              refine ga_lcmp (pc := 50) dX8_works_50 (by omega) (by omega) ?_
              refine ga_ifc_ne (pc := 51) (tgt := 60) dX8_works_51 rfl (fun c51 => ?_) (fun c51 => ?_)
              · skip
                exact jn60 row (by omega) (by rw [← hfi, zFind_x (by omega)])
              · skip
                refine ga_iinc (pc := 54) (L1 := [some (.ref mo), some (.int (iI c)), some (.int (iI (row + 1)))]) dX8_works_54 rfl rfl (by decide) rfl ?_
                refine ga_goto (pc := 57) (tgt := 30) dX8_works_57 rfl ?_
                exact ih30 (row + 1) (by omega) (by rw [← hfi, zFind_t (r := row) (by omega)]) (by omega)
        exact lp30 _ rk (by omega) (by unfold eRow; rw [← hr.1]) (Nat.lt_succ_self _)
  exact lp17 _ 0 0 0 1 (A 23) (A 24) (A 25) (by omega) (⟨rfl, rfl, rfl⟩) (hT) (fun k k0 k1 => by omega) (Nat.lt_succ_self _)
theorem k_X8_works {X : ga_X} {nL : Nat} {cc : ByteArray} {mo : Nat} {ad : Nat → Nat} {I : Nat → Int} {A : Nat → Int → Int} {d pc : Nat} {L : List (Option Value)} {st : List Value} {T : Int → Int → Int}  (ok : mOk mo ad) (hsz : (0 ≤ I 26 ∧ I 26 ≤ 9) ∧ 0 ≤ I 27 ∧ I 27 ≤ 7) (hT : eOn (I 26) (I 27) 8 (A 23) T) (hsf : eSafe (I 26) (I 27) T)  (hR : 1 + 1 ≤ d ∧ 19 + 3 + 64 * 1 ≤ 64 * d) (hs : (st.map fun v => v.category).sum ≤ 8) (dd : decode cc pc = .ok (.invokevirtual 252, 3)) (kk : ∀ (I1 : Nat → Int) (A1 : Nat → Int → Int), (I1 = uN (uN (uN I 28 (eRed (I 26) T (I 27).toNat).2.1) 29 (eRed (I 26) T (I 27).toNat).2.2.1) 30 (eRed (I 26) T (I 27).toNat).2.2.2.1 ∧ ∃ f l g, A1 = uN (uN (uN A 23 f) 24 l) 25 g ∧ eOn (I 26) (I 27) 8 f (eRed (I 26) T (I 27).toNat).1 ∧ ∀ k : Int, 0 ≤ k → k < I 27 → g k = (eRed (I 26) T (I 27).toNat).2.2.2.2 k) → G X (gR d) RX8 nL cc (mH mo ad I1 A1) 0 0 (pc + 3) L st) : G X (gR d) RX8 nL cc (mH mo ad I A) 0 0 pc L (.ref mo :: st) :=
  mm_run ok (m_X8_works _ _ mo ad I A T hsz hT hsf) (lw_V q1897 q1899 qs70 q113 q1900) rfl (show ga_nn' yX8_works 0 from (by unfold ga_nn'; decide +kernel)) hR hs dd rfl (fun v I1 A1 hp => by
    obtain ⟨rfl, hp⟩ := hp
    exact kk I1 A1 hp)
