/-! THE CLASS: its objects as one state. ad: where each lies (0 the object itself, 4 5 6 now kept tried, 7..15 their tables, 16..24 the tables' cells, ..); J: numbers; B: rows of numbers; Q: rows of references; Z: all other cells -/
def cE (ad : Nat → Nat) (J : Nat → Int) (B : Nat → Int → Int) (Q : Nat → Int → Option Nat) : Nat → ga_E
  | 0 => oE 0 [.ref (ad 1), .ref (ad 2), .ref (ad 3), .ref (ad 4), .ref (ad 5), .ref (ad 6), .ref (ad 25), .ref (ad 26), .int (iI (J 8)), .int (iI (J 9)), .int (iI (J 10)), .int (iI (J 11)), .int (iI (J 12)), .ref (ad 27), .ref (ad 28), .int (iI (J 15)), .int (iI (J 16)), .int (iI (J 17)), .ref (ad 29), .ref (ad 30), .int (iI (J 20)), .int (iI (J 21)), .int (iI (J 22)), .int (iI (J 23)), .long (lI (J 24)), .ref (ad 31), .ref (ad 32), .ref (ad 33), .ref (ad 42)]
  | 1 => oE 1 [.null, .null, .null, .null, .null, .int (iI 0), .int (iI (J 37))]
  | 2 => oE 2 [.null, .null, .null, .null, .null, .int (iI 0), .int (iI (J 38))]
  | 3 => oE 3 [.null, .null, .null, .null, .null, .int (iI 0), .int (iI (J 39))]
  | 4 => oE 4 [.int (iI (J 30)), .int (iI (J 31)), .ref (ad 7), .ref (ad 8), .ref (ad 9)]
  | 5 => oE 4 [.int (iI (J 32)), .int (iI (J 33)), .ref (ad 10), .ref (ad 11), .ref (ad 12)]
  | 6 => oE 4 [.int (iI (J 34)), .int (iI (J 35)), .ref (ad 13), .ref (ad 14), .ref (ad 15)]
  | 7 => oE 5 [.int (iI (J 30)), .int (iI (J 30)), .int (iI 9), .ref (ad 16)]
  | 8 => oE 5 [.int (iI (J 31)), .int (iI (J 31)), .int (iI 9), .ref (ad 17)]
  | 9 => oE 5 [.int (iI (J 30)), .int (iI (J 31)), .int (iI 9), .ref (ad 18)]
  | 10 => oE 5 [.int (iI (J 32)), .int (iI (J 32)), .int (iI 9), .ref (ad 19)]
  | 11 => oE 5 [.int (iI (J 33)), .int (iI (J 33)), .int (iI 9), .ref (ad 20)]
  | 12 => oE 5 [.int (iI (J 32)), .int (iI (J 33)), .int (iI 9), .ref (ad 21)]
  | 13 => oE 5 [.int (iI (J 34)), .int (iI (J 34)), .int (iI 9), .ref (ad 22)]
  | 14 => oE 5 [.int (iI (J 35)), .int (iI (J 35)), .int (iI 9), .ref (ad 23)]
  | 15 => oE 5 [.int (iI (J 34)), .int (iI (J 35)), .int (iI 9), .ref (ad 24)]
  | 16 => aL 9 (B 0)
  | 17 => aL 9 (B 1)
  | 18 => aL 9 (B 2)
  | 19 => aL 9 (B 3)
  | 20 => aL 9 (B 4)
  | 21 => aL 9 (B 5)
  | 22 => aL 9 (B 6)
  | 23 => aL 9 (B 7)
  | 24 => aL 9 (B 8)
  | 25 => aR "TwoSidedTables$Plain" 6 (Q 0)
  | 26 => aR "TwoSidedTables$Plain" 6 (Q 1)
  | 27 => aR "java/lang/String" 3 (Q 5)
  | 28 => aB 200 (B 9)
  | 29 => aL 100 (B 10)
  | 30 => aI 10 (B 11)
  | 31 => aR "TwoSidedTables$Plain" 35 (Q 2)
  | 32 => aR "TwoSidedTables$Shelf" 4 (fun j => some (ad (34 + j.toNat)))
  | 33 => aR "TwoSidedTables$Shelf" 4 (fun j => some (ad (38 + j.toNat)))
  | 34 => oE 7 [va_rf (Q 3 0)]
  | 35 => oE 7 [va_rf (Q 3 1)]
  | 36 => oE 7 [va_rf (Q 3 2)]
  | 37 => oE 7 [va_rf (Q 3 3)]
  | 38 => oE 7 [va_rf (Q 4 0)]
  | 39 => oE 7 [va_rf (Q 4 1)]
  | 40 => oE 7 [va_rf (Q 4 2)]
  | 41 => oE 7 [va_rf (Q 4 3)]
  | 42 => oE 6 [.ref (ad 43), .int (iI (J 36))]
  | _ => aI 30 (B 12)
def cOn (h : ga_H) (ad : Nat → Nat) (J : Nat → Int) (B : Nat → Int → Int) (Q : Nat → Int → Option Nat) (Z : ga_H) : Prop := (∀ r, r < 44 → h (ad r) = some (cE ad J B Q r)) ∧ (∀ r, r < 44 → ∀ s, s < 44 → ad r = ad s → r = s) ∧ ∀ (a : Nat) (e : ga_E), Z a = some e → h a = some e ∧ ∀ r, r < 44 → a ≠ ad r
section CON
variable {h : ga_H} {ad : Nat → Nat} {J : Nat → Int} {B : Nat → Int → Int} {Q : Nat → Int → Option Nat} {Z : ga_H}
/-- one object is written -/
theorem cOn.u {J1 : Nat → Int} {B1 : Nat → Int → Int} {Q1 : Nat → Int → Option Nat} (hc : cOn h ad J B Q Z) (r0 : Nat) (hr : r0 < 44) (hn : ∀ r, r < 44 → r ≠ r0 → cE ad J1 B1 Q1 r = cE ad J B Q r) {e : ga_E} (he : e = cE ad J1 B1 Q1 r0) : cOn (ga_u h (ad r0) e) ad J1 B1 Q1 Z := by
  subst he
  refine ⟨fun r h0 => ?_, hc.2.1, fun a e ha => ?_⟩
  · by_cases q : r = r0
    · subst q; exact ga_us _ _ _
    · rw [ga_un (fun z => q (hc.2.1 r h0 r0 hr z)), hn r h0 q]
      exact hc.1 r h0
  · have z := hc.2.2 a e ha
    rw [ga_un (z.2 r0 hr)]
    exact z
/-- another cell is written -/
theorem cOn.z (hc : cOn h ad J B Q Z) {a : Nat} {e0 e : ga_E} (ha : Z a = some e0) : cOn (ga_u h a e) ad J B Q (ga_u Z a e) := by
  have z := hc.2.2 a e0 ha
  refine ⟨fun r h0 => ?_, hc.2.1, fun b e' hb => ?_⟩
  · rw [ga_un (fun q => z.2 r h0 q.symm)]
    exact hc.1 r h0
  · by_cases q : b = a
    · subst q
      rw [ga_us] at hb ⊢
      exact ⟨hb, z.2⟩
    · rw [ga_un q] at hb ⊢
      exact hc.2.2 b e' hb
/-- a cell is made -/
theorem cOn.n (hc : cOn h ad J B Q Z) {a : Nat} {e : ga_E} (ha : h a = none) : cOn (ga_u h a e) ad J B Q (ga_u Z a e) ∧ Z a = none := by
  have hz : Z a = none := by
    cases hb : Z a with
    | none => rfl
    | some e' => rw [(hc.2.2 a e' hb).1] at ha; cases ha
  refine ⟨⟨fun r h0 => ?_, hc.2.1, fun b e' hb => ?_⟩, hz⟩
  · rw [ga_un (fun q => by rw [← q, hc.1 r h0] at ha; cases ha)]
    exact hc.1 r h0
  · by_cases q : b = a
    · subst q
      rw [ga_us] at hb ⊢
      exact ⟨hb, fun r h0 z => by rw [z, hc.1 r h0] at ha; cases ha⟩
    · rw [ga_un q] at hb ⊢
      exact hc.2.2 b e' hb
/-- a cell that lies beside is forgotten, or known by less -/
theorem cOn.sub (hc : cOn h ad J B Q Z) {Z1 : ga_H} (hz : ∀ (a : Nat) (e : ga_E), Z1 a = some e → Z a = some e) : cOn h ad J B Q Z1 := ⟨hc.1, hc.2.1, fun a e ha => hc.2.2 a e (hz a e ha)⟩
theorem cOn.eq (hc : cOn h ad J B Q Z) {J1 : Nat → Int} {B1 : Nat → Int → Int} {Q1 : Nat → Int → Option Nat} (eJ : J = J1) (eB : B = B1) (eQ : Q = Q1) : cOn h ad J1 B1 Q1 Z := by rw [← eJ, ← eB, ← eQ]; exact hc
/-- which object a number, a row lies in -/
theorem cE_x {f : Nat} {z : Int} (hf : f < 30) (r : Nat) (hr : r < 44) (hn : r ≠ 0) : cE ad (uN J f z) B Q r = cE ad J B Q r := by
  have e : ∀ k, 30 ≤ k → uN J f z k = J k := fun k hk => uN_n J z (by omega)
  match r, hr, hn with
  | 0, _, hn => exact absurd rfl hn
  | 1, _, _ => show oE 1 [.null, .null, .null, .null, .null, .int (iI 0), .int (iI (uN J f z 37))] = oE 1 [.null, .null, .null, .null, .null, .int (iI 0), .int (iI (J 37))]; rw [e 37 (by decide)]
  | 2, _, _ => show oE 2 [.null, .null, .null, .null, .null, .int (iI 0), .int (iI (uN J f z 38))] = oE 2 [.null, .null, .null, .null, .null, .int (iI 0), .int (iI (J 38))]; rw [e 38 (by decide)]
  | 3, _, _ => show oE 3 [.null, .null, .null, .null, .null, .int (iI 0), .int (iI (uN J f z 39))] = oE 3 [.null, .null, .null, .null, .null, .int (iI 0), .int (iI (J 39))]; rw [e 39 (by decide)]
  | 4, _, _ => show oE 4 [.int (iI (uN J f z 30)), .int (iI (uN J f z 31)), .ref (ad 7), .ref (ad 8), .ref (ad 9)] = oE 4 [.int (iI (J 30)), .int (iI (J 31)), .ref (ad 7), .ref (ad 8), .ref (ad 9)]; rw [e 30 (by decide), e 31 (by decide)]
  | 5, _, _ => show oE 4 [.int (iI (uN J f z 32)), .int (iI (uN J f z 33)), .ref (ad 10), .ref (ad 11), .ref (ad 12)] = oE 4 [.int (iI (J 32)), .int (iI (J 33)), .ref (ad 10), .ref (ad 11), .ref (ad 12)]; rw [e 32 (by decide), e 33 (by decide)]
  | 6, _, _ => show oE 4 [.int (iI (uN J f z 34)), .int (iI (uN J f z 35)), .ref (ad 13), .ref (ad 14), .ref (ad 15)] = oE 4 [.int (iI (J 34)), .int (iI (J 35)), .ref (ad 13), .ref (ad 14), .ref (ad 15)]; rw [e 34 (by decide), e 35 (by decide)]
  | 7, _, _ => show oE 5 [.int (iI (uN J f z 30)), .int (iI (uN J f z 30)), .int (iI 9), .ref (ad 16)] = oE 5 [.int (iI (J 30)), .int (iI (J 30)), .int (iI 9), .ref (ad 16)]; rw [e 30 (by decide)]
  | 8, _, _ => show oE 5 [.int (iI (uN J f z 31)), .int (iI (uN J f z 31)), .int (iI 9), .ref (ad 17)] = oE 5 [.int (iI (J 31)), .int (iI (J 31)), .int (iI 9), .ref (ad 17)]; rw [e 31 (by decide)]
  | 9, _, _ => show oE 5 [.int (iI (uN J f z 30)), .int (iI (uN J f z 31)), .int (iI 9), .ref (ad 18)] = oE 5 [.int (iI (J 30)), .int (iI (J 31)), .int (iI 9), .ref (ad 18)]; rw [e 30 (by decide), e 31 (by decide)]
  | 10, _, _ => show oE 5 [.int (iI (uN J f z 32)), .int (iI (uN J f z 32)), .int (iI 9), .ref (ad 19)] = oE 5 [.int (iI (J 32)), .int (iI (J 32)), .int (iI 9), .ref (ad 19)]; rw [e 32 (by decide)]
  | 11, _, _ => show oE 5 [.int (iI (uN J f z 33)), .int (iI (uN J f z 33)), .int (iI 9), .ref (ad 20)] = oE 5 [.int (iI (J 33)), .int (iI (J 33)), .int (iI 9), .ref (ad 20)]; rw [e 33 (by decide)]
  | 12, _, _ => show oE 5 [.int (iI (uN J f z 32)), .int (iI (uN J f z 33)), .int (iI 9), .ref (ad 21)] = oE 5 [.int (iI (J 32)), .int (iI (J 33)), .int (iI 9), .ref (ad 21)]; rw [e 32 (by decide), e 33 (by decide)]
  | 13, _, _ => show oE 5 [.int (iI (uN J f z 34)), .int (iI (uN J f z 34)), .int (iI 9), .ref (ad 22)] = oE 5 [.int (iI (J 34)), .int (iI (J 34)), .int (iI 9), .ref (ad 22)]; rw [e 34 (by decide)]
  | 14, _, _ => show oE 5 [.int (iI (uN J f z 35)), .int (iI (uN J f z 35)), .int (iI 9), .ref (ad 23)] = oE 5 [.int (iI (J 35)), .int (iI (J 35)), .int (iI 9), .ref (ad 23)]; rw [e 35 (by decide)]
  | 15, _, _ => show oE 5 [.int (iI (uN J f z 34)), .int (iI (uN J f z 35)), .int (iI 9), .ref (ad 24)] = oE 5 [.int (iI (J 34)), .int (iI (J 35)), .int (iI 9), .ref (ad 24)]; rw [e 34 (by decide), e 35 (by decide)]
  | 16, _, _ => exact rfl
  | 17, _, _ => exact rfl
  | 18, _, _ => exact rfl
  | 19, _, _ => exact rfl
  | 20, _, _ => exact rfl
  | 21, _, _ => exact rfl
  | 22, _, _ => exact rfl
  | 23, _, _ => exact rfl
  | 24, _, _ => exact rfl
  | 25, _, _ => exact rfl
  | 26, _, _ => exact rfl
  | 27, _, _ => exact rfl
  | 28, _, _ => exact rfl
  | 29, _, _ => exact rfl
  | 30, _, _ => exact rfl
  | 31, _, _ => exact rfl
  | 32, _, _ => exact rfl
  | 33, _, _ => exact rfl
  | 34, _, _ => exact rfl
  | 35, _, _ => exact rfl
  | 36, _, _ => exact rfl
  | 37, _, _ => exact rfl
  | 38, _, _ => exact rfl
  | 39, _, _ => exact rfl
  | 40, _, _ => exact rfl
  | 41, _, _ => exact rfl
  | 42, _, _ => show oE 6 [.ref (ad 43), .int (iI (uN J f z 36))] = oE 6 [.ref (ad 43), .int (iI (J 36))]; rw [e 36 (by decide)]
  | 43, _, _ => exact rfl
  | (r + 44), hr, _ => exact absurd hr (by omega)
theorem cE_j36 {z : Int} (r : Nat) (hr : r < 44) (hn : r ≠ 42) : cE ad (uN J 36 z) B Q r = cE ad J B Q r := by
  match r, hr, hn with
  | 0, _, hn => exact rfl
  | 1, _, hn => exact rfl
  | 2, _, hn => exact rfl
  | 3, _, hn => exact rfl
  | 4, _, hn => exact rfl
  | 5, _, hn => exact rfl
  | 6, _, hn => exact rfl
  | 7, _, hn => exact rfl
  | 8, _, hn => exact rfl
  | 9, _, hn => exact rfl
  | 10, _, hn => exact rfl
  | 11, _, hn => exact rfl
  | 12, _, hn => exact rfl
  | 13, _, hn => exact rfl
  | 14, _, hn => exact rfl
  | 15, _, hn => exact rfl
  | 16, _, hn => exact rfl
  | 17, _, hn => exact rfl
  | 18, _, hn => exact rfl
  | 19, _, hn => exact rfl
  | 20, _, hn => exact rfl
  | 21, _, hn => exact rfl
  | 22, _, hn => exact rfl
  | 23, _, hn => exact rfl
  | 24, _, hn => exact rfl
  | 25, _, hn => exact rfl
  | 26, _, hn => exact rfl
  | 27, _, hn => exact rfl
  | 28, _, hn => exact rfl
  | 29, _, hn => exact rfl
  | 30, _, hn => exact rfl
  | 31, _, hn => exact rfl
  | 32, _, hn => exact rfl
  | 33, _, hn => exact rfl
  | 34, _, hn => exact rfl
  | 35, _, hn => exact rfl
  | 36, _, hn => exact rfl
  | 37, _, hn => exact rfl
  | 38, _, hn => exact rfl
  | 39, _, hn => exact rfl
  | 40, _, hn => exact rfl
  | 41, _, hn => exact rfl
  | 42, _, hn => exact absurd rfl hn
  | 43, _, hn => exact rfl
  | (r + 44), hr, _ => exact absurd hr (by omega)
theorem cE_j37 {z : Int} (r : Nat) (hr : r < 44) (hn : r ≠ 1) : cE ad (uN J 37 z) B Q r = cE ad J B Q r := by
  match r, hr, hn with
  | 0, _, hn => exact rfl
  | 1, _, hn => exact absurd rfl hn
  | 2, _, hn => exact rfl
  | 3, _, hn => exact rfl
  | 4, _, hn => exact rfl
  | 5, _, hn => exact rfl
  | 6, _, hn => exact rfl
  | 7, _, hn => exact rfl
  | 8, _, hn => exact rfl
  | 9, _, hn => exact rfl
  | 10, _, hn => exact rfl
  | 11, _, hn => exact rfl
  | 12, _, hn => exact rfl
  | 13, _, hn => exact rfl
  | 14, _, hn => exact rfl
  | 15, _, hn => exact rfl
  | 16, _, hn => exact rfl
  | 17, _, hn => exact rfl
  | 18, _, hn => exact rfl
  | 19, _, hn => exact rfl
  | 20, _, hn => exact rfl
  | 21, _, hn => exact rfl
  | 22, _, hn => exact rfl
  | 23, _, hn => exact rfl
  | 24, _, hn => exact rfl
  | 25, _, hn => exact rfl
  | 26, _, hn => exact rfl
  | 27, _, hn => exact rfl
  | 28, _, hn => exact rfl
  | 29, _, hn => exact rfl
  | 30, _, hn => exact rfl
  | 31, _, hn => exact rfl
  | 32, _, hn => exact rfl
  | 33, _, hn => exact rfl
  | 34, _, hn => exact rfl
  | 35, _, hn => exact rfl
  | 36, _, hn => exact rfl
  | 37, _, hn => exact rfl
  | 38, _, hn => exact rfl
  | 39, _, hn => exact rfl
  | 40, _, hn => exact rfl
  | 41, _, hn => exact rfl
  | 42, _, hn => exact rfl
  | 43, _, hn => exact rfl
  | (r + 44), hr, _ => exact absurd hr (by omega)
theorem cE_j38 {z : Int} (r : Nat) (hr : r < 44) (hn : r ≠ 2) : cE ad (uN J 38 z) B Q r = cE ad J B Q r := by
  match r, hr, hn with
  | 0, _, hn => exact rfl
  | 1, _, hn => exact rfl
  | 2, _, hn => exact absurd rfl hn
  | 3, _, hn => exact rfl
  | 4, _, hn => exact rfl
  | 5, _, hn => exact rfl
  | 6, _, hn => exact rfl
  | 7, _, hn => exact rfl
  | 8, _, hn => exact rfl
  | 9, _, hn => exact rfl
  | 10, _, hn => exact rfl
  | 11, _, hn => exact rfl
  | 12, _, hn => exact rfl
  | 13, _, hn => exact rfl
  | 14, _, hn => exact rfl
  | 15, _, hn => exact rfl
  | 16, _, hn => exact rfl
  | 17, _, hn => exact rfl
  | 18, _, hn => exact rfl
  | 19, _, hn => exact rfl
  | 20, _, hn => exact rfl
  | 21, _, hn => exact rfl
  | 22, _, hn => exact rfl
  | 23, _, hn => exact rfl
  | 24, _, hn => exact rfl
  | 25, _, hn => exact rfl
  | 26, _, hn => exact rfl
  | 27, _, hn => exact rfl
  | 28, _, hn => exact rfl
  | 29, _, hn => exact rfl
  | 30, _, hn => exact rfl
  | 31, _, hn => exact rfl
  | 32, _, hn => exact rfl
  | 33, _, hn => exact rfl
  | 34, _, hn => exact rfl
  | 35, _, hn => exact rfl
  | 36, _, hn => exact rfl
  | 37, _, hn => exact rfl
  | 38, _, hn => exact rfl
  | 39, _, hn => exact rfl
  | 40, _, hn => exact rfl
  | 41, _, hn => exact rfl
  | 42, _, hn => exact rfl
  | 43, _, hn => exact rfl
  | (r + 44), hr, _ => exact absurd hr (by omega)
theorem cE_j39 {z : Int} (r : Nat) (hr : r < 44) (hn : r ≠ 3) : cE ad (uN J 39 z) B Q r = cE ad J B Q r := by
  match r, hr, hn with
  | 0, _, hn => exact rfl
  | 1, _, hn => exact rfl
  | 2, _, hn => exact rfl
  | 3, _, hn => exact absurd rfl hn
  | 4, _, hn => exact rfl
  | 5, _, hn => exact rfl
  | 6, _, hn => exact rfl
  | 7, _, hn => exact rfl
  | 8, _, hn => exact rfl
  | 9, _, hn => exact rfl
  | 10, _, hn => exact rfl
  | 11, _, hn => exact rfl
  | 12, _, hn => exact rfl
  | 13, _, hn => exact rfl
  | 14, _, hn => exact rfl
  | 15, _, hn => exact rfl
  | 16, _, hn => exact rfl
  | 17, _, hn => exact rfl
  | 18, _, hn => exact rfl
  | 19, _, hn => exact rfl
  | 20, _, hn => exact rfl
  | 21, _, hn => exact rfl
  | 22, _, hn => exact rfl
  | 23, _, hn => exact rfl
  | 24, _, hn => exact rfl
  | 25, _, hn => exact rfl
  | 26, _, hn => exact rfl
  | 27, _, hn => exact rfl
  | 28, _, hn => exact rfl
  | 29, _, hn => exact rfl
  | 30, _, hn => exact rfl
  | 31, _, hn => exact rfl
  | 32, _, hn => exact rfl
  | 33, _, hn => exact rfl
  | 34, _, hn => exact rfl
  | 35, _, hn => exact rfl
  | 36, _, hn => exact rfl
  | 37, _, hn => exact rfl
  | 38, _, hn => exact rfl
  | 39, _, hn => exact rfl
  | 40, _, hn => exact rfl
  | 41, _, hn => exact rfl
  | 42, _, hn => exact rfl
  | 43, _, hn => exact rfl
  | (r + 44), hr, _ => exact absurd hr (by omega)
theorem cE_b0 {f : Int → Int} (r : Nat) (hr : r < 44) (hn : r ≠ 16) : cE ad J (uN B 0 f) Q r = cE ad J B Q r := by
  match r, hr, hn with
  | 0, _, hn => exact rfl
  | 1, _, hn => exact rfl
  | 2, _, hn => exact rfl
  | 3, _, hn => exact rfl
  | 4, _, hn => exact rfl
  | 5, _, hn => exact rfl
  | 6, _, hn => exact rfl
  | 7, _, hn => exact rfl
  | 8, _, hn => exact rfl
  | 9, _, hn => exact rfl
  | 10, _, hn => exact rfl
  | 11, _, hn => exact rfl
  | 12, _, hn => exact rfl
  | 13, _, hn => exact rfl
  | 14, _, hn => exact rfl
  | 15, _, hn => exact rfl
  | 16, _, hn => exact absurd rfl hn
  | 17, _, hn => exact rfl
  | 18, _, hn => exact rfl
  | 19, _, hn => exact rfl
  | 20, _, hn => exact rfl
  | 21, _, hn => exact rfl
  | 22, _, hn => exact rfl
  | 23, _, hn => exact rfl
  | 24, _, hn => exact rfl
  | 25, _, hn => exact rfl
  | 26, _, hn => exact rfl
  | 27, _, hn => exact rfl
  | 28, _, hn => exact rfl
  | 29, _, hn => exact rfl
  | 30, _, hn => exact rfl
  | 31, _, hn => exact rfl
  | 32, _, hn => exact rfl
  | 33, _, hn => exact rfl
  | 34, _, hn => exact rfl
  | 35, _, hn => exact rfl
  | 36, _, hn => exact rfl
  | 37, _, hn => exact rfl
  | 38, _, hn => exact rfl
  | 39, _, hn => exact rfl
  | 40, _, hn => exact rfl
  | 41, _, hn => exact rfl
  | 42, _, hn => exact rfl
  | 43, _, hn => exact rfl
  | (r + 44), hr, _ => exact absurd hr (by omega)
theorem cE_b1 {f : Int → Int} (r : Nat) (hr : r < 44) (hn : r ≠ 17) : cE ad J (uN B 1 f) Q r = cE ad J B Q r := by
  match r, hr, hn with
  | 0, _, hn => exact rfl
  | 1, _, hn => exact rfl
  | 2, _, hn => exact rfl
  | 3, _, hn => exact rfl
  | 4, _, hn => exact rfl
  | 5, _, hn => exact rfl
  | 6, _, hn => exact rfl
  | 7, _, hn => exact rfl
  | 8, _, hn => exact rfl
  | 9, _, hn => exact rfl
  | 10, _, hn => exact rfl
  | 11, _, hn => exact rfl
  | 12, _, hn => exact rfl
  | 13, _, hn => exact rfl
  | 14, _, hn => exact rfl
  | 15, _, hn => exact rfl
  | 16, _, hn => exact rfl
  | 17, _, hn => exact absurd rfl hn
  | 18, _, hn => exact rfl
  | 19, _, hn => exact rfl
  | 20, _, hn => exact rfl
  | 21, _, hn => exact rfl
  | 22, _, hn => exact rfl
  | 23, _, hn => exact rfl
  | 24, _, hn => exact rfl
  | 25, _, hn => exact rfl
  | 26, _, hn => exact rfl
  | 27, _, hn => exact rfl
  | 28, _, hn => exact rfl
  | 29, _, hn => exact rfl
  | 30, _, hn => exact rfl
  | 31, _, hn => exact rfl
  | 32, _, hn => exact rfl
  | 33, _, hn => exact rfl
  | 34, _, hn => exact rfl
  | 35, _, hn => exact rfl
  | 36, _, hn => exact rfl
  | 37, _, hn => exact rfl
  | 38, _, hn => exact rfl
  | 39, _, hn => exact rfl
  | 40, _, hn => exact rfl
  | 41, _, hn => exact rfl
  | 42, _, hn => exact rfl
  | 43, _, hn => exact rfl
  | (r + 44), hr, _ => exact absurd hr (by omega)
theorem cE_b2 {f : Int → Int} (r : Nat) (hr : r < 44) (hn : r ≠ 18) : cE ad J (uN B 2 f) Q r = cE ad J B Q r := by
  match r, hr, hn with
  | 0, _, hn => exact rfl
  | 1, _, hn => exact rfl
  | 2, _, hn => exact rfl
  | 3, _, hn => exact rfl
  | 4, _, hn => exact rfl
  | 5, _, hn => exact rfl
  | 6, _, hn => exact rfl
  | 7, _, hn => exact rfl
  | 8, _, hn => exact rfl
  | 9, _, hn => exact rfl
  | 10, _, hn => exact rfl
  | 11, _, hn => exact rfl
  | 12, _, hn => exact rfl
  | 13, _, hn => exact rfl
  | 14, _, hn => exact rfl
  | 15, _, hn => exact rfl
  | 16, _, hn => exact rfl
  | 17, _, hn => exact rfl
  | 18, _, hn => exact absurd rfl hn
  | 19, _, hn => exact rfl
  | 20, _, hn => exact rfl
  | 21, _, hn => exact rfl
  | 22, _, hn => exact rfl
  | 23, _, hn => exact rfl
  | 24, _, hn => exact rfl
  | 25, _, hn => exact rfl
  | 26, _, hn => exact rfl
  | 27, _, hn => exact rfl
  | 28, _, hn => exact rfl
  | 29, _, hn => exact rfl
  | 30, _, hn => exact rfl
  | 31, _, hn => exact rfl
  | 32, _, hn => exact rfl
  | 33, _, hn => exact rfl
  | 34, _, hn => exact rfl
  | 35, _, hn => exact rfl
  | 36, _, hn => exact rfl
  | 37, _, hn => exact rfl
  | 38, _, hn => exact rfl
  | 39, _, hn => exact rfl
  | 40, _, hn => exact rfl
  | 41, _, hn => exact rfl
  | 42, _, hn => exact rfl
  | 43, _, hn => exact rfl
  | (r + 44), hr, _ => exact absurd hr (by omega)
theorem cE_b3 {f : Int → Int} (r : Nat) (hr : r < 44) (hn : r ≠ 19) : cE ad J (uN B 3 f) Q r = cE ad J B Q r := by
  match r, hr, hn with
  | 0, _, hn => exact rfl
  | 1, _, hn => exact rfl
  | 2, _, hn => exact rfl
  | 3, _, hn => exact rfl
  | 4, _, hn => exact rfl
  | 5, _, hn => exact rfl
  | 6, _, hn => exact rfl
  | 7, _, hn => exact rfl
  | 8, _, hn => exact rfl
  | 9, _, hn => exact rfl
  | 10, _, hn => exact rfl
  | 11, _, hn => exact rfl
  | 12, _, hn => exact rfl
  | 13, _, hn => exact rfl
  | 14, _, hn => exact rfl
  | 15, _, hn => exact rfl
  | 16, _, hn => exact rfl
  | 17, _, hn => exact rfl
  | 18, _, hn => exact rfl
  | 19, _, hn => exact absurd rfl hn
  | 20, _, hn => exact rfl
  | 21, _, hn => exact rfl
  | 22, _, hn => exact rfl
  | 23, _, hn => exact rfl
  | 24, _, hn => exact rfl
  | 25, _, hn => exact rfl
  | 26, _, hn => exact rfl
  | 27, _, hn => exact rfl
  | 28, _, hn => exact rfl
  | 29, _, hn => exact rfl
  | 30, _, hn => exact rfl
  | 31, _, hn => exact rfl
  | 32, _, hn => exact rfl
  | 33, _, hn => exact rfl
  | 34, _, hn => exact rfl
  | 35, _, hn => exact rfl
  | 36, _, hn => exact rfl
  | 37, _, hn => exact rfl
  | 38, _, hn => exact rfl
  | 39, _, hn => exact rfl
  | 40, _, hn => exact rfl
  | 41, _, hn => exact rfl
  | 42, _, hn => exact rfl
  | 43, _, hn => exact rfl
  | (r + 44), hr, _ => exact absurd hr (by omega)
theorem cE_b4 {f : Int → Int} (r : Nat) (hr : r < 44) (hn : r ≠ 20) : cE ad J (uN B 4 f) Q r = cE ad J B Q r := by
  match r, hr, hn with
  | 0, _, hn => exact rfl
  | 1, _, hn => exact rfl
  | 2, _, hn => exact rfl
  | 3, _, hn => exact rfl
  | 4, _, hn => exact rfl
  | 5, _, hn => exact rfl
  | 6, _, hn => exact rfl
  | 7, _, hn => exact rfl
  | 8, _, hn => exact rfl
  | 9, _, hn => exact rfl
  | 10, _, hn => exact rfl
  | 11, _, hn => exact rfl
  | 12, _, hn => exact rfl
  | 13, _, hn => exact rfl
  | 14, _, hn => exact rfl
  | 15, _, hn => exact rfl
  | 16, _, hn => exact rfl
  | 17, _, hn => exact rfl
  | 18, _, hn => exact rfl
  | 19, _, hn => exact rfl
  | 20, _, hn => exact absurd rfl hn
  | 21, _, hn => exact rfl
  | 22, _, hn => exact rfl
  | 23, _, hn => exact rfl
  | 24, _, hn => exact rfl
  | 25, _, hn => exact rfl
  | 26, _, hn => exact rfl
  | 27, _, hn => exact rfl
  | 28, _, hn => exact rfl
  | 29, _, hn => exact rfl
  | 30, _, hn => exact rfl
  | 31, _, hn => exact rfl
  | 32, _, hn => exact rfl
  | 33, _, hn => exact rfl
  | 34, _, hn => exact rfl
  | 35, _, hn => exact rfl
  | 36, _, hn => exact rfl
  | 37, _, hn => exact rfl
  | 38, _, hn => exact rfl
  | 39, _, hn => exact rfl
  | 40, _, hn => exact rfl
  | 41, _, hn => exact rfl
  | 42, _, hn => exact rfl
  | 43, _, hn => exact rfl
  | (r + 44), hr, _ => exact absurd hr (by omega)
theorem cE_b5 {f : Int → Int} (r : Nat) (hr : r < 44) (hn : r ≠ 21) : cE ad J (uN B 5 f) Q r = cE ad J B Q r := by
  match r, hr, hn with
  | 0, _, hn => exact rfl
  | 1, _, hn => exact rfl
  | 2, _, hn => exact rfl
  | 3, _, hn => exact rfl
  | 4, _, hn => exact rfl
  | 5, _, hn => exact rfl
  | 6, _, hn => exact rfl
  | 7, _, hn => exact rfl
  | 8, _, hn => exact rfl
  | 9, _, hn => exact rfl
  | 10, _, hn => exact rfl
  | 11, _, hn => exact rfl
  | 12, _, hn => exact rfl
  | 13, _, hn => exact rfl
  | 14, _, hn => exact rfl
  | 15, _, hn => exact rfl
  | 16, _, hn => exact rfl
  | 17, _, hn => exact rfl
  | 18, _, hn => exact rfl
  | 19, _, hn => exact rfl
  | 20, _, hn => exact rfl
  | 21, _, hn => exact absurd rfl hn
  | 22, _, hn => exact rfl
  | 23, _, hn => exact rfl
  | 24, _, hn => exact rfl
  | 25, _, hn => exact rfl
  | 26, _, hn => exact rfl
  | 27, _, hn => exact rfl
  | 28, _, hn => exact rfl
  | 29, _, hn => exact rfl
  | 30, _, hn => exact rfl
  | 31, _, hn => exact rfl
  | 32, _, hn => exact rfl
  | 33, _, hn => exact rfl
  | 34, _, hn => exact rfl
  | 35, _, hn => exact rfl
  | 36, _, hn => exact rfl
  | 37, _, hn => exact rfl
  | 38, _, hn => exact rfl
  | 39, _, hn => exact rfl
  | 40, _, hn => exact rfl
  | 41, _, hn => exact rfl
  | 42, _, hn => exact rfl
  | 43, _, hn => exact rfl
  | (r + 44), hr, _ => exact absurd hr (by omega)
theorem cE_b6 {f : Int → Int} (r : Nat) (hr : r < 44) (hn : r ≠ 22) : cE ad J (uN B 6 f) Q r = cE ad J B Q r := by
  match r, hr, hn with
  | 0, _, hn => exact rfl
  | 1, _, hn => exact rfl
  | 2, _, hn => exact rfl
  | 3, _, hn => exact rfl
  | 4, _, hn => exact rfl
  | 5, _, hn => exact rfl
  | 6, _, hn => exact rfl
  | 7, _, hn => exact rfl
  | 8, _, hn => exact rfl
  | 9, _, hn => exact rfl
  | 10, _, hn => exact rfl
  | 11, _, hn => exact rfl
  | 12, _, hn => exact rfl
  | 13, _, hn => exact rfl
  | 14, _, hn => exact rfl
  | 15, _, hn => exact rfl
  | 16, _, hn => exact rfl
  | 17, _, hn => exact rfl
  | 18, _, hn => exact rfl
  | 19, _, hn => exact rfl
  | 20, _, hn => exact rfl
  | 21, _, hn => exact rfl
  | 22, _, hn => exact absurd rfl hn
  | 23, _, hn => exact rfl
  | 24, _, hn => exact rfl
  | 25, _, hn => exact rfl
  | 26, _, hn => exact rfl
  | 27, _, hn => exact rfl
  | 28, _, hn => exact rfl
  | 29, _, hn => exact rfl
  | 30, _, hn => exact rfl
  | 31, _, hn => exact rfl
  | 32, _, hn => exact rfl
  | 33, _, hn => exact rfl
  | 34, _, hn => exact rfl
  | 35, _, hn => exact rfl
  | 36, _, hn => exact rfl
  | 37, _, hn => exact rfl
  | 38, _, hn => exact rfl
  | 39, _, hn => exact rfl
  | 40, _, hn => exact rfl
  | 41, _, hn => exact rfl
  | 42, _, hn => exact rfl
  | 43, _, hn => exact rfl
  | (r + 44), hr, _ => exact absurd hr (by omega)
theorem cE_b7 {f : Int → Int} (r : Nat) (hr : r < 44) (hn : r ≠ 23) : cE ad J (uN B 7 f) Q r = cE ad J B Q r := by
  match r, hr, hn with
  | 0, _, hn => exact rfl
  | 1, _, hn => exact rfl
  | 2, _, hn => exact rfl
  | 3, _, hn => exact rfl
  | 4, _, hn => exact rfl
  | 5, _, hn => exact rfl
  | 6, _, hn => exact rfl
  | 7, _, hn => exact rfl
  | 8, _, hn => exact rfl
  | 9, _, hn => exact rfl
  | 10, _, hn => exact rfl
  | 11, _, hn => exact rfl
  | 12, _, hn => exact rfl
  | 13, _, hn => exact rfl
  | 14, _, hn => exact rfl
  | 15, _, hn => exact rfl
  | 16, _, hn => exact rfl
  | 17, _, hn => exact rfl
  | 18, _, hn => exact rfl
  | 19, _, hn => exact rfl
  | 20, _, hn => exact rfl
  | 21, _, hn => exact rfl
  | 22, _, hn => exact rfl
  | 23, _, hn => exact absurd rfl hn
  | 24, _, hn => exact rfl
  | 25, _, hn => exact rfl
  | 26, _, hn => exact rfl
  | 27, _, hn => exact rfl
  | 28, _, hn => exact rfl
  | 29, _, hn => exact rfl
  | 30, _, hn => exact rfl
  | 31, _, hn => exact rfl
  | 32, _, hn => exact rfl
  | 33, _, hn => exact rfl
  | 34, _, hn => exact rfl
  | 35, _, hn => exact rfl
  | 36, _, hn => exact rfl
  | 37, _, hn => exact rfl
  | 38, _, hn => exact rfl
  | 39, _, hn => exact rfl
  | 40, _, hn => exact rfl
  | 41, _, hn => exact rfl
  | 42, _, hn => exact rfl
  | 43, _, hn => exact rfl
  | (r + 44), hr, _ => exact absurd hr (by omega)
theorem cE_b8 {f : Int → Int} (r : Nat) (hr : r < 44) (hn : r ≠ 24) : cE ad J (uN B 8 f) Q r = cE ad J B Q r := by
  match r, hr, hn with
  | 0, _, hn => exact rfl
  | 1, _, hn => exact rfl
  | 2, _, hn => exact rfl
  | 3, _, hn => exact rfl
  | 4, _, hn => exact rfl
  | 5, _, hn => exact rfl
  | 6, _, hn => exact rfl
  | 7, _, hn => exact rfl
  | 8, _, hn => exact rfl
  | 9, _, hn => exact rfl
  | 10, _, hn => exact rfl
  | 11, _, hn => exact rfl
  | 12, _, hn => exact rfl
  | 13, _, hn => exact rfl
  | 14, _, hn => exact rfl
  | 15, _, hn => exact rfl
  | 16, _, hn => exact rfl
  | 17, _, hn => exact rfl
  | 18, _, hn => exact rfl
  | 19, _, hn => exact rfl
  | 20, _, hn => exact rfl
  | 21, _, hn => exact rfl
  | 22, _, hn => exact rfl
  | 23, _, hn => exact rfl
  | 24, _, hn => exact absurd rfl hn
  | 25, _, hn => exact rfl
  | 26, _, hn => exact rfl
  | 27, _, hn => exact rfl
  | 28, _, hn => exact rfl
  | 29, _, hn => exact rfl
  | 30, _, hn => exact rfl
  | 31, _, hn => exact rfl
  | 32, _, hn => exact rfl
  | 33, _, hn => exact rfl
  | 34, _, hn => exact rfl
  | 35, _, hn => exact rfl
  | 36, _, hn => exact rfl
  | 37, _, hn => exact rfl
  | 38, _, hn => exact rfl
  | 39, _, hn => exact rfl
  | 40, _, hn => exact rfl
  | 41, _, hn => exact rfl
  | 42, _, hn => exact rfl
  | 43, _, hn => exact rfl
  | (r + 44), hr, _ => exact absurd hr (by omega)
theorem cE_b9 {f : Int → Int} (r : Nat) (hr : r < 44) (hn : r ≠ 28) : cE ad J (uN B 9 f) Q r = cE ad J B Q r := by
  match r, hr, hn with
  | 0, _, hn => exact rfl
  | 1, _, hn => exact rfl
  | 2, _, hn => exact rfl
  | 3, _, hn => exact rfl
  | 4, _, hn => exact rfl
  | 5, _, hn => exact rfl
  | 6, _, hn => exact rfl
  | 7, _, hn => exact rfl
  | 8, _, hn => exact rfl
  | 9, _, hn => exact rfl
  | 10, _, hn => exact rfl
  | 11, _, hn => exact rfl
  | 12, _, hn => exact rfl
  | 13, _, hn => exact rfl
  | 14, _, hn => exact rfl
  | 15, _, hn => exact rfl
  | 16, _, hn => exact rfl
  | 17, _, hn => exact rfl
  | 18, _, hn => exact rfl
  | 19, _, hn => exact rfl
  | 20, _, hn => exact rfl
  | 21, _, hn => exact rfl
  | 22, _, hn => exact rfl
  | 23, _, hn => exact rfl
  | 24, _, hn => exact rfl
  | 25, _, hn => exact rfl
  | 26, _, hn => exact rfl
  | 27, _, hn => exact rfl
  | 28, _, hn => exact absurd rfl hn
  | 29, _, hn => exact rfl
  | 30, _, hn => exact rfl
  | 31, _, hn => exact rfl
  | 32, _, hn => exact rfl
  | 33, _, hn => exact rfl
  | 34, _, hn => exact rfl
  | 35, _, hn => exact rfl
  | 36, _, hn => exact rfl
  | 37, _, hn => exact rfl
  | 38, _, hn => exact rfl
  | 39, _, hn => exact rfl
  | 40, _, hn => exact rfl
  | 41, _, hn => exact rfl
  | 42, _, hn => exact rfl
  | 43, _, hn => exact rfl
  | (r + 44), hr, _ => exact absurd hr (by omega)
theorem cE_b10 {f : Int → Int} (r : Nat) (hr : r < 44) (hn : r ≠ 29) : cE ad J (uN B 10 f) Q r = cE ad J B Q r := by
  match r, hr, hn with
  | 0, _, hn => exact rfl
  | 1, _, hn => exact rfl
  | 2, _, hn => exact rfl
  | 3, _, hn => exact rfl
  | 4, _, hn => exact rfl
  | 5, _, hn => exact rfl
  | 6, _, hn => exact rfl
  | 7, _, hn => exact rfl
  | 8, _, hn => exact rfl
  | 9, _, hn => exact rfl
  | 10, _, hn => exact rfl
  | 11, _, hn => exact rfl
  | 12, _, hn => exact rfl
  | 13, _, hn => exact rfl
  | 14, _, hn => exact rfl
  | 15, _, hn => exact rfl
  | 16, _, hn => exact rfl
  | 17, _, hn => exact rfl
  | 18, _, hn => exact rfl
  | 19, _, hn => exact rfl
  | 20, _, hn => exact rfl
  | 21, _, hn => exact rfl
  | 22, _, hn => exact rfl
  | 23, _, hn => exact rfl
  | 24, _, hn => exact rfl
  | 25, _, hn => exact rfl
  | 26, _, hn => exact rfl
  | 27, _, hn => exact rfl
  | 28, _, hn => exact rfl
  | 29, _, hn => exact absurd rfl hn
  | 30, _, hn => exact rfl
  | 31, _, hn => exact rfl
  | 32, _, hn => exact rfl
  | 33, _, hn => exact rfl
  | 34, _, hn => exact rfl
  | 35, _, hn => exact rfl
  | 36, _, hn => exact rfl
  | 37, _, hn => exact rfl
  | 38, _, hn => exact rfl
  | 39, _, hn => exact rfl
  | 40, _, hn => exact rfl
  | 41, _, hn => exact rfl
  | 42, _, hn => exact rfl
  | 43, _, hn => exact rfl
  | (r + 44), hr, _ => exact absurd hr (by omega)
theorem cE_b11 {f : Int → Int} (r : Nat) (hr : r < 44) (hn : r ≠ 30) : cE ad J (uN B 11 f) Q r = cE ad J B Q r := by
  match r, hr, hn with
  | 0, _, hn => exact rfl
  | 1, _, hn => exact rfl
  | 2, _, hn => exact rfl
  | 3, _, hn => exact rfl
  | 4, _, hn => exact rfl
  | 5, _, hn => exact rfl
  | 6, _, hn => exact rfl
  | 7, _, hn => exact rfl
  | 8, _, hn => exact rfl
  | 9, _, hn => exact rfl
  | 10, _, hn => exact rfl
  | 11, _, hn => exact rfl
  | 12, _, hn => exact rfl
  | 13, _, hn => exact rfl
  | 14, _, hn => exact rfl
  | 15, _, hn => exact rfl
  | 16, _, hn => exact rfl
  | 17, _, hn => exact rfl
  | 18, _, hn => exact rfl
  | 19, _, hn => exact rfl
  | 20, _, hn => exact rfl
  | 21, _, hn => exact rfl
  | 22, _, hn => exact rfl
  | 23, _, hn => exact rfl
  | 24, _, hn => exact rfl
  | 25, _, hn => exact rfl
  | 26, _, hn => exact rfl
  | 27, _, hn => exact rfl
  | 28, _, hn => exact rfl
  | 29, _, hn => exact rfl
  | 30, _, hn => exact absurd rfl hn
  | 31, _, hn => exact rfl
  | 32, _, hn => exact rfl
  | 33, _, hn => exact rfl
  | 34, _, hn => exact rfl
  | 35, _, hn => exact rfl
  | 36, _, hn => exact rfl
  | 37, _, hn => exact rfl
  | 38, _, hn => exact rfl
  | 39, _, hn => exact rfl
  | 40, _, hn => exact rfl
  | 41, _, hn => exact rfl
  | 42, _, hn => exact rfl
  | 43, _, hn => exact rfl
  | (r + 44), hr, _ => exact absurd hr (by omega)
theorem cE_b12 {f : Int → Int} (r : Nat) (hr : r < 44) (hn : r ≠ 43) : cE ad J (uN B 12 f) Q r = cE ad J B Q r := by
  match r, hr, hn with
  | 0, _, hn => exact rfl
  | 1, _, hn => exact rfl
  | 2, _, hn => exact rfl
  | 3, _, hn => exact rfl
  | 4, _, hn => exact rfl
  | 5, _, hn => exact rfl
  | 6, _, hn => exact rfl
  | 7, _, hn => exact rfl
  | 8, _, hn => exact rfl
  | 9, _, hn => exact rfl
  | 10, _, hn => exact rfl
  | 11, _, hn => exact rfl
  | 12, _, hn => exact rfl
  | 13, _, hn => exact rfl
  | 14, _, hn => exact rfl
  | 15, _, hn => exact rfl
  | 16, _, hn => exact rfl
  | 17, _, hn => exact rfl
  | 18, _, hn => exact rfl
  | 19, _, hn => exact rfl
  | 20, _, hn => exact rfl
  | 21, _, hn => exact rfl
  | 22, _, hn => exact rfl
  | 23, _, hn => exact rfl
  | 24, _, hn => exact rfl
  | 25, _, hn => exact rfl
  | 26, _, hn => exact rfl
  | 27, _, hn => exact rfl
  | 28, _, hn => exact rfl
  | 29, _, hn => exact rfl
  | 30, _, hn => exact rfl
  | 31, _, hn => exact rfl
  | 32, _, hn => exact rfl
  | 33, _, hn => exact rfl
  | 34, _, hn => exact rfl
  | 35, _, hn => exact rfl
  | 36, _, hn => exact rfl
  | 37, _, hn => exact rfl
  | 38, _, hn => exact rfl
  | 39, _, hn => exact rfl
  | 40, _, hn => exact rfl
  | 41, _, hn => exact rfl
  | 42, _, hn => exact rfl
  | 43, _, hn => exact absurd rfl hn
  | (r + 44), hr, _ => exact absurd hr (by omega)
theorem cE_q0 {f : Int → Option Nat} (r : Nat) (hr : r < 44) (hn : r ≠ 25) : cE ad J B (uN Q 0 f) r = cE ad J B Q r := by
  match r, hr, hn with
  | 0, _, hn => exact rfl
  | 1, _, hn => exact rfl
  | 2, _, hn => exact rfl
  | 3, _, hn => exact rfl
  | 4, _, hn => exact rfl
  | 5, _, hn => exact rfl
  | 6, _, hn => exact rfl
  | 7, _, hn => exact rfl
  | 8, _, hn => exact rfl
  | 9, _, hn => exact rfl
  | 10, _, hn => exact rfl
  | 11, _, hn => exact rfl
  | 12, _, hn => exact rfl
  | 13, _, hn => exact rfl
  | 14, _, hn => exact rfl
  | 15, _, hn => exact rfl
  | 16, _, hn => exact rfl
  | 17, _, hn => exact rfl
  | 18, _, hn => exact rfl
  | 19, _, hn => exact rfl
  | 20, _, hn => exact rfl
  | 21, _, hn => exact rfl
  | 22, _, hn => exact rfl
  | 23, _, hn => exact rfl
  | 24, _, hn => exact rfl
  | 25, _, hn => exact absurd rfl hn
  | 26, _, hn => exact rfl
  | 27, _, hn => exact rfl
  | 28, _, hn => exact rfl
  | 29, _, hn => exact rfl
  | 30, _, hn => exact rfl
  | 31, _, hn => exact rfl
  | 32, _, hn => exact rfl
  | 33, _, hn => exact rfl
  | 34, _, hn => exact rfl
  | 35, _, hn => exact rfl
  | 36, _, hn => exact rfl
  | 37, _, hn => exact rfl
  | 38, _, hn => exact rfl
  | 39, _, hn => exact rfl
  | 40, _, hn => exact rfl
  | 41, _, hn => exact rfl
  | 42, _, hn => exact rfl
  | 43, _, hn => exact rfl
  | (r + 44), hr, _ => exact absurd hr (by omega)
theorem cE_q1 {f : Int → Option Nat} (r : Nat) (hr : r < 44) (hn : r ≠ 26) : cE ad J B (uN Q 1 f) r = cE ad J B Q r := by
  match r, hr, hn with
  | 0, _, hn => exact rfl
  | 1, _, hn => exact rfl
  | 2, _, hn => exact rfl
  | 3, _, hn => exact rfl
  | 4, _, hn => exact rfl
  | 5, _, hn => exact rfl
  | 6, _, hn => exact rfl
  | 7, _, hn => exact rfl
  | 8, _, hn => exact rfl
  | 9, _, hn => exact rfl
  | 10, _, hn => exact rfl
  | 11, _, hn => exact rfl
  | 12, _, hn => exact rfl
  | 13, _, hn => exact rfl
  | 14, _, hn => exact rfl
  | 15, _, hn => exact rfl
  | 16, _, hn => exact rfl
  | 17, _, hn => exact rfl
  | 18, _, hn => exact rfl
  | 19, _, hn => exact rfl
  | 20, _, hn => exact rfl
  | 21, _, hn => exact rfl
  | 22, _, hn => exact rfl
  | 23, _, hn => exact rfl
  | 24, _, hn => exact rfl
  | 25, _, hn => exact rfl
  | 26, _, hn => exact absurd rfl hn
  | 27, _, hn => exact rfl
  | 28, _, hn => exact rfl
  | 29, _, hn => exact rfl
  | 30, _, hn => exact rfl
  | 31, _, hn => exact rfl
  | 32, _, hn => exact rfl
  | 33, _, hn => exact rfl
  | 34, _, hn => exact rfl
  | 35, _, hn => exact rfl
  | 36, _, hn => exact rfl
  | 37, _, hn => exact rfl
  | 38, _, hn => exact rfl
  | 39, _, hn => exact rfl
  | 40, _, hn => exact rfl
  | 41, _, hn => exact rfl
  | 42, _, hn => exact rfl
  | 43, _, hn => exact rfl
  | (r + 44), hr, _ => exact absurd hr (by omega)
theorem cE_q2 {f : Int → Option Nat} (r : Nat) (hr : r < 44) (hn : r ≠ 31) : cE ad J B (uN Q 2 f) r = cE ad J B Q r := by
  match r, hr, hn with
  | 0, _, hn => exact rfl
  | 1, _, hn => exact rfl
  | 2, _, hn => exact rfl
  | 3, _, hn => exact rfl
  | 4, _, hn => exact rfl
  | 5, _, hn => exact rfl
  | 6, _, hn => exact rfl
  | 7, _, hn => exact rfl
  | 8, _, hn => exact rfl
  | 9, _, hn => exact rfl
  | 10, _, hn => exact rfl
  | 11, _, hn => exact rfl
  | 12, _, hn => exact rfl
  | 13, _, hn => exact rfl
  | 14, _, hn => exact rfl
  | 15, _, hn => exact rfl
  | 16, _, hn => exact rfl
  | 17, _, hn => exact rfl
  | 18, _, hn => exact rfl
  | 19, _, hn => exact rfl
  | 20, _, hn => exact rfl
  | 21, _, hn => exact rfl
  | 22, _, hn => exact rfl
  | 23, _, hn => exact rfl
  | 24, _, hn => exact rfl
  | 25, _, hn => exact rfl
  | 26, _, hn => exact rfl
  | 27, _, hn => exact rfl
  | 28, _, hn => exact rfl
  | 29, _, hn => exact rfl
  | 30, _, hn => exact rfl
  | 31, _, hn => exact absurd rfl hn
  | 32, _, hn => exact rfl
  | 33, _, hn => exact rfl
  | 34, _, hn => exact rfl
  | 35, _, hn => exact rfl
  | 36, _, hn => exact rfl
  | 37, _, hn => exact rfl
  | 38, _, hn => exact rfl
  | 39, _, hn => exact rfl
  | 40, _, hn => exact rfl
  | 41, _, hn => exact rfl
  | 42, _, hn => exact rfl
  | 43, _, hn => exact rfl
  | (r + 44), hr, _ => exact absurd hr (by omega)
end CON
section CGR
variable {X : ga_X} {R : Room} {nL : Nat} {cc : ByteArray} {h : ga_H} {ad : Nat → Nat} {J : Nat → Int} {B : Nat → Int → Int} {Q : Nat → Int → Option Nat} {Z : ga_H} {k n pc : Nat} {L : List (Option Value)} {st : List Value}
theorem cc_g_refusal (hc : cOn h ad J B Q Z) (d : decode cc pc = .ok (.getfield 1, 3)) (kk : G X R RX0 nL cc h k n (pc + 3) L (.ref (ad 1) :: st)) : G X R RX0 nL cc h k n pc L (.ref (ad 0) :: st) := ga_get (C := RX0) (T := TX0) (N := 29) in_X0 rfl (hc.1 0 (by decide)) 0 (by decide) q365 rfl rfl d kk
theorem cc_g_fault (hc : cOn h ad J B Q Z) (d : decode cc pc = .ok (.getfield 48, 3)) (kk : G X R RX0 nL cc h k n (pc + 3) L (.ref (ad 2) :: st)) : G X R RX0 nL cc h k n pc L (.ref (ad 0) :: st) := ga_get (C := RX0) (T := TX0) (N := 29) in_X0 rfl (hc.1 0 (by decide)) 1 (by decide) q366 rfl rfl d kk
theorem cc_g_unsolvable (hc : cOn h ad J B Q Z) (d : decode cc pc = .ok (.getfield 55, 3)) (kk : G X R RX0 nL cc h k n (pc + 3) L (.ref (ad 3) :: st)) : G X R RX0 nL cc h k n pc L (.ref (ad 0) :: st) := ga_get (C := RX0) (T := TX0) (N := 29) in_X0 rfl (hc.1 0 (by decide)) 2 (by decide) q367 rfl rfl d kk
theorem cc_g_now (hc : cOn h ad J B Q Z) (d : decode cc pc = .ok (.getfield 62, 3)) (kk : G X R RX0 nL cc h k n (pc + 3) L (.ref (ad 4) :: st)) : G X R RX0 nL cc h k n pc L (.ref (ad 0) :: st) := ga_get (C := RX0) (T := TX0) (N := 29) in_X0 rfl (hc.1 0 (by decide)) 3 (by decide) q368 rfl rfl d kk
theorem cc_g_kept (hc : cOn h ad J B Q Z) (d : decode cc pc = .ok (.getfield 66, 3)) (kk : G X R RX0 nL cc h k n (pc + 3) L (.ref (ad 5) :: st)) : G X R RX0 nL cc h k n pc L (.ref (ad 0) :: st) := ga_get (C := RX0) (T := TX0) (N := 29) in_X0 rfl (hc.1 0 (by decide)) 4 (by decide) q369 rfl rfl d kk
theorem cc_g_tried (hc : cOn h ad J B Q Z) (d : decode cc pc = .ok (.getfield 69, 3)) (kk : G X R RX0 nL cc h k n (pc + 3) L (.ref (ad 6) :: st)) : G X R RX0 nL cc h k n pc L (.ref (ad 0) :: st) := ga_get (C := RX0) (T := TX0) (N := 29) in_X0 rfl (hc.1 0 (by decide)) 5 (by decide) q370 rfl rfl d kk
theorem cc_g_equations (hc : cOn h ad J B Q Z) (d : decode cc pc = .ok (.getfield 72, 3)) (kk : G X R RX0 nL cc h k n (pc + 3) L (.ref (ad 25) :: st)) : G X R RX0 nL cc h k n pc L (.ref (ad 0) :: st) := ga_get (C := RX0) (T := TX0) (N := 29) in_X0 rfl (hc.1 0 (by decide)) 6 (by decide) q371 rfl rfl d kk
theorem cc_g_keptEquations (hc : cOn h ad J B Q Z) (d : decode cc pc = .ok (.getfield 76, 3)) (kk : G X R RX0 nL cc h k n (pc + 3) L (.ref (ad 26) :: st)) : G X R RX0 nL cc h k n pc L (.ref (ad 0) :: st) := ga_get (C := RX0) (T := TX0) (N := 29) in_X0 rfl (hc.1 0 (by decide)) 7 (by decide) q372 rfl rfl d kk
theorem cc_g_many {z : Int} (hc : cOn h ad J B Q Z) (hz : J 8 = z) (d : decode cc pc = .ok (.getfield 127, 3)) (kk : G X R RX0 nL cc h k n (pc + 3) L (.int (iI z) :: st)) : G X R RX0 nL cc h k n pc L (.ref (ad 0) :: st) := ga_get (C := RX0) (T := TX0) (N := 29) in_X0 rfl (hc.1 0 (by decide)) 8 (by decide) q373 rfl (by rw [← hz]; rfl) d kk
theorem cc_p_many {z : Int} {J1 : Nat → Int} (hc : cOn h ad J B Q Z) (hJ : uN J 8 z = J1) (d : decode cc pc = .ok (.putfield 127, 3)) (kk : ∀ h, cOn h ad J1 B Q Z → G X R RX0 nL cc h k n (pc + 3) L st) : G X R RX0 nL cc h k n pc L (.int (iI z) :: .ref (ad 0) :: st) := ga_put (C := RX0) (T := TX0) (N := 29) in_X0 tyX0_ok nmX0 rfl (hc.1 0 (by decide)) 8 (by decide) q373 rfl rfl rfl rfl (by show 8 < 29; decide) rfl d (kk _ (by subst hJ; exact hc.u 0 (by decide) (fun r hr hn => cE_x (by decide) r hr hn) rfl))
theorem cc_g_keptMany {z : Int} (hc : cOn h ad J B Q Z) (hz : J 9 = z) (d : decode cc pc = .ok (.getfield 594, 3)) (kk : G X R RX0 nL cc h k n (pc + 3) L (.int (iI z) :: st)) : G X R RX0 nL cc h k n pc L (.ref (ad 0) :: st) := ga_get (C := RX0) (T := TX0) (N := 29) in_X0 rfl (hc.1 0 (by decide)) 9 (by decide) q374 rfl (by rw [← hz]; rfl) d kk
theorem cc_p_keptMany {z : Int} {J1 : Nat → Int} (hc : cOn h ad J B Q Z) (hJ : uN J 9 z = J1) (d : decode cc pc = .ok (.putfield 594, 3)) (kk : ∀ h, cOn h ad J1 B Q Z → G X R RX0 nL cc h k n (pc + 3) L st) : G X R RX0 nL cc h k n pc L (.int (iI z) :: .ref (ad 0) :: st) := ga_put (C := RX0) (T := TX0) (N := 29) in_X0 tyX0_ok nmX0 rfl (hc.1 0 (by decide)) 9 (by decide) q374 rfl rfl rfl rfl (by show 9 < 29; decide) rfl d (kk _ (by subst hJ; exact hc.u 0 (by decide) (fun r hr hn => cE_x (by decide) r hr hn) rfl))
theorem cc_g_z {z : Int} (hc : cOn h ad J B Q Z) (hz : J 10 = z) (d : decode cc pc = .ok (.getfield 79, 3)) (kk : G X R RX0 nL cc h k n (pc + 3) L (.int (iI z) :: st)) : G X R RX0 nL cc h k n pc L (.ref (ad 0) :: st) := ga_get (C := RX0) (T := TX0) (N := 29) in_X0 rfl (hc.1 0 (by decide)) 10 (by decide) q375 rfl (by rw [← hz]; rfl) d kk
theorem cc_p_z {z : Int} {J1 : Nat → Int} (hc : cOn h ad J B Q Z) (hJ : uN J 10 z = J1) (d : decode cc pc = .ok (.putfield 79, 3)) (kk : ∀ h, cOn h ad J1 B Q Z → G X R RX0 nL cc h k n (pc + 3) L st) : G X R RX0 nL cc h k n pc L (.int (iI z) :: .ref (ad 0) :: st) := ga_put (C := RX0) (T := TX0) (N := 29) in_X0 tyX0_ok nmX0 rfl (hc.1 0 (by decide)) 10 (by decide) q375 rfl rfl rfl rfl (by show 10 < 29; decide) rfl d (kk _ (by subst hJ; exact hc.u 0 (by decide) (fun r hr hn => cE_x (by decide) r hr hn) rfl))
theorem cc_g_keptZ {z : Int} (hc : cOn h ad J B Q Z) (hz : J 11 = z) (d : decode cc pc = .ok (.getfield 597, 3)) (kk : G X R RX0 nL cc h k n (pc + 3) L (.int (iI z) :: st)) : G X R RX0 nL cc h k n pc L (.ref (ad 0) :: st) := ga_get (C := RX0) (T := TX0) (N := 29) in_X0 rfl (hc.1 0 (by decide)) 11 (by decide) q376 rfl (by rw [← hz]; rfl) d kk
theorem cc_p_keptZ {z : Int} {J1 : Nat → Int} (hc : cOn h ad J B Q Z) (hJ : uN J 11 z = J1) (d : decode cc pc = .ok (.putfield 597, 3)) (kk : ∀ h, cOn h ad J1 B Q Z → G X R RX0 nL cc h k n (pc + 3) L st) : G X R RX0 nL cc h k n pc L (.int (iI z) :: .ref (ad 0) :: st) := ga_put (C := RX0) (T := TX0) (N := 29) in_X0 tyX0_ok nmX0 rfl (hc.1 0 (by decide)) 11 (by decide) q376 rfl rfl rfl rfl (by show 11 < 29; decide) rfl d (kk _ (by subst hJ; exact hc.u 0 (by decide) (fun r hr hn => cE_x (by decide) r hr hn) rfl))
theorem cc_g_isKept {z : Int} (hc : cOn h ad J B Q Z) (hz : J 12 = z) (d : decode cc pc = .ok (.getfield 600, 3)) (kk : G X R RX0 nL cc h k n (pc + 3) L (.int (iI z) :: st)) : G X R RX0 nL cc h k n pc L (.ref (ad 0) :: st) := ga_get (C := RX0) (T := TX0) (N := 29) in_X0 rfl (hc.1 0 (by decide)) 12 (by decide) q377 rfl (by rw [← hz]; rfl) d kk
theorem cc_p_isKept {z : Int} {J1 : Nat → Int} (hc : cOn h ad J B Q Z) (hz : z = 0 ∨ z = 1) (hJ : uN J 12 z = J1) (d : decode cc pc = .ok (.putfield 600, 3)) (kk : ∀ h, cOn h ad J1 B Q Z → G X R RX0 nL cc h k n (pc + 3) L st) : G X R RX0 nL cc h k n pc L (.int (iI z) :: .ref (ad 0) :: st) := ga_put (C := RX0) (T := TX0) (N := 29) in_X0 tyX0_ok nmX0 rfl (hc.1 0 (by decide)) 12 (by decide) q377 rfl rfl (by rcases hz with rfl | rfl <;> rfl) (by rcases hz with rfl | rfl <;> rfl) (by show 12 < 29; decide) rfl d (kk _ (by subst hJ; exact hc.u 0 (by decide) (fun r hr hn => cE_x (by decide) r hr hn) rfl))
theorem cc_g_names (hc : cOn h ad J B Q Z) (d : decode cc pc = .ok (.getfield 91, 3)) (kk : G X R RX0 nL cc h k n (pc + 3) L (.ref (ad 27) :: st)) : G X R RX0 nL cc h k n pc L (.ref (ad 0) :: st) := ga_get (C := RX0) (T := TX0) (N := 29) in_X0 rfl (hc.1 0 (by decide)) 13 (by decide) q378 rfl rfl d kk
theorem cc_g_tape (hc : cOn h ad J B Q Z) (d : decode cc pc = .ok (.getfield 95, 3)) (kk : G X R RX0 nL cc h k n (pc + 3) L (.ref (ad 28) :: st)) : G X R RX0 nL cc h k n pc L (.ref (ad 0) :: st) := ga_get (C := RX0) (T := TX0) (N := 29) in_X0 rfl (hc.1 0 (by decide)) 14 (by decide) q379 rfl rfl d kk
theorem cc_g_tapeMany {z : Int} (hc : cOn h ad J B Q Z) (hz : J 15 = z) (d : decode cc pc = .ok (.getfield 218, 3)) (kk : G X R RX0 nL cc h k n (pc + 3) L (.int (iI z) :: st)) : G X R RX0 nL cc h k n pc L (.ref (ad 0) :: st) := ga_get (C := RX0) (T := TX0) (N := 29) in_X0 rfl (hc.1 0 (by decide)) 15 (by decide) q380 rfl (by rw [← hz]; rfl) d kk
theorem cc_p_tapeMany {z : Int} {J1 : Nat → Int} (hc : cOn h ad J B Q Z) (hJ : uN J 15 z = J1) (d : decode cc pc = .ok (.putfield 218, 3)) (kk : ∀ h, cOn h ad J1 B Q Z → G X R RX0 nL cc h k n (pc + 3) L st) : G X R RX0 nL cc h k n pc L (.int (iI z) :: .ref (ad 0) :: st) := ga_put (C := RX0) (T := TX0) (N := 29) in_X0 tyX0_ok nmX0 rfl (hc.1 0 (by decide)) 15 (by decide) q380 rfl rfl rfl rfl (by show 15 < 29; decide) rfl d (kk _ (by subst hJ; exact hc.u 0 (by decide) (fun r hr hn => cE_x (by decide) r hr hn) rfl))
theorem cc_g_at {z : Int} (hc : cOn h ad J B Q Z) (hz : J 16 = z) (d : decode cc pc = .ok (.getfield 224, 3)) (kk : G X R RX0 nL cc h k n (pc + 3) L (.int (iI z) :: st)) : G X R RX0 nL cc h k n pc L (.ref (ad 0) :: st) := ga_get (C := RX0) (T := TX0) (N := 29) in_X0 rfl (hc.1 0 (by decide)) 16 (by decide) q381 rfl (by rw [← hz]; rfl) d kk
theorem cc_p_at {z : Int} {J1 : Nat → Int} (hc : cOn h ad J B Q Z) (hJ : uN J 16 z = J1) (d : decode cc pc = .ok (.putfield 224, 3)) (kk : ∀ h, cOn h ad J1 B Q Z → G X R RX0 nL cc h k n (pc + 3) L st) : G X R RX0 nL cc h k n pc L (.int (iI z) :: .ref (ad 0) :: st) := ga_put (C := RX0) (T := TX0) (N := 29) in_X0 tyX0_ok nmX0 rfl (hc.1 0 (by decide)) 16 (by decide) q381 rfl rfl rfl rfl (by show 16 < 29; decide) rfl d (kk _ (by subst hJ; exact hc.u 0 (by decide) (fun r hr hn => cE_x (by decide) r hr hn) rfl))
theorem cc_g_end {z : Int} (hc : cOn h ad J B Q Z) (hz : J 17 = z) (d : decode cc pc = .ok (.getfield 221, 3)) (kk : G X R RX0 nL cc h k n (pc + 3) L (.int (iI z) :: st)) : G X R RX0 nL cc h k n pc L (.ref (ad 0) :: st) := ga_get (C := RX0) (T := TX0) (N := 29) in_X0 rfl (hc.1 0 (by decide)) 17 (by decide) q382 rfl (by rw [← hz]; rfl) d kk
theorem cc_p_end {z : Int} {J1 : Nat → Int} (hc : cOn h ad J B Q Z) (hJ : uN J 17 z = J1) (d : decode cc pc = .ok (.putfield 221, 3)) (kk : ∀ h, cOn h ad J1 B Q Z → G X R RX0 nL cc h k n (pc + 3) L st) : G X R RX0 nL cc h k n pc L (.int (iI z) :: .ref (ad 0) :: st) := ga_put (C := RX0) (T := TX0) (N := 29) in_X0 tyX0_ok nmX0 rfl (hc.1 0 (by decide)) 17 (by decide) q382 rfl rfl rfl rfl (by show 17 < 29; decide) rfl d (kk _ (by subst hJ; exact hc.u 0 (by decide) (fun r hr hn => cE_x (by decide) r hr hn) rfl))
theorem cc_g_grid (hc : cOn h ad J B Q Z) (d : decode cc pc = .ok (.getfield 99, 3)) (kk : G X R RX0 nL cc h k n (pc + 3) L (.ref (ad 29) :: st)) : G X R RX0 nL cc h k n pc L (.ref (ad 0) :: st) := ga_get (C := RX0) (T := TX0) (N := 29) in_X0 rfl (hc.1 0 (by decide)) 18 (by decide) q383 rfl rfl d kk
theorem cc_g_pivotAt (hc : cOn h ad J B Q Z) (d : decode cc pc = .ok (.getfield 103, 3)) (kk : G X R RX0 nL cc h k n (pc + 3) L (.ref (ad 30) :: st)) : G X R RX0 nL cc h k n pc L (.ref (ad 0) :: st) := ga_get (C := RX0) (T := TX0) (N := 29) in_X0 rfl (hc.1 0 (by decide)) 19 (by decide) q384 rfl rfl d kk
theorem cc_g_gridRows {z : Int} (hc : cOn h ad J B Q Z) (hz : J 20 = z) (d : decode cc pc = .ok (.getfield 289, 3)) (kk : G X R RX0 nL cc h k n (pc + 3) L (.int (iI z) :: st)) : G X R RX0 nL cc h k n pc L (.ref (ad 0) :: st) := ga_get (C := RX0) (T := TX0) (N := 29) in_X0 rfl (hc.1 0 (by decide)) 20 (by decide) q385 rfl (by rw [← hz]; rfl) d kk
theorem cc_p_gridRows {z : Int} {J1 : Nat → Int} (hc : cOn h ad J B Q Z) (hJ : uN J 20 z = J1) (d : decode cc pc = .ok (.putfield 289, 3)) (kk : ∀ h, cOn h ad J1 B Q Z → G X R RX0 nL cc h k n (pc + 3) L st) : G X R RX0 nL cc h k n pc L (.int (iI z) :: .ref (ad 0) :: st) := ga_put (C := RX0) (T := TX0) (N := 29) in_X0 tyX0_ok nmX0 rfl (hc.1 0 (by decide)) 20 (by decide) q385 rfl rfl rfl rfl (by show 20 < 29; decide) rfl d (kk _ (by subst hJ; exact hc.u 0 (by decide) (fun r hr hn => cE_x (by decide) r hr hn) rfl))
theorem cc_g_gridUnknowns {z : Int} (hc : cOn h ad J B Q Z) (hz : J 21 = z) (d : decode cc pc = .ok (.getfield 292, 3)) (kk : G X R RX0 nL cc h k n (pc + 3) L (.int (iI z) :: st)) : G X R RX0 nL cc h k n pc L (.ref (ad 0) :: st) := ga_get (C := RX0) (T := TX0) (N := 29) in_X0 rfl (hc.1 0 (by decide)) 21 (by decide) q386 rfl (by rw [← hz]; rfl) d kk
theorem cc_p_gridUnknowns {z : Int} {J1 : Nat → Int} (hc : cOn h ad J B Q Z) (hJ : uN J 21 z = J1) (d : decode cc pc = .ok (.putfield 292, 3)) (kk : ∀ h, cOn h ad J1 B Q Z → G X R RX0 nL cc h k n (pc + 3) L st) : G X R RX0 nL cc h k n pc L (.int (iI z) :: .ref (ad 0) :: st) := ga_put (C := RX0) (T := TX0) (N := 29) in_X0 tyX0_ok nmX0 rfl (hc.1 0 (by decide)) 21 (by decide) q386 rfl rfl rfl rfl (by show 21 < 29; decide) rfl d (kk _ (by subst hJ; exact hc.u 0 (by decide) (fun r hr hn => cE_x (by decide) r hr hn) rfl))
theorem cc_g_rank {z : Int} (hc : cOn h ad J B Q Z) (hz : J 22 = z) (d : decode cc pc = .ok (.getfield 345, 3)) (kk : G X R RX0 nL cc h k n (pc + 3) L (.int (iI z) :: st)) : G X R RX0 nL cc h k n pc L (.ref (ad 0) :: st) := ga_get (C := RX0) (T := TX0) (N := 29) in_X0 rfl (hc.1 0 (by decide)) 22 (by decide) q387 rfl (by rw [← hz]; rfl) d kk
theorem cc_p_rank {z : Int} {J1 : Nat → Int} (hc : cOn h ad J B Q Z) (hJ : uN J 22 z = J1) (d : decode cc pc = .ok (.putfield 345, 3)) (kk : ∀ h, cOn h ad J1 B Q Z → G X R RX0 nL cc h k n (pc + 3) L st) : G X R RX0 nL cc h k n pc L (.int (iI z) :: .ref (ad 0) :: st) := ga_put (C := RX0) (T := TX0) (N := 29) in_X0 tyX0_ok nmX0 rfl (hc.1 0 (by decide)) 22 (by decide) q387 rfl rfl rfl rfl (by show 22 < 29; decide) rfl d (kk _ (by subst hJ; exact hc.u 0 (by decide) (fun r hr hn => cE_x (by decide) r hr hn) rfl))
theorem cc_g_sign {z : Int} (hc : cOn h ad J B Q Z) (hz : J 23 = z) (d : decode cc pc = .ok (.getfield 329, 3)) (kk : G X R RX0 nL cc h k n (pc + 3) L (.int (iI z) :: st)) : G X R RX0 nL cc h k n pc L (.ref (ad 0) :: st) := ga_get (C := RX0) (T := TX0) (N := 29) in_X0 rfl (hc.1 0 (by decide)) 23 (by decide) q388 rfl (by rw [← hz]; rfl) d kk
theorem cc_p_sign {z : Int} {J1 : Nat → Int} (hc : cOn h ad J B Q Z) (hJ : uN J 23 z = J1) (d : decode cc pc = .ok (.putfield 329, 3)) (kk : ∀ h, cOn h ad J1 B Q Z → G X R RX0 nL cc h k n (pc + 3) L st) : G X R RX0 nL cc h k n pc L (.int (iI z) :: .ref (ad 0) :: st) := ga_put (C := RX0) (T := TX0) (N := 29) in_X0 tyX0_ok nmX0 rfl (hc.1 0 (by decide)) 23 (by decide) q388 rfl rfl rfl rfl (by show 23 < 29; decide) rfl d (kk _ (by subst hJ; exact hc.u 0 (by decide) (fun r hr hn => cE_x (by decide) r hr hn) rfl))
theorem cc_g_pivot {z : Int} (hc : cOn h ad J B Q Z) (hz : J 24 = z) (d : decode cc pc = .ok (.getfield 341, 3)) (kk : G X R RX0 nL cc h k n (pc + 3) L (.long (lI z) :: st)) : G X R RX0 nL cc h k n pc L (.ref (ad 0) :: st) := ga_get (C := RX0) (T := TX0) (N := 29) in_X0 rfl (hc.1 0 (by decide)) 24 (by decide) q389 rfl (by rw [← hz]; rfl) d kk
theorem cc_p_pivot {z : Int} {J1 : Nat → Int} (hc : cOn h ad J B Q Z) (hJ : uN J 24 z = J1) (d : decode cc pc = .ok (.putfield 341, 3)) (kk : ∀ h, cOn h ad J1 B Q Z → G X R RX0 nL cc h k n (pc + 3) L st) : G X R RX0 nL cc h k n pc L (.long (lI z) :: .ref (ad 0) :: st) := ga_put (C := RX0) (T := TX0) (N := 29) in_X0 tyX0_ok nmX0 rfl (hc.1 0 (by decide)) 24 (by decide) q389 rfl rfl rfl rfl (by show 24 < 29; decide) rfl d (kk _ (by subst hJ; exact hc.u 0 (by decide) (fun r hr hn => cE_x (by decide) r hr hn) rfl))
theorem cc_g_strangers (hc : cOn h ad J B Q Z) (d : decode cc pc = .ok (.getfield 107, 3)) (kk : G X R RX0 nL cc h k n (pc + 3) L (.ref (ad 31) :: st)) : G X R RX0 nL cc h k n pc L (.ref (ad 0) :: st) := ga_get (C := RX0) (T := TX0) (N := 29) in_X0 rfl (hc.1 0 (by decide)) 25 (by decide) q390 rfl rfl d kk
theorem cc_g_shelves (hc : cOn h ad J B Q Z) (d : decode cc pc = .ok (.getfield 112, 3)) (kk : G X R RX0 nL cc h k n (pc + 3) L (.ref (ad 32) :: st)) : G X R RX0 nL cc h k n pc L (.ref (ad 0) :: st) := ga_get (C := RX0) (T := TX0) (N := 29) in_X0 rfl (hc.1 0 (by decide)) 26 (by decide) q391 rfl rfl d kk
theorem cc_g_sheets (hc : cOn h ad J B Q Z) (d : decode cc pc = .ok (.getfield 116, 3)) (kk : G X R RX0 nL cc h k n (pc + 3) L (.ref (ad 33) :: st)) : G X R RX0 nL cc h k n pc L (.ref (ad 0) :: st) := ga_get (C := RX0) (T := TX0) (N := 29) in_X0 rfl (hc.1 0 (by decide)) 27 (by decide) q392 rfl rfl d kk
theorem cc_g_trace (hc : cOn h ad J B Q Z) (d : decode cc pc = .ok (.getfield 122, 3)) (kk : G X R RX0 nL cc h k n (pc + 3) L (.ref (ad 42) :: st)) : G X R RX0 nL cc h k n pc L (.ref (ad 0) :: st) := ga_get (C := RX0) (T := TX0) (N := 29) in_X0 rfl (hc.1 0 (by decide)) 28 (by decide) q393 rfl rfl d kk
theorem cc_ald0 {own : String} {z x : Int} (hc : cOn h ad J B Q Z) (hz : 0 ≤ z ∧ z < 9) (hx : B 0 z = x) (d : decode cc pc = .ok (.laload, 1)) (kk : G X R own nL cc h k n (pc + 1) L (.long (lI x) :: st)) : G X R own nL cc h k n pc L (.int (iI z) :: .ref (ad 16) :: st) := ga_lald (N := 9) (hc.1 16 (by decide)) hz (by decide) d (by rw [hx]; exact kk)
theorem cc_ast0 {own : String} {z x : Int} {B1 : Nat → Int → Int} (hc : cOn h ad J B Q Z) (hz : 0 ≤ z ∧ z < 9) (hB : uN B 0 (uZ (B 0) z (x)) = B1) (d : decode cc pc = .ok (.lastore, 1)) (kk : ∀ h, cOn h ad J B1 Q Z → G X R own nL cc h k n (pc + 1) L st) : G X R own nL cc h k n pc L (.long (lI x) :: .int (iI z) :: .ref (ad 16) :: st) := ga_last (N := 9) (hc.1 16 (by decide)) hz (by decide) d (kk _ (by subst hB; exact hc.u 16 (by decide) (fun r hr hn => cE_b0 r hr hn) rfl))
theorem cc_ald1 {own : String} {z x : Int} (hc : cOn h ad J B Q Z) (hz : 0 ≤ z ∧ z < 9) (hx : B 1 z = x) (d : decode cc pc = .ok (.laload, 1)) (kk : G X R own nL cc h k n (pc + 1) L (.long (lI x) :: st)) : G X R own nL cc h k n pc L (.int (iI z) :: .ref (ad 17) :: st) := ga_lald (N := 9) (hc.1 17 (by decide)) hz (by decide) d (by rw [hx]; exact kk)
theorem cc_ast1 {own : String} {z x : Int} {B1 : Nat → Int → Int} (hc : cOn h ad J B Q Z) (hz : 0 ≤ z ∧ z < 9) (hB : uN B 1 (uZ (B 1) z (x)) = B1) (d : decode cc pc = .ok (.lastore, 1)) (kk : ∀ h, cOn h ad J B1 Q Z → G X R own nL cc h k n (pc + 1) L st) : G X R own nL cc h k n pc L (.long (lI x) :: .int (iI z) :: .ref (ad 17) :: st) := ga_last (N := 9) (hc.1 17 (by decide)) hz (by decide) d (kk _ (by subst hB; exact hc.u 17 (by decide) (fun r hr hn => cE_b1 r hr hn) rfl))
theorem cc_ald2 {own : String} {z x : Int} (hc : cOn h ad J B Q Z) (hz : 0 ≤ z ∧ z < 9) (hx : B 2 z = x) (d : decode cc pc = .ok (.laload, 1)) (kk : G X R own nL cc h k n (pc + 1) L (.long (lI x) :: st)) : G X R own nL cc h k n pc L (.int (iI z) :: .ref (ad 18) :: st) := ga_lald (N := 9) (hc.1 18 (by decide)) hz (by decide) d (by rw [hx]; exact kk)
theorem cc_ast2 {own : String} {z x : Int} {B1 : Nat → Int → Int} (hc : cOn h ad J B Q Z) (hz : 0 ≤ z ∧ z < 9) (hB : uN B 2 (uZ (B 2) z (x)) = B1) (d : decode cc pc = .ok (.lastore, 1)) (kk : ∀ h, cOn h ad J B1 Q Z → G X R own nL cc h k n (pc + 1) L st) : G X R own nL cc h k n pc L (.long (lI x) :: .int (iI z) :: .ref (ad 18) :: st) := ga_last (N := 9) (hc.1 18 (by decide)) hz (by decide) d (kk _ (by subst hB; exact hc.u 18 (by decide) (fun r hr hn => cE_b2 r hr hn) rfl))
theorem cc_ald3 {own : String} {z x : Int} (hc : cOn h ad J B Q Z) (hz : 0 ≤ z ∧ z < 9) (hx : B 3 z = x) (d : decode cc pc = .ok (.laload, 1)) (kk : G X R own nL cc h k n (pc + 1) L (.long (lI x) :: st)) : G X R own nL cc h k n pc L (.int (iI z) :: .ref (ad 19) :: st) := ga_lald (N := 9) (hc.1 19 (by decide)) hz (by decide) d (by rw [hx]; exact kk)
theorem cc_ast3 {own : String} {z x : Int} {B1 : Nat → Int → Int} (hc : cOn h ad J B Q Z) (hz : 0 ≤ z ∧ z < 9) (hB : uN B 3 (uZ (B 3) z (x)) = B1) (d : decode cc pc = .ok (.lastore, 1)) (kk : ∀ h, cOn h ad J B1 Q Z → G X R own nL cc h k n (pc + 1) L st) : G X R own nL cc h k n pc L (.long (lI x) :: .int (iI z) :: .ref (ad 19) :: st) := ga_last (N := 9) (hc.1 19 (by decide)) hz (by decide) d (kk _ (by subst hB; exact hc.u 19 (by decide) (fun r hr hn => cE_b3 r hr hn) rfl))
theorem cc_ald4 {own : String} {z x : Int} (hc : cOn h ad J B Q Z) (hz : 0 ≤ z ∧ z < 9) (hx : B 4 z = x) (d : decode cc pc = .ok (.laload, 1)) (kk : G X R own nL cc h k n (pc + 1) L (.long (lI x) :: st)) : G X R own nL cc h k n pc L (.int (iI z) :: .ref (ad 20) :: st) := ga_lald (N := 9) (hc.1 20 (by decide)) hz (by decide) d (by rw [hx]; exact kk)
theorem cc_ast4 {own : String} {z x : Int} {B1 : Nat → Int → Int} (hc : cOn h ad J B Q Z) (hz : 0 ≤ z ∧ z < 9) (hB : uN B 4 (uZ (B 4) z (x)) = B1) (d : decode cc pc = .ok (.lastore, 1)) (kk : ∀ h, cOn h ad J B1 Q Z → G X R own nL cc h k n (pc + 1) L st) : G X R own nL cc h k n pc L (.long (lI x) :: .int (iI z) :: .ref (ad 20) :: st) := ga_last (N := 9) (hc.1 20 (by decide)) hz (by decide) d (kk _ (by subst hB; exact hc.u 20 (by decide) (fun r hr hn => cE_b4 r hr hn) rfl))
theorem cc_ald5 {own : String} {z x : Int} (hc : cOn h ad J B Q Z) (hz : 0 ≤ z ∧ z < 9) (hx : B 5 z = x) (d : decode cc pc = .ok (.laload, 1)) (kk : G X R own nL cc h k n (pc + 1) L (.long (lI x) :: st)) : G X R own nL cc h k n pc L (.int (iI z) :: .ref (ad 21) :: st) := ga_lald (N := 9) (hc.1 21 (by decide)) hz (by decide) d (by rw [hx]; exact kk)
theorem cc_ast5 {own : String} {z x : Int} {B1 : Nat → Int → Int} (hc : cOn h ad J B Q Z) (hz : 0 ≤ z ∧ z < 9) (hB : uN B 5 (uZ (B 5) z (x)) = B1) (d : decode cc pc = .ok (.lastore, 1)) (kk : ∀ h, cOn h ad J B1 Q Z → G X R own nL cc h k n (pc + 1) L st) : G X R own nL cc h k n pc L (.long (lI x) :: .int (iI z) :: .ref (ad 21) :: st) := ga_last (N := 9) (hc.1 21 (by decide)) hz (by decide) d (kk _ (by subst hB; exact hc.u 21 (by decide) (fun r hr hn => cE_b5 r hr hn) rfl))
theorem cc_ald6 {own : String} {z x : Int} (hc : cOn h ad J B Q Z) (hz : 0 ≤ z ∧ z < 9) (hx : B 6 z = x) (d : decode cc pc = .ok (.laload, 1)) (kk : G X R own nL cc h k n (pc + 1) L (.long (lI x) :: st)) : G X R own nL cc h k n pc L (.int (iI z) :: .ref (ad 22) :: st) := ga_lald (N := 9) (hc.1 22 (by decide)) hz (by decide) d (by rw [hx]; exact kk)
theorem cc_ast6 {own : String} {z x : Int} {B1 : Nat → Int → Int} (hc : cOn h ad J B Q Z) (hz : 0 ≤ z ∧ z < 9) (hB : uN B 6 (uZ (B 6) z (x)) = B1) (d : decode cc pc = .ok (.lastore, 1)) (kk : ∀ h, cOn h ad J B1 Q Z → G X R own nL cc h k n (pc + 1) L st) : G X R own nL cc h k n pc L (.long (lI x) :: .int (iI z) :: .ref (ad 22) :: st) := ga_last (N := 9) (hc.1 22 (by decide)) hz (by decide) d (kk _ (by subst hB; exact hc.u 22 (by decide) (fun r hr hn => cE_b6 r hr hn) rfl))
theorem cc_ald7 {own : String} {z x : Int} (hc : cOn h ad J B Q Z) (hz : 0 ≤ z ∧ z < 9) (hx : B 7 z = x) (d : decode cc pc = .ok (.laload, 1)) (kk : G X R own nL cc h k n (pc + 1) L (.long (lI x) :: st)) : G X R own nL cc h k n pc L (.int (iI z) :: .ref (ad 23) :: st) := ga_lald (N := 9) (hc.1 23 (by decide)) hz (by decide) d (by rw [hx]; exact kk)
theorem cc_ast7 {own : String} {z x : Int} {B1 : Nat → Int → Int} (hc : cOn h ad J B Q Z) (hz : 0 ≤ z ∧ z < 9) (hB : uN B 7 (uZ (B 7) z (x)) = B1) (d : decode cc pc = .ok (.lastore, 1)) (kk : ∀ h, cOn h ad J B1 Q Z → G X R own nL cc h k n (pc + 1) L st) : G X R own nL cc h k n pc L (.long (lI x) :: .int (iI z) :: .ref (ad 23) :: st) := ga_last (N := 9) (hc.1 23 (by decide)) hz (by decide) d (kk _ (by subst hB; exact hc.u 23 (by decide) (fun r hr hn => cE_b7 r hr hn) rfl))
theorem cc_ald8 {own : String} {z x : Int} (hc : cOn h ad J B Q Z) (hz : 0 ≤ z ∧ z < 9) (hx : B 8 z = x) (d : decode cc pc = .ok (.laload, 1)) (kk : G X R own nL cc h k n (pc + 1) L (.long (lI x) :: st)) : G X R own nL cc h k n pc L (.int (iI z) :: .ref (ad 24) :: st) := ga_lald (N := 9) (hc.1 24 (by decide)) hz (by decide) d (by rw [hx]; exact kk)
theorem cc_ast8 {own : String} {z x : Int} {B1 : Nat → Int → Int} (hc : cOn h ad J B Q Z) (hz : 0 ≤ z ∧ z < 9) (hB : uN B 8 (uZ (B 8) z (x)) = B1) (d : decode cc pc = .ok (.lastore, 1)) (kk : ∀ h, cOn h ad J B1 Q Z → G X R own nL cc h k n (pc + 1) L st) : G X R own nL cc h k n pc L (.long (lI x) :: .int (iI z) :: .ref (ad 24) :: st) := ga_last (N := 9) (hc.1 24 (by decide)) hz (by decide) d (kk _ (by subst hB; exact hc.u 24 (by decide) (fun r hr hn => cE_b8 r hr hn) rfl))
theorem cc_ald9 {own : String} {z x : Int} (hc : cOn h ad J B Q Z) (hz : 0 ≤ z ∧ z < 200) (hx : B 9 z = x) (d : decode cc pc = .ok (.baload, 1)) (kk : G X R own nL cc h k n (pc + 1) L (.int (iI x) :: st)) : G X R own nL cc h k n pc L (.int (iI z) :: .ref (ad 28) :: st) := ga_bald (N := 200) (hc.1 28 (by decide)) hz (by decide) d (by rw [hx]; exact kk)
theorem cc_ast9 {own : String} {z x : Int} {B1 : Nat → Int → Int} (hc : cOn h ad J B Q Z) (hz : 0 ≤ z ∧ z < 200) (hB : uN B 9 (uZ (B 9) z (x.bmod 256)) = B1) (d : decode cc pc = .ok (.bastore, 1)) (kk : ∀ h, cOn h ad J B1 Q Z → G X R own nL cc h k n (pc + 1) L st) : G X R own nL cc h k n pc L (.int (iI x) :: .int (iI z) :: .ref (ad 28) :: st) := ga_bast (N := 200) (hc.1 28 (by decide)) hz (by decide) d (kk _ (by subst hB; exact hc.u 28 (by decide) (fun r hr hn => cE_b9 r hr hn) rfl))
theorem cc_ald10 {own : String} {z x : Int} (hc : cOn h ad J B Q Z) (hz : 0 ≤ z ∧ z < 100) (hx : B 10 z = x) (d : decode cc pc = .ok (.laload, 1)) (kk : G X R own nL cc h k n (pc + 1) L (.long (lI x) :: st)) : G X R own nL cc h k n pc L (.int (iI z) :: .ref (ad 29) :: st) := ga_lald (N := 100) (hc.1 29 (by decide)) hz (by decide) d (by rw [hx]; exact kk)
theorem cc_ast10 {own : String} {z x : Int} {B1 : Nat → Int → Int} (hc : cOn h ad J B Q Z) (hz : 0 ≤ z ∧ z < 100) (hB : uN B 10 (uZ (B 10) z (x)) = B1) (d : decode cc pc = .ok (.lastore, 1)) (kk : ∀ h, cOn h ad J B1 Q Z → G X R own nL cc h k n (pc + 1) L st) : G X R own nL cc h k n pc L (.long (lI x) :: .int (iI z) :: .ref (ad 29) :: st) := ga_last (N := 100) (hc.1 29 (by decide)) hz (by decide) d (kk _ (by subst hB; exact hc.u 29 (by decide) (fun r hr hn => cE_b10 r hr hn) rfl))
theorem cc_ald11 {own : String} {z x : Int} (hc : cOn h ad J B Q Z) (hz : 0 ≤ z ∧ z < 10) (hx : B 11 z = x) (d : decode cc pc = .ok (.iaload, 1)) (kk : G X R own nL cc h k n (pc + 1) L (.int (iI x) :: st)) : G X R own nL cc h k n pc L (.int (iI z) :: .ref (ad 30) :: st) := ga_iald (N := 10) (hc.1 30 (by decide)) hz (by decide) d (by rw [hx]; exact kk)
theorem cc_ast11 {own : String} {z x : Int} {B1 : Nat → Int → Int} (hc : cOn h ad J B Q Z) (hz : 0 ≤ z ∧ z < 10) (hB : uN B 11 (uZ (B 11) z (x)) = B1) (d : decode cc pc = .ok (.iastore, 1)) (kk : ∀ h, cOn h ad J B1 Q Z → G X R own nL cc h k n (pc + 1) L st) : G X R own nL cc h k n pc L (.int (iI x) :: .int (iI z) :: .ref (ad 30) :: st) := ga_iast (N := 10) (hc.1 30 (by decide)) hz (by decide) d (kk _ (by subst hB; exact hc.u 30 (by decide) (fun r hr hn => cE_b11 r hr hn) rfl))
theorem cc_ald12 {own : String} {z x : Int} (hc : cOn h ad J B Q Z) (hz : 0 ≤ z ∧ z < 30) (hx : B 12 z = x) (d : decode cc pc = .ok (.iaload, 1)) (kk : G X R own nL cc h k n (pc + 1) L (.int (iI x) :: st)) : G X R own nL cc h k n pc L (.int (iI z) :: .ref (ad 43) :: st) := ga_iald (N := 30) (hc.1 43 (by decide)) hz (by decide) d (by rw [hx]; exact kk)
theorem cc_ast12 {own : String} {z x : Int} {B1 : Nat → Int → Int} (hc : cOn h ad J B Q Z) (hz : 0 ≤ z ∧ z < 30) (hB : uN B 12 (uZ (B 12) z (x)) = B1) (d : decode cc pc = .ok (.iastore, 1)) (kk : ∀ h, cOn h ad J B1 Q Z → G X R own nL cc h k n (pc + 1) L st) : G X R own nL cc h k n pc L (.int (iI x) :: .int (iI z) :: .ref (ad 43) :: st) := ga_iast (N := 30) (hc.1 43 (by decide)) hz (by decide) d (kk _ (by subst hB; exact hc.u 43 (by decide) (fun r hr hn => cE_b12 r hr hn) rfl))
end CGR
