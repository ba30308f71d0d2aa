/-! THE CLASS: tables made anew -/
def adT (ad : Nat → Nat) (a q t0 t1 t2 c0 c1 c2 : Nat) : Nat → Nat := fun r => if r = 4 + a then q else if r = 7 + 3 * a then t0 else if r = 8 + 3 * a then t1 else if r = 9 + 3 * a then t2 else if r = 16 + 3 * a then c0 else if r = 17 + 3 * a then c1 else if r = 18 + 3 * a then c2 else ad r
theorem fOn.f {h h1 : ga_H} {q : Nat} {e0 : ga_E} (hq : h q = none) {V : List (Nat × ga_E)} (hf : fOn (ga_u h q e0) h1 (fun x => x = q) V) : fOn h h1 (fun _ => False) V := by
  refine ⟨fun x e hx _ => ?_, hf.2.1, hf.2.2.1, fun p hp => Or.inr ?_, fun x hx => hx.elim⟩
  · have hne : x ≠ q := fun z => by rw [z, hq] at hx; cases hx
    exact hf.1 x e (by rw [ga_un hne]; exact hx) hne
  · rcases hf.2.2.2.1 p hp with z | z
    · rw [z]; exact hq
    · by_cases y : p.1 = q
      · rw [y]; exact hq
      · rw [ga_un y] at z; exact z
set_option maxHeartbeats 4000000 in
set_option maxRecDepth 100000 in
theorem cOn_newT0 {h h1 : ga_H} {ad : Nat → Nat} {J : Nat → Int} {B : Nat → Int → Int} {Q : Nat → Int → Option Nat} {Z : ga_H} (hc : cOn h ad J B Q Z) {m n : Int} {q t0 t1 t2 c0 c1 c2 : Nat} (hf : fOn h h1 (fun _ => False) [(c2, aL 9 (fun _ => 0)), (t2, oE 5 [.int (iI m), .int (iI n), .int (iI 9), .ref c2]), (c1, aL 9 (fun _ => 0)), (t1, oE 5 [.int (iI n), .int (iI n), .int (iI 9), .ref c1]), (c0, aL 9 (fun _ => 0)), (t0, oE 5 [.int (iI m), .int (iI m), .int (iI 9), .ref c0]), (q, oE 4 [.int (iI m), .int (iI n), .ref t0, .ref t1, .ref t2])]) : cOn (ga_u h1 (ad 0) (cE (adT ad 0 q t0 t1 t2 c0 c1 c2) (uN (uN J 30 m) 31 n) (uN (uN (uN B 0 (fun _ => 0)) 1 (fun _ => 0)) 2 (fun _ => 0)) Q 0)) (adT ad 0 q t0 t1 t2 c0 c1 c2) (uN (uN J 30 m) 31 n) (uN (uN (uN B 0 (fun _ => 0)) 1 (fun _ => 0)) 2 (fun _ => 0)) Q Z := by
  have old : ∀ {x e}, h x = some e → h1 x = some e := fun hx => hf.1 _ _ hx (fun z => z)
  have ol2 : ∀ {r}, r < 44 → r ≠ 0 → ga_u h1 (ad 0) (cE (adT ad 0 q t0 t1 t2 c0 c1 c2) (uN (uN J 30 m) 31 n) (uN (uN (uN B 0 (fun _ => 0)) 1 (fun _ => 0)) 2 (fun _ => 0)) Q 0) (ad r) = some (cE ad J B Q r) := fun hr h0 => by rw [ga_un (fun z => h0 (hc.2.1 _ hr 0 (by decide) z))]; exact old (hc.1 _ hr)
  have fr : ∀ p ∈ [(c2, aL 9 (fun _ => 0)), (t2, oE 5 [.int (iI m), .int (iI n), .int (iI 9), .ref c2]), (c1, aL 9 (fun _ => 0)), (t1, oE 5 [.int (iI n), .int (iI n), .int (iI 9), .ref c1]), (c0, aL 9 (fun _ => 0)), (t0, oE 5 [.int (iI m), .int (iI m), .int (iI 9), .ref c0]), (q, oE 4 [.int (iI m), .int (iI n), .ref t0, .ref t1, .ref t2])], h p.1 = none := fun p hp => (hf.2.2.2.1 p hp).resolve_left (fun z => z)
  have nw : ∀ (i : Nat) {p : Nat × ga_E}, [(c2, aL 9 (fun _ => 0)), (t2, oE 5 [.int (iI m), .int (iI n), .int (iI 9), .ref c2]), (c1, aL 9 (fun _ => 0)), (t1, oE 5 [.int (iI n), .int (iI n), .int (iI 9), .ref c1]), (c0, aL 9 (fun _ => 0)), (t0, oE 5 [.int (iI m), .int (iI m), .int (iI 9), .ref c0]), (q, oE 4 [.int (iI m), .int (iI n), .ref t0, .ref t1, .ref t2])][i]? = some p → ga_u h1 (ad 0) (cE (adT ad 0 q t0 t1 t2 c0 c1 c2) (uN (uN J 30 m) 31 n) (uN (uN (uN B 0 (fun _ => 0)) 1 (fun _ => 0)) 2 (fun _ => 0)) Q 0) p.1 = some p.2 := fun i p hi => by
    rw [ga_un (fun z => by have := fr p (List.mem_of_getElem? hi); rw [z, hc.1 0 (by decide)] at this; cases this)]
    exact hf.g i hi
  have nd := hf.2.2.1
  simp only [List.map_cons, List.map_nil, List.nodup_cons, List.mem_cons, List.not_mem_nil, or_false, not_or, List.nodup_nil, not_false_eq_true, and_true] at nd
  have fn : h q = none ∧ h t0 = none ∧ h t1 = none ∧ h t2 = none ∧ h c0 = none ∧ h c1 = none ∧ h c2 = none := ⟨fr _ (List.mem_of_getElem? (i := 6) rfl), fr _ (List.mem_of_getElem? (i := 5) rfl), fr _ (List.mem_of_getElem? (i := 3) rfl), fr _ (List.mem_of_getElem? (i := 1) rfl), fr _ (List.mem_of_getElem? (i := 4) rfl), fr _ (List.mem_of_getElem? (i := 2) rfl), fr _ (List.mem_of_getElem? (i := 0) rfl)⟩
  have hnew : ∀ r, r < 44 → (r = 4 ∨ r = 7 ∨ r = 8 ∨ r = 9 ∨ r = 16 ∨ r = 17 ∨ r = 18) → h ((adT ad 0 q t0 t1 t2 c0 c1 c2) r) = none := fun r _ hr => by
    rcases hr with rfl | rfl | rfl | rfl | rfl | rfl | rfl
    · exact fn.1
    · exact fn.2.1
    · exact fn.2.2.1
    · exact fn.2.2.2.1
    · exact fn.2.2.2.2.1
    · exact fn.2.2.2.2.2.1
    · exact fn.2.2.2.2.2.2
  have hold : ∀ r, ¬ (r = 4 ∨ r = 7 ∨ r = 8 ∨ r = 9 ∨ r = 16 ∨ r = 17 ∨ r = 18) → (adT ad 0 q t0 t1 t2 c0 c1 c2) r = ad r := fun r hr => by
    unfold adT
    rw [if_neg (by omega), if_neg (by omega), if_neg (by omega), if_neg (by omega), if_neg (by omega), if_neg (by omega), if_neg (by omega)]
  refine ⟨fun r hr => ?_, fun r hr s hs e => ?_, fun x e hx => ?_⟩
  · match r, hr with
    | 0, _ => exact ga_us _ _ _
    | 1, _ => exact ol2 (r := 1) (by decide) (by decide)
    | 2, _ => exact ol2 (r := 2) (by decide) (by decide)
    | 3, _ => exact ol2 (r := 3) (by decide) (by decide)
    | 4, _ => exact nw 6 rfl
    | 5, _ => exact ol2 (r := 5) (by decide) (by decide)
    | 6, _ => exact ol2 (r := 6) (by decide) (by decide)
    | 7, _ => exact nw 5 rfl
    | 8, _ => exact nw 3 rfl
    | 9, _ => exact nw 1 rfl
    | 10, _ => exact ol2 (r := 10) (by decide) (by decide)
    | 11, _ => exact ol2 (r := 11) (by decide) (by decide)
    | 12, _ => exact ol2 (r := 12) (by decide) (by decide)
    | 13, _ => exact ol2 (r := 13) (by decide) (by decide)
    | 14, _ => exact ol2 (r := 14) (by decide) (by decide)
    | 15, _ => exact ol2 (r := 15) (by decide) (by decide)
    | 16, _ => exact nw 4 rfl
    | 17, _ => exact nw 2 rfl
    | 18, _ => exact nw 0 rfl
    | 19, _ => exact ol2 (r := 19) (by decide) (by decide)
    | 20, _ => exact ol2 (r := 20) (by decide) (by decide)
    | 21, _ => exact ol2 (r := 21) (by decide) (by decide)
    | 22, _ => exact ol2 (r := 22) (by decide) (by decide)
    | 23, _ => exact ol2 (r := 23) (by decide) (by decide)
    | 24, _ => exact ol2 (r := 24) (by decide) (by decide)
    | 25, _ => exact ol2 (r := 25) (by decide) (by decide)
    | 26, _ => exact ol2 (r := 26) (by decide) (by decide)
    | 27, _ => exact ol2 (r := 27) (by decide) (by decide)
    | 28, _ => exact ol2 (r := 28) (by decide) (by decide)
    | 29, _ => exact ol2 (r := 29) (by decide) (by decide)
    | 30, _ => exact ol2 (r := 30) (by decide) (by decide)
    | 31, _ => exact ol2 (r := 31) (by decide) (by decide)
    | 32, _ =>
      have e32 : (fun j : Int => some (ad (34 + j.toNat))) = fun j : Int => some ((adT ad 0 q t0 t1 t2 c0 c1 c2) (34 + j.toNat)) := funext fun j => by rw [hold _ (by omega)]
      exact (ol2 (r := 32) (by decide) (by decide)).trans (by show some (aR "TwoSidedTables$Shelf" 4 (fun j : Int => some (ad (34 + j.toNat)))) = some (aR "TwoSidedTables$Shelf" 4 (fun j : Int => some ((adT ad 0 q t0 t1 t2 c0 c1 c2) (34 + j.toNat)))); rw [e32])
    | 33, _ =>
      have e33 : (fun j : Int => some (ad (38 + j.toNat))) = fun j : Int => some ((adT ad 0 q t0 t1 t2 c0 c1 c2) (38 + j.toNat)) := funext fun j => by rw [hold _ (by omega)]
      exact (ol2 (r := 33) (by decide) (by decide)).trans (by show some (aR "TwoSidedTables$Shelf" 4 (fun j : Int => some (ad (38 + j.toNat)))) = some (aR "TwoSidedTables$Shelf" 4 (fun j : Int => some ((adT ad 0 q t0 t1 t2 c0 c1 c2) (38 + j.toNat)))); rw [e33])
    | 34, _ => exact ol2 (r := 34) (by decide) (by decide)
    | 35, _ => exact ol2 (r := 35) (by decide) (by decide)
    | 36, _ => exact ol2 (r := 36) (by decide) (by decide)
    | 37, _ => exact ol2 (r := 37) (by decide) (by decide)
    | 38, _ => exact ol2 (r := 38) (by decide) (by decide)
    | 39, _ => exact ol2 (r := 39) (by decide) (by decide)
    | 40, _ => exact ol2 (r := 40) (by decide) (by decide)
    | 41, _ => exact ol2 (r := 41) (by decide) (by decide)
    | 42, _ => exact ol2 (r := 42) (by decide) (by decide)
    | 43, _ => exact ol2 (r := 43) (by decide) (by decide)
    | r + 44, hr => omega
  · by_cases a1 : (r = 4 ∨ r = 7 ∨ r = 8 ∨ r = 9 ∨ r = 16 ∨ r = 17 ∨ r = 18)
    · by_cases a2 : (s = 4 ∨ s = 7 ∨ s = 8 ∨ s = 9 ∨ s = 16 ∨ s = 17 ∨ s = 18)
      · rcases a1 with rfl | rfl | rfl | rfl | rfl | rfl | rfl <;> rcases a2 with rfl | rfl | rfl | rfl | rfl | rfl | rfl <;> first | rfl | (exfalso; simp only [adT] at e; simp at e; simp_all)
      · have z := hnew r hr a1
        rw [e, hold s a2, hc.1 s hs] at z
        cases z
    · by_cases a2 : (s = 4 ∨ s = 7 ∨ s = 8 ∨ s = 9 ∨ s = 16 ∨ s = 17 ∨ s = 18)
      · have z := hnew s hs a2
        rw [← e, hold r a1, hc.1 r hr] at z
        cases z
      · rw [hold r a1, hold s a2] at e
        exact hc.2.1 r hr s hs e
  · have z := hc.2.2 x e hx
    refine ⟨by rw [ga_un (z.2 0 (by decide))]; exact old z.1, fun r hr y => ?_⟩
    by_cases a1 : (r = 4 ∨ r = 7 ∨ r = 8 ∨ r = 9 ∨ r = 16 ∨ r = 17 ∨ r = 18)
    · have w := hnew r hr a1
      rw [← y, z.1] at w
      cases w
    · rw [hold r a1] at y
      exact z.2 r hr y
set_option maxHeartbeats 4000000 in
set_option maxRecDepth 100000 in
theorem cOn_newT1 {h h1 : ga_H} {ad : Nat → Nat} {J : Nat → Int} {B : Nat → Int → Int} {Q : Nat → Int → Option Nat} {Z : ga_H} (hc : cOn h ad J B Q Z) {m n : Int} {q t0 t1 t2 c0 c1 c2 : Nat} (hf : fOn h h1 (fun _ => False) [(c2, aL 9 (fun _ => 0)), (t2, oE 5 [.int (iI m), .int (iI n), .int (iI 9), .ref c2]), (c1, aL 9 (fun _ => 0)), (t1, oE 5 [.int (iI n), .int (iI n), .int (iI 9), .ref c1]), (c0, aL 9 (fun _ => 0)), (t0, oE 5 [.int (iI m), .int (iI m), .int (iI 9), .ref c0]), (q, oE 4 [.int (iI m), .int (iI n), .ref t0, .ref t1, .ref t2])]) : cOn (ga_u h1 (ad 0) (cE (adT ad 1 q t0 t1 t2 c0 c1 c2) (uN (uN J 32 m) 33 n) (uN (uN (uN B 3 (fun _ => 0)) 4 (fun _ => 0)) 5 (fun _ => 0)) Q 0)) (adT ad 1 q t0 t1 t2 c0 c1 c2) (uN (uN J 32 m) 33 n) (uN (uN (uN B 3 (fun _ => 0)) 4 (fun _ => 0)) 5 (fun _ => 0)) Q Z := by
  have old : ∀ {x e}, h x = some e → h1 x = some e := fun hx => hf.1 _ _ hx (fun z => z)
  have ol2 : ∀ {r}, r < 44 → r ≠ 0 → ga_u h1 (ad 0) (cE (adT ad 1 q t0 t1 t2 c0 c1 c2) (uN (uN J 32 m) 33 n) (uN (uN (uN B 3 (fun _ => 0)) 4 (fun _ => 0)) 5 (fun _ => 0)) Q 0) (ad r) = some (cE ad J B Q r) := fun hr h0 => by rw [ga_un (fun z => h0 (hc.2.1 _ hr 0 (by decide) z))]; exact old (hc.1 _ hr)
  have fr : ∀ p ∈ [(c2, aL 9 (fun _ => 0)), (t2, oE 5 [.int (iI m), .int (iI n), .int (iI 9), .ref c2]), (c1, aL 9 (fun _ => 0)), (t1, oE 5 [.int (iI n), .int (iI n), .int (iI 9), .ref c1]), (c0, aL 9 (fun _ => 0)), (t0, oE 5 [.int (iI m), .int (iI m), .int (iI 9), .ref c0]), (q, oE 4 [.int (iI m), .int (iI n), .ref t0, .ref t1, .ref t2])], h p.1 = none := fun p hp => (hf.2.2.2.1 p hp).resolve_left (fun z => z)
  have nw : ∀ (i : Nat) {p : Nat × ga_E}, [(c2, aL 9 (fun _ => 0)), (t2, oE 5 [.int (iI m), .int (iI n), .int (iI 9), .ref c2]), (c1, aL 9 (fun _ => 0)), (t1, oE 5 [.int (iI n), .int (iI n), .int (iI 9), .ref c1]), (c0, aL 9 (fun _ => 0)), (t0, oE 5 [.int (iI m), .int (iI m), .int (iI 9), .ref c0]), (q, oE 4 [.int (iI m), .int (iI n), .ref t0, .ref t1, .ref t2])][i]? = some p → ga_u h1 (ad 0) (cE (adT ad 1 q t0 t1 t2 c0 c1 c2) (uN (uN J 32 m) 33 n) (uN (uN (uN B 3 (fun _ => 0)) 4 (fun _ => 0)) 5 (fun _ => 0)) Q 0) p.1 = some p.2 := fun i p hi => by
    rw [ga_un (fun z => by have := fr p (List.mem_of_getElem? hi); rw [z, hc.1 0 (by decide)] at this; cases this)]
    exact hf.g i hi
  have nd := hf.2.2.1
  simp only [List.map_cons, List.map_nil, List.nodup_cons, List.mem_cons, List.not_mem_nil, or_false, not_or, List.nodup_nil, not_false_eq_true, and_true] at nd
  have fn : h q = none ∧ h t0 = none ∧ h t1 = none ∧ h t2 = none ∧ h c0 = none ∧ h c1 = none ∧ h c2 = none := ⟨fr _ (List.mem_of_getElem? (i := 6) rfl), fr _ (List.mem_of_getElem? (i := 5) rfl), fr _ (List.mem_of_getElem? (i := 3) rfl), fr _ (List.mem_of_getElem? (i := 1) rfl), fr _ (List.mem_of_getElem? (i := 4) rfl), fr _ (List.mem_of_getElem? (i := 2) rfl), fr _ (List.mem_of_getElem? (i := 0) rfl)⟩
  have hnew : ∀ r, r < 44 → (r = 5 ∨ r = 10 ∨ r = 11 ∨ r = 12 ∨ r = 19 ∨ r = 20 ∨ r = 21) → h ((adT ad 1 q t0 t1 t2 c0 c1 c2) r) = none := fun r _ hr => by
    rcases hr with rfl | rfl | rfl | rfl | rfl | rfl | rfl
    · exact fn.1
    · exact fn.2.1
    · exact fn.2.2.1
    · exact fn.2.2.2.1
    · exact fn.2.2.2.2.1
    · exact fn.2.2.2.2.2.1
    · exact fn.2.2.2.2.2.2
  have hold : ∀ r, ¬ (r = 5 ∨ r = 10 ∨ r = 11 ∨ r = 12 ∨ r = 19 ∨ r = 20 ∨ r = 21) → (adT ad 1 q t0 t1 t2 c0 c1 c2) r = ad r := fun r hr => by
    unfold adT
    rw [if_neg (by omega), if_neg (by omega), if_neg (by omega), if_neg (by omega), if_neg (by omega), if_neg (by omega), if_neg (by omega)]
  refine ⟨fun r hr => ?_, fun r hr s hs e => ?_, fun x e hx => ?_⟩
  · match r, hr with
    | 0, _ => exact ga_us _ _ _
    | 1, _ => exact ol2 (r := 1) (by decide) (by decide)
    | 2, _ => exact ol2 (r := 2) (by decide) (by decide)
    | 3, _ => exact ol2 (r := 3) (by decide) (by decide)
    | 4, _ => exact ol2 (r := 4) (by decide) (by decide)
    | 5, _ => exact nw 6 rfl
    | 6, _ => exact ol2 (r := 6) (by decide) (by decide)
    | 7, _ => exact ol2 (r := 7) (by decide) (by decide)
    | 8, _ => exact ol2 (r := 8) (by decide) (by decide)
    | 9, _ => exact ol2 (r := 9) (by decide) (by decide)
    | 10, _ => exact nw 5 rfl
    | 11, _ => exact nw 3 rfl
    | 12, _ => exact nw 1 rfl
    | 13, _ => exact ol2 (r := 13) (by decide) (by decide)
    | 14, _ => exact ol2 (r := 14) (by decide) (by decide)
    | 15, _ => exact ol2 (r := 15) (by decide) (by decide)
    | 16, _ => exact ol2 (r := 16) (by decide) (by decide)
    | 17, _ => exact ol2 (r := 17) (by decide) (by decide)
    | 18, _ => exact ol2 (r := 18) (by decide) (by decide)
    | 19, _ => exact nw 4 rfl
    | 20, _ => exact nw 2 rfl
    | 21, _ => exact nw 0 rfl
    | 22, _ => exact ol2 (r := 22) (by decide) (by decide)
    | 23, _ => exact ol2 (r := 23) (by decide) (by decide)
    | 24, _ => exact ol2 (r := 24) (by decide) (by decide)
    | 25, _ => exact ol2 (r := 25) (by decide) (by decide)
    | 26, _ => exact ol2 (r := 26) (by decide) (by decide)
    | 27, _ => exact ol2 (r := 27) (by decide) (by decide)
    | 28, _ => exact ol2 (r := 28) (by decide) (by decide)
    | 29, _ => exact ol2 (r := 29) (by decide) (by decide)
    | 30, _ => exact ol2 (r := 30) (by decide) (by decide)
    | 31, _ => exact ol2 (r := 31) (by decide) (by decide)
    | 32, _ =>
      have e32 : (fun j : Int => some (ad (34 + j.toNat))) = fun j : Int => some ((adT ad 1 q t0 t1 t2 c0 c1 c2) (34 + j.toNat)) := funext fun j => by rw [hold _ (by omega)]
      exact (ol2 (r := 32) (by decide) (by decide)).trans (by show some (aR "TwoSidedTables$Shelf" 4 (fun j : Int => some (ad (34 + j.toNat)))) = some (aR "TwoSidedTables$Shelf" 4 (fun j : Int => some ((adT ad 1 q t0 t1 t2 c0 c1 c2) (34 + j.toNat)))); rw [e32])
    | 33, _ =>
      have e33 : (fun j : Int => some (ad (38 + j.toNat))) = fun j : Int => some ((adT ad 1 q t0 t1 t2 c0 c1 c2) (38 + j.toNat)) := funext fun j => by rw [hold _ (by omega)]
      exact (ol2 (r := 33) (by decide) (by decide)).trans (by show some (aR "TwoSidedTables$Shelf" 4 (fun j : Int => some (ad (38 + j.toNat)))) = some (aR "TwoSidedTables$Shelf" 4 (fun j : Int => some ((adT ad 1 q t0 t1 t2 c0 c1 c2) (38 + j.toNat)))); rw [e33])
    | 34, _ => exact ol2 (r := 34) (by decide) (by decide)
    | 35, _ => exact ol2 (r := 35) (by decide) (by decide)
    | 36, _ => exact ol2 (r := 36) (by decide) (by decide)
    | 37, _ => exact ol2 (r := 37) (by decide) (by decide)
    | 38, _ => exact ol2 (r := 38) (by decide) (by decide)
    | 39, _ => exact ol2 (r := 39) (by decide) (by decide)
    | 40, _ => exact ol2 (r := 40) (by decide) (by decide)
    | 41, _ => exact ol2 (r := 41) (by decide) (by decide)
    | 42, _ => exact ol2 (r := 42) (by decide) (by decide)
    | 43, _ => exact ol2 (r := 43) (by decide) (by decide)
    | r + 44, hr => omega
  · by_cases a1 : (r = 5 ∨ r = 10 ∨ r = 11 ∨ r = 12 ∨ r = 19 ∨ r = 20 ∨ r = 21)
    · by_cases a2 : (s = 5 ∨ s = 10 ∨ s = 11 ∨ s = 12 ∨ s = 19 ∨ s = 20 ∨ s = 21)
      · rcases a1 with rfl | rfl | rfl | rfl | rfl | rfl | rfl <;> rcases a2 with rfl | rfl | rfl | rfl | rfl | rfl | rfl <;> first | rfl | (exfalso; simp only [adT] at e; simp at e; simp_all)
      · have z := hnew r hr a1
        rw [e, hold s a2, hc.1 s hs] at z
        cases z
    · by_cases a2 : (s = 5 ∨ s = 10 ∨ s = 11 ∨ s = 12 ∨ s = 19 ∨ s = 20 ∨ s = 21)
      · have z := hnew s hs a2
        rw [← e, hold r a1, hc.1 r hr] at z
        cases z
      · rw [hold r a1, hold s a2] at e
        exact hc.2.1 r hr s hs e
  · have z := hc.2.2 x e hx
    refine ⟨by rw [ga_un (z.2 0 (by decide))]; exact old z.1, fun r hr y => ?_⟩
    by_cases a1 : (r = 5 ∨ r = 10 ∨ r = 11 ∨ r = 12 ∨ r = 19 ∨ r = 20 ∨ r = 21)
    · have w := hnew r hr a1
      rw [← y, z.1] at w
      cases w
    · rw [hold r a1] at y
      exact z.2 r hr y
set_option maxHeartbeats 4000000 in
set_option maxRecDepth 100000 in
theorem cOn_newT2 {h h1 : ga_H} {ad : Nat → Nat} {J : Nat → Int} {B : Nat → Int → Int} {Q : Nat → Int → Option Nat} {Z : ga_H} (hc : cOn h ad J B Q Z) {m n : Int} {q t0 t1 t2 c0 c1 c2 : Nat} (hf : fOn h h1 (fun _ => False) [(c2, aL 9 (fun _ => 0)), (t2, oE 5 [.int (iI m), .int (iI n), .int (iI 9), .ref c2]), (c1, aL 9 (fun _ => 0)), (t1, oE 5 [.int (iI n), .int (iI n), .int (iI 9), .ref c1]), (c0, aL 9 (fun _ => 0)), (t0, oE 5 [.int (iI m), .int (iI m), .int (iI 9), .ref c0]), (q, oE 4 [.int (iI m), .int (iI n), .ref t0, .ref t1, .ref t2])]) : cOn (ga_u h1 (ad 0) (cE (adT ad 2 q t0 t1 t2 c0 c1 c2) (uN (uN J 34 m) 35 n) (uN (uN (uN B 6 (fun _ => 0)) 7 (fun _ => 0)) 8 (fun _ => 0)) Q 0)) (adT ad 2 q t0 t1 t2 c0 c1 c2) (uN (uN J 34 m) 35 n) (uN (uN (uN B 6 (fun _ => 0)) 7 (fun _ => 0)) 8 (fun _ => 0)) Q Z := by
  have old : ∀ {x e}, h x = some e → h1 x = some e := fun hx => hf.1 _ _ hx (fun z => z)
  have ol2 : ∀ {r}, r < 44 → r ≠ 0 → ga_u h1 (ad 0) (cE (adT ad 2 q t0 t1 t2 c0 c1 c2) (uN (uN J 34 m) 35 n) (uN (uN (uN B 6 (fun _ => 0)) 7 (fun _ => 0)) 8 (fun _ => 0)) Q 0) (ad r) = some (cE ad J B Q r) := fun hr h0 => by rw [ga_un (fun z => h0 (hc.2.1 _ hr 0 (by decide) z))]; exact old (hc.1 _ hr)
  have fr : ∀ p ∈ [(c2, aL 9 (fun _ => 0)), (t2, oE 5 [.int (iI m), .int (iI n), .int (iI 9), .ref c2]), (c1, aL 9 (fun _ => 0)), (t1, oE 5 [.int (iI n), .int (iI n), .int (iI 9), .ref c1]), (c0, aL 9 (fun _ => 0)), (t0, oE 5 [.int (iI m), .int (iI m), .int (iI 9), .ref c0]), (q, oE 4 [.int (iI m), .int (iI n), .ref t0, .ref t1, .ref t2])], h p.1 = none := fun p hp => (hf.2.2.2.1 p hp).resolve_left (fun z => z)
  have nw : ∀ (i : Nat) {p : Nat × ga_E}, [(c2, aL 9 (fun _ => 0)), (t2, oE 5 [.int (iI m), .int (iI n), .int (iI 9), .ref c2]), (c1, aL 9 (fun _ => 0)), (t1, oE 5 [.int (iI n), .int (iI n), .int (iI 9), .ref c1]), (c0, aL 9 (fun _ => 0)), (t0, oE 5 [.int (iI m), .int (iI m), .int (iI 9), .ref c0]), (q, oE 4 [.int (iI m), .int (iI n), .ref t0, .ref t1, .ref t2])][i]? = some p → ga_u h1 (ad 0) (cE (adT ad 2 q t0 t1 t2 c0 c1 c2) (uN (uN J 34 m) 35 n) (uN (uN (uN B 6 (fun _ => 0)) 7 (fun _ => 0)) 8 (fun _ => 0)) Q 0) p.1 = some p.2 := fun i p hi => by
    rw [ga_un (fun z => by have := fr p (List.mem_of_getElem? hi); rw [z, hc.1 0 (by decide)] at this; cases this)]
    exact hf.g i hi
  have nd := hf.2.2.1
  simp only [List.map_cons, List.map_nil, List.nodup_cons, List.mem_cons, List.not_mem_nil, or_false, not_or, List.nodup_nil, not_false_eq_true, and_true] at nd
  have fn : h q = none ∧ h t0 = none ∧ h t1 = none ∧ h t2 = none ∧ h c0 = none ∧ h c1 = none ∧ h c2 = none := ⟨fr _ (List.mem_of_getElem? (i := 6) rfl), fr _ (List.mem_of_getElem? (i := 5) rfl), fr _ (List.mem_of_getElem? (i := 3) rfl), fr _ (List.mem_of_getElem? (i := 1) rfl), fr _ (List.mem_of_getElem? (i := 4) rfl), fr _ (List.mem_of_getElem? (i := 2) rfl), fr _ (List.mem_of_getElem? (i := 0) rfl)⟩
  have hnew : ∀ r, r < 44 → (r = 6 ∨ r = 13 ∨ r = 14 ∨ r = 15 ∨ r = 22 ∨ r = 23 ∨ r = 24) → h ((adT ad 2 q t0 t1 t2 c0 c1 c2) r) = none := fun r _ hr => by
    rcases hr with rfl | rfl | rfl | rfl | rfl | rfl | rfl
    · exact fn.1
    · exact fn.2.1
    · exact fn.2.2.1
    · exact fn.2.2.2.1
    · exact fn.2.2.2.2.1
    · exact fn.2.2.2.2.2.1
    · exact fn.2.2.2.2.2.2
  have hold : ∀ r, ¬ (r = 6 ∨ r = 13 ∨ r = 14 ∨ r = 15 ∨ r = 22 ∨ r = 23 ∨ r = 24) → (adT ad 2 q t0 t1 t2 c0 c1 c2) r = ad r := fun r hr => by
    unfold adT
    rw [if_neg (by omega), if_neg (by omega), if_neg (by omega), if_neg (by omega), if_neg (by omega), if_neg (by omega), if_neg (by omega)]
  refine ⟨fun r hr => ?_, fun r hr s hs e => ?_, fun x e hx => ?_⟩
  · match r, hr with
    | 0, _ => exact ga_us _ _ _
    | 1, _ => exact ol2 (r := 1) (by decide) (by decide)
    | 2, _ => exact ol2 (r := 2) (by decide) (by decide)
    | 3, _ => exact ol2 (r := 3) (by decide) (by decide)
    | 4, _ => exact ol2 (r := 4) (by decide) (by decide)
    | 5, _ => exact ol2 (r := 5) (by decide) (by decide)
    | 6, _ => exact nw 6 rfl
    | 7, _ => exact ol2 (r := 7) (by decide) (by decide)
    | 8, _ => exact ol2 (r := 8) (by decide) (by decide)
    | 9, _ => exact ol2 (r := 9) (by decide) (by decide)
    | 10, _ => exact ol2 (r := 10) (by decide) (by decide)
    | 11, _ => exact ol2 (r := 11) (by decide) (by decide)
    | 12, _ => exact ol2 (r := 12) (by decide) (by decide)
    | 13, _ => exact nw 5 rfl
    | 14, _ => exact nw 3 rfl
    | 15, _ => exact nw 1 rfl
    | 16, _ => exact ol2 (r := 16) (by decide) (by decide)
    | 17, _ => exact ol2 (r := 17) (by decide) (by decide)
    | 18, _ => exact ol2 (r := 18) (by decide) (by decide)
    | 19, _ => exact ol2 (r := 19) (by decide) (by decide)
    | 20, _ => exact ol2 (r := 20) (by decide) (by decide)
    | 21, _ => exact ol2 (r := 21) (by decide) (by decide)
    | 22, _ => exact nw 4 rfl
    | 23, _ => exact nw 2 rfl
    | 24, _ => exact nw 0 rfl
    | 25, _ => exact ol2 (r := 25) (by decide) (by decide)
    | 26, _ => exact ol2 (r := 26) (by decide) (by decide)
    | 27, _ => exact ol2 (r := 27) (by decide) (by decide)
    | 28, _ => exact ol2 (r := 28) (by decide) (by decide)
    | 29, _ => exact ol2 (r := 29) (by decide) (by decide)
    | 30, _ => exact ol2 (r := 30) (by decide) (by decide)
    | 31, _ => exact ol2 (r := 31) (by decide) (by decide)
    | 32, _ =>
      have e32 : (fun j : Int => some (ad (34 + j.toNat))) = fun j : Int => some ((adT ad 2 q t0 t1 t2 c0 c1 c2) (34 + j.toNat)) := funext fun j => by rw [hold _ (by omega)]
      exact (ol2 (r := 32) (by decide) (by decide)).trans (by show some (aR "TwoSidedTables$Shelf" 4 (fun j : Int => some (ad (34 + j.toNat)))) = some (aR "TwoSidedTables$Shelf" 4 (fun j : Int => some ((adT ad 2 q t0 t1 t2 c0 c1 c2) (34 + j.toNat)))); rw [e32])
    | 33, _ =>
      have e33 : (fun j : Int => some (ad (38 + j.toNat))) = fun j : Int => some ((adT ad 2 q t0 t1 t2 c0 c1 c2) (38 + j.toNat)) := funext fun j => by rw [hold _ (by omega)]
      exact (ol2 (r := 33) (by decide) (by decide)).trans (by show some (aR "TwoSidedTables$Shelf" 4 (fun j : Int => some (ad (38 + j.toNat)))) = some (aR "TwoSidedTables$Shelf" 4 (fun j : Int => some ((adT ad 2 q t0 t1 t2 c0 c1 c2) (38 + j.toNat)))); rw [e33])
    | 34, _ => exact ol2 (r := 34) (by decide) (by decide)
    | 35, _ => exact ol2 (r := 35) (by decide) (by decide)
    | 36, _ => exact ol2 (r := 36) (by decide) (by decide)
    | 37, _ => exact ol2 (r := 37) (by decide) (by decide)
    | 38, _ => exact ol2 (r := 38) (by decide) (by decide)
    | 39, _ => exact ol2 (r := 39) (by decide) (by decide)
    | 40, _ => exact ol2 (r := 40) (by decide) (by decide)
    | 41, _ => exact ol2 (r := 41) (by decide) (by decide)
    | 42, _ => exact ol2 (r := 42) (by decide) (by decide)
    | 43, _ => exact ol2 (r := 43) (by decide) (by decide)
    | r + 44, hr => omega
  · by_cases a1 : (r = 6 ∨ r = 13 ∨ r = 14 ∨ r = 15 ∨ r = 22 ∨ r = 23 ∨ r = 24)
    · by_cases a2 : (s = 6 ∨ s = 13 ∨ s = 14 ∨ s = 15 ∨ s = 22 ∨ s = 23 ∨ s = 24)
      · rcases a1 with rfl | rfl | rfl | rfl | rfl | rfl | rfl <;> rcases a2 with rfl | rfl | rfl | rfl | rfl | rfl | rfl <;> first | rfl | (exfalso; simp only [adT] at e; simp at e; simp_all)
      · have z := hnew r hr a1
        rw [e, hold s a2, hc.1 s hs] at z
        cases z
    · by_cases a2 : (s = 6 ∨ s = 13 ∨ s = 14 ∨ s = 15 ∨ s = 22 ∨ s = 23 ∨ s = 24)
      · have z := hnew s hs a2
        rw [← e, hold r a1, hc.1 r hr] at z
        cases z
      · rw [hold r a1, hold s a2] at e
        exact hc.2.1 r hr s hs e
  · have z := hc.2.2 x e hx
    refine ⟨by rw [ga_un (z.2 0 (by decide))]; exact old z.1, fun r hr y => ?_⟩
    by_cases a1 : (r = 6 ∨ r = 13 ∨ r = 14 ∨ r = 15 ∨ r = 22 ∨ r = 23 ∨ r = 24)
    · have w := hnew r hr a1
      rw [← y, z.1] at w
      cases w
    · rw [hold r a1] at y
      exact z.2 r hr y
