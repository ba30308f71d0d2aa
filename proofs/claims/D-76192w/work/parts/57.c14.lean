/-! THE CLASS: a system that is solved, or can't be -/
/-- the system as it is laid out -/
def cTs (kx kd fr sh m n W f0 : Int) (fa fb fc : Int → Int) (r k : Int) : Int := if k = W then fc (n * (f0 + r.tdiv n) + r.tmod n) else cEn kx kd fr sh m n fa fb (f0 + r.tdiv n) (r.tmod n) k
/-- what the grid, and the numbers beside it, hold when it is worked out -/
def cSt (H W : Int) (S : eS) (J : Nat → Int) (B : Nat → Int → Int) (J1 : Nat → Int) (B1 : Nat → Int → Int) : Prop := J1 = uN (uN (uN (uN (uN J 20 H) 21 W) 22 S.2.1) 23 (zSg S.2.2.1)) 24 S.2.2.2.1 ∧ ∃ f g : Int → Int, B1 = uN (uN B 10 f) 11 g ∧ eOn H W 10 f S.1 ∧ ∀ k : Int, 0 ≤ k → k < W → g k = S.2.2.2.2 k
theorem cGr_on {kx kd fr sh m n W f0 H lim : Int} {fa fb fc g : Int → Int} {T : Int → Int → Int} (hH : H ≤ lim ∧ H ≤ 10 ∧ W ≤ 9) (hg : ∀ r k : Int, 0 ≤ r → r ≤ 9 → 0 ≤ k → k ≤ 9 → g (10 * r + k) = cGr kx kd fr sh m n W f0 fa fb fc lim r k) (hT : ∀ p q : Int, 0 ≤ p → p < H → 0 ≤ q → q ≤ W → cTs kx kd fr sh m n W f0 fa fb fc p q = T p q) : eOn H W 10 g T := by
  intro p q p0 p1 q0 q1
  rw [hg p q p0 (by omega) q0 (by omega), ← hT p q p0 p1 q0 q1]
  unfold cGr
  rw [if_pos (by omega)]
  rfl
theorem eSol_z {H W k : Int} {S : eS} {f : Int → Int} (hk : 0 ≤ S.2.1 ∧ 0 ≤ W) (hf : eOn H W 10 f S.1) : (∀ i : Int, S.2.1 ≤ i → i < H → f (10 * i + W) = 0) ↔ eSol H W S := by
  constructor
  · intro h i i0 i1
    rw [← hf i W (by omega) i1 hk.2 (Int.le_refl _)]
    exact h i i0 i1
  · intro h i i0 i1
    rw [hf i W (by omega) i1 hk.2 (Int.le_refl _)]
    exact h i i0 i1
set_option maxHeartbeats 4000000 in
set_option maxRecDepth 100000 in
theorem m_X0_mustBeSolvable (l : Launch) (D : ga_G) (ad : Nat → Nat) (J : Nat → Int) (B : Nat → Int → Int) (Q : Nat → Int → Option Nat) (Z : ga_H)  (hsz : (0 ≤ J 22 ∧ J 22 ≤ J 20 ∧ J 20 ≤ 10) ∧ 0 ≤ J 21 ∧ J 21 ≤ 9) (hen : ∀ i : Int, 0 ≤ i → i < J 20 → z40 (B 10 (10 * i + J 21))) : kM l D yX0_mustBeSolvable (ws_ yX0_mustBeSolvable cX0_mustBeSolvable 2 none) (gK 1 0 0) [.ref (ad 0)] ad J B Q Z (kV (fun ad1 J1 B1 Q1 Z1 => (ad1 = ad ∧ Q1 = Q ∧ Z1 = Z) ∧ J1 = J ∧ B1 = B ∧ ∀ i : Int, J 22 ≤ i → i < J 20 → B 10 (10 * i + J 21) = 0)) (fun E q ad1 J1 B1 Q1 Z1 => (ad1 = ad ∧ Q1 = Q ∧ Z1 = Z) ∧ ((E = "TwoSidedTables$Unsolvable" ∧ q = ad 3 ∧ (J1 = J ∧ B1 = B ∧ ¬ (∀ i : Int, J 22 ≤ i → i < J 20 → B 10 (10 * i + J 21) = 0))))) 0 0 := by
  refine kc_met (own := RX0) 1 (by decide) rfl (Nat.le_of_ble_eq_true rfl) (L0 := [some (.ref (ad 0)), none]) rfl (fun X h hc hE => ?_)
  refine ga_aload_n (pc := 0) dX0_mustBeSolvable_0 rfl ?_
  refine cc_g_rank (pc := 1) (z := J 22) hc rfl dX0_mustBeSolvable_1 ?_
  refine ga_istore_n (pc := 4) (L1 := [some (.ref (ad 0)), some (.int (iI (J 22)))]) dX0_mustBeSolvable_4 rfl (by decide) rfl ?_
  have lp5 : ∀ (N5 : Nat) (r : Int), ∀ h : ga_H, cOn h ad J B Q Z → (J 22 ≤ r ∧ r ≤ J 20) → (∀ i : Int, J 22 ≤ i → i < r → B 10 (10 * i + J 21) = 0) → (J 20 - r).toNat < N5 → G X (gK 1 0 0) RX0 2 cX0_mustBeSolvable h 0 0 5 [some (.ref (ad 0)), some (.int (iI r))] [] := by
    intro N5
    induction N5 with
    | zero => intro r h hc hr hz hN5; exact absurd hN5 (Nat.not_lt_zero _)
    | succ N5 ih5 =>
      intro r h hc hr hz hN5
      refine ga_iload_n (pc := 5) dX0_mustBeSolvable_5 rfl ?_
      refine ga_aload_n (pc := 6) dX0_mustBeSolvable_6 rfl ?_
      refine cc_g_gridRows (pc := 7) (z := J 20) hc rfl dX0_mustBeSolvable_7 ?_
      refine ga_icmp_ge (pc := 10) (tgt := 38) dX0_mustBeSolvable_10 rfl (by omega) (by omega) (fun c10 => ?_) (fun c10 => ?_)
      · skip
        exact kc_vret hc hE dX0_mustBeSolvable_38 (by omega) (by omega) (⟨rfl, ⟨⟨rfl, rfl, rfl⟩, by (try dsimp only); exact ⟨rfl, rfl, by rw [show J 20 = r by omega]; exact hz⟩⟩⟩)
      · skip
        refine ga_aload_n (pc := 13) dX0_mustBeSolvable_13 rfl ?_
        refine ga_iload_n (pc := 14) dX0_mustBeSolvable_14 rfl ?_
        refine ga_aload_n (pc := 15) dX0_mustBeSolvable_15 rfl ?_
        refine cc_g_gridUnknowns (pc := 16) (z := J 21) hc rfl dX0_mustBeSolvable_16 ?_
        have hzr := hen r (by omega) (by omega)
        refine k_X0_cell (pc := 19) (i := r) (j := (J 21)) (z := B 10 (10 * r + (J 21))) hc (by first | exact h1 | omega) (rfl) ⟨Nat.le_of_ble_eq_true rfl, Nat.le_of_ble_eq_true rfl⟩ ⟨Nat.le_of_ble_eq_true rfl, Nat.le_of_ble_eq_true rfl⟩ (Nat.le_of_ble_eq_true rfl) dX0_mustBeSolvable_19 (fun h hc => ?_)
        refine ga_lconst (pc := 22) 0 dX0_mustBeSolvable_22 rfl ?_
        refine ga_lcmp (pc := 23) dX0_mustBeSolvable_23 (by omega) (by omega) ?_
        refine ga_ifc_eq (pc := 24) (tgt := 32) dX0_mustBeSolvable_24 rfl (fun c24 => ?_) (fun c24 => ?_)
        · skip
          refine ga_iinc (pc := 32) (L1 := [some (.ref (ad 0)), some (.int (iI (r + 1)))]) dX0_mustBeSolvable_32 rfl rfl (by decide) rfl ?_
          refine ga_goto (pc := 35) (tgt := 5) dX0_mustBeSolvable_35 rfl ?_
          exact ih5 (r + 1) h hc (by omega) (fun i i0 i1 => by by_cases e : i = r; (rw [e]; omega); exact hz i i0 (by omega)) (by omega)
        · skip
          refine ga_aload_n (pc := 27) dX0_mustBeSolvable_27 rfl ?_
          refine cc_g_unsolvable (pc := 28) hc dX0_mustBeSolvable_28 ?_
          refine ga_athrow (pc := 31) (C := RX3) (T := TX3) (N := 7) (hc.1 3 (by decide)) rfl dX0_mustBeSolvable_31 ?_
          exact kc_out (pc := 31) hc hE (fun z hz => by cases hz) (by omega) (by omega) (⟨⟨rfl, rfl, rfl⟩, ⟨rfl, rfl, by (try dsimp only); exact ⟨rfl, rfl, fun q => c24 (q r hr.1 (by omega))⟩⟩⟩)
  exact lp5 _ (J 22) h hc (by omega) (fun i i0 i1 => by omega) (Nat.lt_succ_self _)
theorem k_X0_mustBeSolvable {X : ga_X} {R : Room} {nL : Nat} {cc : ByteArray} {h : ga_H} {ad : Nat → Nat} {J : Nat → Int} {B : Nat → Int → Int} {Q : Nat → Int → Option Nat} {Z : ga_H} {k n pc : Nat} {L : List (Option Value)} {st : List Value}  (hc : cOn h ad J B Q Z) (hsz : (0 ≤ J 22 ∧ J 22 ≤ J 20 ∧ J 20 ≤ 10) ∧ 0 ≤ J 21 ∧ J 21 ≤ 9) (hen : ∀ i : Int, 0 ≤ i → i < J 20 → z40 (B 10 (10 * i + J 21))) (hR : 1 + 1 ≤ R.frames ∧ 19 + 2 + 64 * 1 ≤ R.locals) (hk : k ≤ R.cells ∧ n ≤ R.slots) (hs : (st.map fun v => v.category).sum ≤ 8) (dd : decode cc pc = .ok (.invokevirtual 360, 3)) (kx0 : ∀ (J1 : Nat → Int) (B1 : Nat → Int → Int), (J1 = J ∧ B1 = B ∧ ¬ (∀ i : Int, J 22 ≤ i → i < J 20 → B 10 (10 * i + J 21) = 0)) → ∀ h : ga_H, cOn h ad J1 B1 Q Z → GX X R RX0 nL cc h k n pc L "TwoSidedTables$Unsolvable" (ad 3)) (kk : ∀ (J1 : Nat → Int) (B1 : Nat → Int → Int), (J1 = J ∧ B1 = B ∧ ∀ i : Int, J 22 ≤ i → i < J 20 → B 10 (10 * i + J 21) = 0) → ∀ h : ga_H, cOn h ad J1 B1 Q Z → G X R RX0 nL cc h k n (pc + 3) L st) : G X R RX0 nL cc h k n pc L (.ref (ad 0) :: st) := by
  refine kc_run hc (m_X0_mustBeSolvable _ _ ad J B Q Z  hsz hen) (lw_V q1007 q1009 qs27 q102 q1010) rfl (show ga_nn' yX0_mustBeSolvable 0 from (by unfold ga_nn'; decide +kernel)) hR hk hs dd rfl (fun EX qX hX adX JX BX QX ZX hcX hpX => ?_) (fun vX hX adX JX BX QX ZX hcX hpX => ?_)
  · obtain ⟨⟨rfl, rfl, rfl⟩, hpX⟩ := hpX
    obtain ⟨rfl, rfl, hpX⟩ := hpX
    exact kx0 JX BX hpX hX hcX
  · obtain ⟨rfl, ⟨rfl, rfl, rfl⟩, hpX⟩ := hpX
    exact kk JX BX hpX hX hcX
set_option maxHeartbeats 4000000 in
set_option maxRecDepth 100000 in
theorem m_X0_solves (l : Launch) (D : ga_G) (ad : Nat → Nat) (J : Nat → Int) (B : Nat → Int → Int) (Q : Nat → Int → Option Nat) (Z : ga_H) (p q : Nat) (kx kd y sh fr : Int) (T : Int → Int → Int) (hm : (1 ≤ J 30 ∧ J 30 ≤ 3) ∧ 1 ≤ J 31 ∧ J 31 ≤ 3) (hp : pOn Z p kx kd y sh q fr) (hfr : 0 ≤ fr ∧ fr ≤ 3) (he0 : ∀ k : Int, -50 ≤ B 0 k ∧ B 0 k ≤ 50) (he1 : ∀ k : Int, -50 ≤ B 1 k ∧ B 1 k ≤ 50) (he2 : ∀ k : Int, -50 ≤ B 2 k ∧ B 2 k ≤ 50) (hsh : -2 ≤ sh ∧ sh ≤ 2) (hkl : kd < 2 ∨ J 30 = J 31) (hun : 0 ≤ (xUn kx fr (J 30) (J 31)) ∧ (xUn kx fr (J 30) (J 31)) ≤ 9) (hT : ∀ p q : Int, 0 ≤ p → p < J 30 * J 31 → 0 ≤ q → q ≤ (xUn kx fr (J 30) (J 31)) → cTs kx kd fr sh (J 30) (J 31) (xUn kx fr (J 30) (J 31)) 0 (B 0) (B 1) (B 2) p q = T p q) (hsf : eSafe (J 30 * J 31) (xUn kx fr (J 30) (J 31)) T) : kM l D yX0_solves (ws_ yX0_solves cX0_solves 2 none) (gK 8 0 0) [.ref (ad 0), .ref p] ad J B Q Z (kV (fun ad1 J1 B1 Q1 Z1 => (ad1 = ad ∧ Q1 = Q ∧ Z1 = Z) ∧ cSt (J 30 * J 31) (xUn kx fr (J 30) (J 31)) (eRed (J 30 * J 31) T (xUn kx fr (J 30) (J 31)).toNat) J B J1 B1 ∧ eSol (J 30 * J 31) (xUn kx fr (J 30) (J 31)) (eRed (J 30 * J 31) T (xUn kx fr (J 30) (J 31)).toNat))) (fun E q ad1 J1 B1 Q1 Z1 => (ad1 = ad ∧ Q1 = Q ∧ Z1 = Z) ∧ ((E = "TwoSidedTables$Unsolvable" ∧ q = ad 3 ∧ (cSt (J 30 * J 31) (xUn kx fr (J 30) (J 31)) (eRed (J 30 * J 31) T (xUn kx fr (J 30) (J 31)).toNat) J B J1 B1 ∧ ¬ eSol (J 30 * J 31) (xUn kx fr (J 30) (J 31)) (eRed (J 30 * J 31) T (xUn kx fr (J 30) (J 31)).toNat))))) 0 0 := by
  refine kc_met (own := RX0) 0 (by decide) rfl (Nat.le_of_ble_eq_true rfl) (L0 := [some (.ref (ad 0)), some (.ref p)]) rfl (fun X h hc hE => ?_)
  refine ga_aload_n (pc := 0) dX0_solves_0 rfl ?_
  refine ga_aload_n (pc := 1) dX0_solves_1 rfl ?_
  refine k_X0_laysOut (pc := 2) (p := p) (q := q) (kx := kx) (kd := kd) (y := y) (sh := sh) (fr := fr) hc (by first | exact hm | omega) (by first | exact hp | omega) (by first | exact hfr | omega) (by first | exact he0 | omega) (by first | exact he1 | omega) (by first | exact he2 | omega) (by first | exact hsh | omega) (by first | exact hkl | omega) (by first | exact hun | omega) ⟨Nat.le_of_ble_eq_true rfl, Nat.le_of_ble_eq_true rfl⟩ ⟨Nat.le_of_ble_eq_true rfl, Nat.le_of_ble_eq_true rfl⟩ (Nat.le_of_ble_eq_true rfl) dX0_solves_2 (fun J2 B2 hp2 h hc => ?_)
  obtain ⟨eJ2, g2, eB2, hg2⟩ := hp2
  subst eJ2
  subst eB2
  have hmn := mn_r hm
  have hon : eOn (J 30 * J 31) (xUn kx fr (J 30) (J 31)) 10 g2 T := cGr_on ⟨by rw [Int.mul_comm]; exact Int.le_refl _, by omega, hun.2⟩ hg2 hT
  replace hc : cOn h ad (uN (uN J 20 (J 30 * J 31)) 21 (xUn kx fr (J 30) (J 31))) (uN B 10 g2) Q Z := hc
  refine ga_aload_n (pc := 5) dX0_solves_5 rfl ?_
  refine k_X0_reduce (pc := 6) (T := T) hc (show (0 ≤ (J 30 * J 31) ∧ (J 30 * J 31) ≤ 10) ∧ 0 ≤ (xUn kx fr (J 30) (J 31)) ∧ (xUn kx fr (J 30) (J 31)) ≤ 9 from by omega) (show eOn ((J 30 * J 31)) ((xUn kx fr (J 30) (J 31))) 10 (g2) T from hon) (show eSafe ((J 30 * J 31)) ((xUn kx fr (J 30) (J 31))) T from hsf) ⟨Nat.le_of_ble_eq_true rfl, Nat.le_of_ble_eq_true rfl⟩ ⟨Nat.le_of_ble_eq_true rfl, Nat.le_of_ble_eq_true rfl⟩ (Nat.le_of_ble_eq_true rfl) dX0_solves_6 (fun J6 B6 hp6 h hc => ?_)
  obtain ⟨eJ6, f6, g6, eB6, hf6, hg6⟩ := hp6
  replace hf6 : eOn (J 30 * J 31) (xUn kx fr (J 30) (J 31)) 10 f6 (eRed (J 30 * J 31) T (xUn kx fr (J 30) (J 31)).toNat).1 := hf6
  replace hg6 : ∀ k : Int, 0 ≤ k → k < (xUn kx fr (J 30) (J 31)) → g6 k = (eRed (J 30 * J 31) T (xUn kx fr (J 30) (J 31)).toNat).2.2.2.2 k := hg6
  subst eJ6
  subst eB6
  have hrr := eRed_r (J 30 * J 31) T (by omega) (xUn kx fr (J 30) (J 31)).toNat
  have hs9 := hsf (xUn kx fr (J 30) (J 31)) (by omega) (Int.le_refl _)
  replace hc : cOn h ad (uN (uN (uN (uN (uN J 20 (J 30 * J 31)) 21 (xUn kx fr (J 30) (J 31))) 22 ((eRed (J 30 * J 31) T (xUn kx fr (J 30) (J 31)).toNat).2.1)) 23 (zSg (eRed (J 30 * J 31) T (xUn kx fr (J 30) (J 31)).toNat).2.2.1)) 24 ((eRed (J 30 * J 31) T (xUn kx fr (J 30) (J 31)).toNat).2.2.2.1)) (uN (uN B 10 f6) 11 g6) Q Z := hc
  refine ga_aload_n (pc := 9) dX0_solves_9 rfl ?_
  refine k_X0_mustBeSolvable (pc := 10)  hc (show (0 ≤ ((eRed (J 30 * J 31) T (xUn kx fr (J 30) (J 31)).toNat).2.1) ∧ ((eRed (J 30 * J 31) T (xUn kx fr (J 30) (J 31)).toNat).2.1) ≤ (J 30 * J 31) ∧ (J 30 * J 31) ≤ 10) ∧ 0 ≤ (xUn kx fr (J 30) (J 31)) ∧ (xUn kx fr (J 30) (J 31)) ≤ 9 from by omega) (show ∀ i : Int, 0 ≤ i → i < (J 30 * J 31) → z40 (f6 (10 * i + (xUn kx fr (J 30) (J 31)))) from fun i i0 i1 => by have e := hf6 i (xUn kx fr (J 30) (J 31)) i0 i1 hun.1 (Int.le_refl _); show z40 (f6 (10 * i + xUn kx fr (J 30) (J 31))); rw [e]; exact hs9.1 i _ i0 i1 hun.1 (Int.le_refl _)) ⟨Nat.le_of_ble_eq_true rfl, Nat.le_of_ble_eq_true rfl⟩ ⟨Nat.le_of_ble_eq_true rfl, Nat.le_of_ble_eq_true rfl⟩ (Nat.le_of_ble_eq_true rfl) dX0_solves_10 (fun J10 B10 hp10 h hc => ?_) (fun J10 B10 hp10 h hc => ?_)
  · skip
    exact kc_out (pc := 10) hc hE (fun z hz => by cases hz) (by omega) (by omega) (⟨⟨rfl, rfl, rfl⟩, ⟨rfl, rfl, by (try dsimp only); (obtain ⟨rfl, rfl, hq⟩ := hp10); exact ⟨⟨rfl, f6, g6, rfl, hf6, hg6⟩, fun z => hq ((eSol_z (k := 0) ⟨hrr.1.1, hun.1⟩ hf6).mpr z)⟩⟩⟩)
  exact kc_vret hc hE dX0_solves_13 (by omega) (by omega) (⟨rfl, ⟨⟨rfl, rfl, rfl⟩, by (try dsimp only); (obtain ⟨rfl, rfl, hq⟩ := hp10); exact ⟨⟨rfl, f6, g6, rfl, hf6, hg6⟩, (eSol_z (k := 0) ⟨hrr.1.1, hun.1⟩ hf6).mp hq⟩⟩⟩)
theorem k_X0_solves {X : ga_X} {R : Room} {nL : Nat} {cc : ByteArray} {h : ga_H} {ad : Nat → Nat} {J : Nat → Int} {B : Nat → Int → Int} {Q : Nat → Int → Option Nat} {Z : ga_H} {k n pc : Nat} {L : List (Option Value)} {st : List Value} {p q : Nat} {kx kd y sh fr : Int} {T : Int → Int → Int} (hc : cOn h ad J B Q Z) (hm : (1 ≤ J 30 ∧ J 30 ≤ 3) ∧ 1 ≤ J 31 ∧ J 31 ≤ 3) (hp : pOn Z p kx kd y sh q fr) (hfr : 0 ≤ fr ∧ fr ≤ 3) (he0 : ∀ k : Int, -50 ≤ B 0 k ∧ B 0 k ≤ 50) (he1 : ∀ k : Int, -50 ≤ B 1 k ∧ B 1 k ≤ 50) (he2 : ∀ k : Int, -50 ≤ B 2 k ∧ B 2 k ≤ 50) (hsh : -2 ≤ sh ∧ sh ≤ 2) (hkl : kd < 2 ∨ J 30 = J 31) (hun : 0 ≤ (xUn kx fr (J 30) (J 31)) ∧ (xUn kx fr (J 30) (J 31)) ≤ 9) (hT : ∀ p q : Int, 0 ≤ p → p < J 30 * J 31 → 0 ≤ q → q ≤ (xUn kx fr (J 30) (J 31)) → cTs kx kd fr sh (J 30) (J 31) (xUn kx fr (J 30) (J 31)) 0 (B 0) (B 1) (B 2) p q = T p q) (hsf : eSafe (J 30 * J 31) (xUn kx fr (J 30) (J 31)) T) (hR : 8 + 1 ≤ R.frames ∧ 19 + 2 + 64 * 8 ≤ R.locals) (hk : k ≤ R.cells ∧ n ≤ R.slots) (hs : (st.map fun v => v.category).sum ≤ 8) (dd : decode cc pc = .ok (.invokevirtual 363, 3)) (kx0 : ∀ (J1 : Nat → Int) (B1 : Nat → Int → Int), (cSt (J 30 * J 31) (xUn kx fr (J 30) (J 31)) (eRed (J 30 * J 31) T (xUn kx fr (J 30) (J 31)).toNat) J B J1 B1 ∧ ¬ eSol (J 30 * J 31) (xUn kx fr (J 30) (J 31)) (eRed (J 30 * J 31) T (xUn kx fr (J 30) (J 31)).toNat)) → ∀ h : ga_H, cOn h ad J1 B1 Q Z → GX X R RX0 nL cc h k n pc L "TwoSidedTables$Unsolvable" (ad 3)) (kk : ∀ (J1 : Nat → Int) (B1 : Nat → Int → Int), (cSt (J 30 * J 31) (xUn kx fr (J 30) (J 31)) (eRed (J 30 * J 31) T (xUn kx fr (J 30) (J 31)).toNat) J B J1 B1 ∧ eSol (J 30 * J 31) (xUn kx fr (J 30) (J 31)) (eRed (J 30 * J 31) T (xUn kx fr (J 30) (J 31)).toNat)) → ∀ h : ga_H, cOn h ad J1 B1 Q Z → G X R RX0 nL cc h k n (pc + 3) L st) : G X R RX0 nL cc h k n pc L (.ref p :: .ref (ad 0) :: st) := by
  refine kc_run hc (m_X0_solves _ _ ad J B Q Z p q kx kd y sh fr T hm hp hfr he0 he1 he2 hsh hkl hun hT hsf) (lw_V q1003 q1005 qs26 q102 q1006) rfl (show ga_nn' yX0_solves 1 from (by unfold ga_nn'; decide +kernel)) hR hk hs dd rfl (fun EX qX hX adX JX BX QX ZX hcX hpX => ?_) (fun vX hX adX JX BX QX ZX hcX hpX => ?_)
  · obtain ⟨⟨rfl, rfl, rfl⟩, hpX⟩ := hpX
    obtain ⟨rfl, rfl, hpX⟩ := hpX
    exact kx0 JX BX hpX hX hcX
  · obtain ⟨rfl, ⟨rfl, rfl, rfl⟩, hpX⟩ := hpX
    exact kk JX BX hpX hX hcX
set_option maxHeartbeats 4000000 in
set_option maxRecDepth 100000 in
theorem m_X0_isSolvable (l : Launch) (D : ga_G) (ad : Nat → Nat) (J : Nat → Int) (B : Nat → Int → Int) (Q : Nat → Int → Option Nat) (Z : ga_H) (p q : Nat) (kx kd y sh fr : Int) (T : Int → Int → Int) (hm : (1 ≤ J 30 ∧ J 30 ≤ 3) ∧ 1 ≤ J 31 ∧ J 31 ≤ 3) (hp : pOn Z p kx kd y sh q fr) (hfr : 0 ≤ fr ∧ fr ≤ 3) (he0 : ∀ k : Int, -50 ≤ B 0 k ∧ B 0 k ≤ 50) (he1 : ∀ k : Int, -50 ≤ B 1 k ∧ B 1 k ≤ 50) (he2 : ∀ k : Int, -50 ≤ B 2 k ∧ B 2 k ≤ 50) (hsh : -2 ≤ sh ∧ sh ≤ 2) (hkl : kd < 2 ∨ J 30 = J 31) (hun : 0 ≤ (xUn kx fr (J 30) (J 31)) ∧ (xUn kx fr (J 30) (J 31)) ≤ 9) (hT : ∀ p q : Int, 0 ≤ p → p < J 30 * J 31 → 0 ≤ q → q ≤ (xUn kx fr (J 30) (J 31)) → cTs kx kd fr sh (J 30) (J 31) (xUn kx fr (J 30) (J 31)) 0 (B 0) (B 1) (B 2) p q = T p q) (hsf : eSafe (J 30 * J 31) (xUn kx fr (J 30) (J 31)) T) : kM l D yX0_isSolvable (wsW_ yX0_isSolvable cX0_isSolvable 3 (some .boolean) [((0 : Nat), (6 : Nat), (7 : Nat), (52 : Nat))]) (gK 9 0 0) [.ref (ad 0), .ref p] ad J B Q Z (kI (fun r ad1 J1 B1 Q1 Z1 => (ad1 = ad ∧ Q1 = Q ∧ Z1 = Z) ∧ cSt (J 30 * J 31) (xUn kx fr (J 30) (J 31)) (eRed (J 30 * J 31) T (xUn kx fr (J 30) (J 31)).toNat) J B J1 B1 ∧ ((r = 1 ∧ eSol (J 30 * J 31) (xUn kx fr (J 30) (J 31)) (eRed (J 30 * J 31) T (xUn kx fr (J 30) (J 31)).toNat)) ∨ (r = 0 ∧ ¬ eSol (J 30 * J 31) (xUn kx fr (J 30) (J 31)) (eRed (J 30 * J 31) T (xUn kx fr (J 30) (J 31)).toNat))))) kX0 0 0 := by
  refine kc_metW (own := RX0) 1 (by decide) rfl (Nat.le_of_ble_eq_true rfl) (L0 := [some (.ref (ad 0)), some (.ref p), none]) rfl (fun X h hc hE => ?_)
  refine ga_aload_n (pc := 0) dX0_isSolvable_0 rfl ?_
  refine ga_aload_n (pc := 1) dX0_isSolvable_1 rfl ?_
  refine k_X0_solves (pc := 2) (p := p) (q := q) (kx := kx) (kd := kd) (y := y) (sh := sh) (fr := fr) (T := T) hc (by first | exact hm | omega) (by first | exact hp | omega) (by first | exact hfr | omega) (by first | exact he0 | omega) (by first | exact he1 | omega) (by first | exact he2 | omega) (by first | exact hsh | omega) (by first | exact hkl | omega) (by first | exact hun | omega) (by first | exact hT | omega) (by first | exact hsf | omega) ⟨Nat.le_of_ble_eq_true rfl, Nat.le_of_ble_eq_true rfl⟩ ⟨Nat.le_of_ble_eq_true rfl, Nat.le_of_ble_eq_true rfl⟩ (Nat.le_of_ble_eq_true rfl) dX0_isSolvable_2 (fun J2 B2 hp2 h hc => ?_) (fun J2 B2 hp2 h hc => ?_)
  · skip
    refine ga_catch (nm := "TwoSidedTables$Unsolvable") hE (tableOf []) _ (tableOf []) rfl (fun z hz => by cases hz) (by decide) (by decide) q254 (ga_nt q256 rfl) ?_
    refine ga_astore_n (pc := 7) (L1 := [some (.ref (ad 0)), some (.ref p), some (.ref (ad 3))]) dX0_isSolvable_7 rfl (by decide) rfl ?_
    refine ga_iconst (pc := 8) dX0_isSolvable_8 ?_
    exact kc_zret hc hE dX0_isSolvable_9 (by omega) (by omega) (by first | exact Or.inl rfl | exact Or.inr rfl) (⟨_, rfl, ⟨⟨rfl, rfl, rfl⟩, by (try dsimp only); exact ⟨hp2.1, Or.inr ⟨rfl, hp2.2⟩⟩⟩⟩)
  refine ga_iconst (pc := 5) dX0_isSolvable_5 ?_
  exact kc_zret hc hE dX0_isSolvable_6 (by omega) (by omega) (by first | exact Or.inl rfl | exact Or.inr rfl) (⟨_, rfl, ⟨⟨rfl, rfl, rfl⟩, by (try dsimp only); exact ⟨hp2.1, Or.inl ⟨rfl, hp2.2⟩⟩⟩⟩)
theorem k_X0_isSolvable {X : ga_X} {R : Room} {nL : Nat} {cc : ByteArray} {h : ga_H} {ad : Nat → Nat} {J : Nat → Int} {B : Nat → Int → Int} {Q : Nat → Int → Option Nat} {Z : ga_H} {k n pc : Nat} {L : List (Option Value)} {st : List Value} {p q : Nat} {kx kd y sh fr : Int} {T : Int → Int → Int} (hc : cOn h ad J B Q Z) (hm : (1 ≤ J 30 ∧ J 30 ≤ 3) ∧ 1 ≤ J 31 ∧ J 31 ≤ 3) (hp : pOn Z p kx kd y sh q fr) (hfr : 0 ≤ fr ∧ fr ≤ 3) (he0 : ∀ k : Int, -50 ≤ B 0 k ∧ B 0 k ≤ 50) (he1 : ∀ k : Int, -50 ≤ B 1 k ∧ B 1 k ≤ 50) (he2 : ∀ k : Int, -50 ≤ B 2 k ∧ B 2 k ≤ 50) (hsh : -2 ≤ sh ∧ sh ≤ 2) (hkl : kd < 2 ∨ J 30 = J 31) (hun : 0 ≤ (xUn kx fr (J 30) (J 31)) ∧ (xUn kx fr (J 30) (J 31)) ≤ 9) (hT : ∀ p q : Int, 0 ≤ p → p < J 30 * J 31 → 0 ≤ q → q ≤ (xUn kx fr (J 30) (J 31)) → cTs kx kd fr sh (J 30) (J 31) (xUn kx fr (J 30) (J 31)) 0 (B 0) (B 1) (B 2) p q = T p q) (hsf : eSafe (J 30 * J 31) (xUn kx fr (J 30) (J 31)) T) (hR : 9 + 1 ≤ R.frames ∧ 19 + 3 + 64 * 9 ≤ R.locals) (hk : k ≤ R.cells ∧ n ≤ R.slots) (hs : (st.map fun v => v.category).sum ≤ 8) (dd : decode cc pc = .ok (.invokevirtual 422, 3))  (kk : ∀ (r : Int) (J1 : Nat → Int) (B1 : Nat → Int → Int), (cSt (J 30 * J 31) (xUn kx fr (J 30) (J 31)) (eRed (J 30 * J 31) T (xUn kx fr (J 30) (J 31)).toNat) J B J1 B1 ∧ ((r = 1 ∧ eSol (J 30 * J 31) (xUn kx fr (J 30) (J 31)) (eRed (J 30 * J 31) T (xUn kx fr (J 30) (J 31)).toNat)) ∨ (r = 0 ∧ ¬ eSol (J 30 * J 31) (xUn kx fr (J 30) (J 31)) (eRed (J 30 * J 31) T (xUn kx fr (J 30) (J 31)).toNat)))) → ∀ h : ga_H, cOn h ad J1 B1 Q Z → G X R RX0 nL cc h k n (pc + 3) L (.int (iI r) :: st)) : G X R RX0 nL cc h k n pc L (.ref p :: .ref (ad 0) :: st) := by
  refine kc_runW hc (m_X0_isSolvable _ _ ad J B Q Z p q kx kd y sh fr T hm hp hfr he0 he1 he2 hsh hkl hun hT hsf) (lw_VW q999 q1001 qs25 q102 q1002) rfl (show ga_nn' yX0_isSolvable 1 from (by unfold ga_nn'; decide +kernel)) hR hk hs dd rfl (fun EX qX hX adX JX BX QX ZX hcX hpX => ?_) (fun vX hX adX JX BX QX ZX hcX hpX => ?_)
  · exact hpX.elim
  · obtain ⟨rX, rfl, ⟨rfl, rfl, rfl⟩, hpX⟩ := hpX
    exact kk rX JX BX hpX hX hcX
