/-! THE CLASS: the sum at a place -/
theorem zCo_r {kd w i j : Int} (hw : 1 ≤ w ∧ w ≤ 3) (hi : 0 ≤ i ∧ i ≤ 2) (hj : 0 ≤ j ∧ j ≤ 2) : -10 ≤ zCo kd w i j ∧ zCo kd w i j ≤ 10 := by
  unfold zCo
  rcases (by omega : w = 1 ∨ w = 2 ∨ w = 3) with rfl | rfl | rfl <;> rcases (by omega : i = 0 ∨ i = 1 ∨ i = 2) with rfl | rfl | rfl <;> rcases (by omega : j = 0 ∨ j = 1 ∨ j = 2) with rfl | rfl | rfl <;> ((repeat' split) <;> decide)
theorem zAd_r {f : Int → Int} {bd r co v : Int} (hf : ∀ k : Int, 0 ≤ k → k < 100 → -bd ≤ f k ∧ f k ≤ bd) (hr : 0 ≤ r ∧ r ≤ 9) (hco : -10 ≤ co ∧ co ≤ 10) (hv : -100 ≤ v ∧ v ≤ 100) (k : Int) (k0 : 0 ≤ k) (k1 : k < 100) : -(bd + 100) ≤ zAd f r co v k ∧ zAd f r co v k ≤ bd + 100 := by
  have h1 := hf k k0 k1
  unfold zAd
  split
  · omega
  · unfold uZ
    have h2 := hf (10 * r + ((co.natAbs : Int) - 1)) (by omega) (by omega)
    split
    · split <;> omega
    · omega
/-- terms added to a row, one by one -/
def zFo (co v : Int → Int) (r : Int) (f : Int → Int) : Nat → Int → Int
  | 0 => f
  | k + 1 => zAd (zFo co v r f k) r (co k) (v k)
theorem zFo_s (co v : Int → Int) (r : Int) (f : Int → Int) {k : Int} (h : 0 ≤ k) : zFo co v r f (k + 1).toNat = zAd (zFo co v r f k.toNat) r (co k) (v k) := by
  rw [show (k + 1).toNat = k.toNat + 1 by omega]
  show zAd (zFo co v r f k.toNat) r (co (k.toNat : Nat)) (v (k.toNat : Nat)) = _
  rw [show ((k.toNat : Nat) : Int) = k by omega]
theorem zFo_r {co v : Int → Int} {r bd : Int} {f : Int → Int} (hf : ∀ k : Int, 0 ≤ k → k < 100 → -bd ≤ f k ∧ f k ≤ bd) (hr : 0 ≤ r ∧ r ≤ 9) : ∀ n : Nat, (∀ k : Int, 0 ≤ k → k < n → (-10 ≤ co k ∧ co k ≤ 10) ∧ -100 ≤ v k ∧ v k ≤ 100) → ∀ k : Int, 0 ≤ k → k < 100 → -(bd + 100 * n) ≤ zFo co v r f n k ∧ zFo co v r f n k ≤ bd + 100 * n := by
  intro n
  induction n with
  | zero => intro _ k k0 k1; have := hf k k0 k1; show -(bd + 100 * (0 : Nat)) ≤ f k ∧ f k ≤ _; omega
  | succ n ih =>
    intro hv k k0 k1
    have h1 := ih (fun j j0 j1 => hv j j0 (by omega))
    have h2 := zAd_r (r := r) (co := co n) (v := v n) h1 hr (hv n (by omega) (by omega)).1 (hv n (by omega) (by omega)).2 k k0 k1
    show -(bd + 100 * ((n + 1 : Nat) : Int)) ≤ zAd (zFo co v r f n) r (co n) (v n) k ∧ _
    constructor
    · have := h2.1; omega
    · have := h2.2; show zAd (zFo co v r f n) r (co n) (v n) k ≤ _; omega
theorem xCo_r {kx fr w i j : Int} (hw : 1 ≤ w ∧ w ≤ 3) (hi : 0 ≤ i ∧ i ≤ 2) (hj : 0 ≤ j ∧ j ≤ 2) (hf : 0 ≤ fr ∧ fr ≤ 3) : -10 ≤ xCo kx fr w i j ∧ xCo kx fr w i j ≤ 10 := by
  have h := zCo_r (kd := kx) hw hi hj
  unfold xCo
  rcases (by omega : w = 1 ∨ w = 2 ∨ w = 3) with rfl | rfl | rfl <;> ((repeat' split) <;> omega)
theorem zRg_r {kd : Int} {fa fb : Int → Int} {ca cb i j : Int} (ha : ∀ k : Int, -50 ≤ fa k ∧ fa k ≤ 50) (hb : ∀ k : Int, -50 ≤ fb k ∧ fb k ≤ 50) : -50 ≤ zRg kd fa fb ca cb i j ∧ zRg kd fa fb ca cb i j ≤ 50 := by
  have h1 := ha (ca * i + j)
  have h2 := ha (ca * j + i)
  have h3 := hb (cb * i + j)
  unfold zRg
  (repeat' split) <;> omega
set_option maxHeartbeats 4000000 in
set_option maxRecDepth 100000 in
theorem m_X0_laysSum (l : Launch) (D : ga_G) (ad : Nat → Nat) (J : Nat → Int) (B : Nat → Int → Int) (Q : Nat → Int → Option Nat) (Z : ga_H) (p q : Nat) (kx kd y sh fr ro i j bd : Int) (hm : (1 ≤ J 30 ∧ J 30 ≤ 3) ∧ 1 ≤ J 31 ∧ J 31 ≤ 3) (hp : pOn Z p kx kd y sh q fr) (hfr : 0 ≤ fr ∧ fr ≤ 3) (h1 : (0 ≤ ro ∧ ro ≤ 9) ∧ (0 ≤ i ∧ i < J 30) ∧ (0 ≤ j ∧ j < J 31) ∧ -2 ≤ sh ∧ sh ≤ 2) (hbd : 0 ≤ bd ∧ bd ≤ 100000) (hen : ∀ k : Int, 0 ≤ k → k < 100 → -bd ≤ B 10 k ∧ B 10 k ≤ bd) (he0 : ∀ k : Int, -50 ≤ B 0 k ∧ B 0 k ≤ 50) (he1 : ∀ k : Int, -50 ≤ B 1 k ∧ B 1 k ≤ 50) (hkl : kd < 2 ∨ J 30 = J 31) : cM l D yX0_laysSum (ws_ yX0_laysSum cX0_laysSum 6 none) (gR 5) [.ref (ad 0), .ref p, .int (iI ro), .int (iI i), .int (iI j)] ad J B Q Z (mV (fun J1 B1 => J1 = J ∧ B1 = (uN B 10 (zFo (fun x => xCo kx fr (J 31) i x) (fun x => zRg kd (B 0) (B 1) (J 30) (J 31) x j) ro (zFo (fun x => xCo kx fr (J 31) x j) (fun x => B 0 (J 30 * i + x)) ro (zAd (B 10) ro (xCo kx fr (J 31) i j) sh) (J 30).toNat) (J 31).toNat)))) := by
  refine cc_met (own := RX0) 1 (by decide) rfl (Nat.le_of_ble_eq_true rfl) (L0 := [some (.ref (ad 0)), some (.ref p), some (.int (iI ro)), some (.int (iI i)), some (.int (iI j)), none]) rfl (fun X h hc hE => ?_)
  have hc0 := xCo_r (kx := kx) (fr := fr) (w := J 31) (i := i) (j := j) hm.2 (by omega) (by omega) hfr
  have hb0 := zAd_r (r := ro) (co := xCo kx fr (J 31) i j) (v := sh) hen (by omega) hc0 (by omega)
  refine ga_aload_n (pc := 0) dX0_laysSum_0 rfl ?_
  refine ga_iload_n (pc := 1) dX0_laysSum_1 rfl ?_
  refine ga_aload_n (pc := 2) dX0_laysSum_2 rfl ?_
  refine ga_iload_n (pc := 3) dX0_laysSum_3 rfl ?_
  refine ga_iload (pc := 4) dX0_laysSum_4 rfl ?_
  refine ga_aload_n (pc := 6) dX0_laysSum_6 rfl ?_
  refine cc_g_now (pc := 7) hc dX0_laysSum_7 ?_
  refine ga_getN (pc := 10) (C := RX4) (T := TX4) (N := 5) (v := .int (iI (J 31))) in_X4 rfl (hc.1 4 (by decide)) 1 (by decide) (ga_nt q309 rfl) rfl rfl dX0_laysSum_10 ?_
  refine x_codeAt (pc := 13) (p := p) (q := q) (kx := kx) (kd := kd) (y := y) (sh := sh) (fr := fr) (i := i) (j := j) (w := (J 31))  (hp.mono (fun a e z => (hc.2.2 a e z).1)) (by omega) hfr (rfl) ⟨Nat.le_of_ble_eq_true rfl, Nat.le_of_ble_eq_true rfl⟩ ⟨Nat.le_of_ble_eq_true rfl, Nat.le_of_ble_eq_true rfl⟩ (Nat.le_of_ble_eq_true rfl) dX0_laysSum_13 ?_
  refine ga_aload_n (pc := 16) dX0_laysSum_16 rfl ?_
  refine x_shift (pc := 17) (p := p) (q := q) (kx := kx) (kd := kd) (y := y) (sh := sh) (fr := fr)   (hp.mono (fun a e z => (hc.2.2 a e z).1))  (rfl) ⟨Nat.le_of_ble_eq_true rfl, Nat.le_of_ble_eq_true rfl⟩ ⟨Nat.le_of_ble_eq_true rfl, Nat.le_of_ble_eq_true rfl⟩ (Nat.le_of_ble_eq_true rfl) dX0_laysSum_17 ?_
  refine ga_i2l (pc := 20) dX0_laysSum_20 (by omega) ?_
  refine k_X0_adds (pc := 21) (ro := ro) (co := (xCo kx fr (J 31) i j)) (v := sh) (B2 := (uN B 10 (zAd (B 10) ro (xCo kx fr (J 31) i j) sh))) hc (by omega) (fun q q0 q1 => by have := hen q q0 q1; omega) (rfl) ⟨Nat.le_of_ble_eq_true rfl, Nat.le_of_ble_eq_true rfl⟩ ⟨Nat.le_of_ble_eq_true rfl, Nat.le_of_ble_eq_true rfl⟩ (Nat.le_of_ble_eq_true rfl) dX0_laysSum_21 (fun h hc => ?_)
  refine ga_iconst (pc := 24) dX0_laysSum_24 ?_
  refine ga_istore (pc := 25) (L1 := [some (.ref (ad 0)), some (.ref p), some (.int (iI ro)), some (.int (iI i)), some (.int (iI j)), some (.int (iI 0))]) dX0_laysSum_25 rfl (by decide) rfl ?_
  replace hc : cOn h ad J (uN B 10 (zFo (fun x => xCo kx fr (J 31) x j) (fun x => B 0 (J 30 * i + x)) ro (zAd (B 10) ro (xCo kx fr (J 31) i j) sh) (Int.toNat 0))) Q Z := hc.eq (rfl) (by funext j; by_cases e0 : j = 10; (subst e0; exact (show (zAd (B 10) ro (xCo kx fr (J 31) i j) sh) = (zFo (fun x => xCo kx fr (J 31) x j) (fun x => B 0 (J 30 * i + x)) ro (zAd (B 10) ro (xCo kx fr (J 31) i j) sh) (Int.toNat 0)) from rfl)); simp only [uN, if_neg e0]) rfl
  have lp27 : ∀ (N27 : Nat) (k : Int), ∀ h : ga_H, cOn h ad J (uN B 10 (zFo (fun x => xCo kx fr (J 31) x j) (fun x => B 0 (J 30 * i + x)) ro (zAd (B 10) ro (xCo kx fr (J 31) i j) sh) (Int.toNat k))) Q Z → (0 ≤ k ∧ k ≤ J 30) → (J 30 - k).toNat < N27 → G X (gR 5) RX0 6 cX0_laysSum h 0 0 27 [some (.ref (ad 0)), some (.ref p), some (.int (iI ro)), some (.int (iI i)), some (.int (iI j)), some (.int (iI k))] [] := by
    intro N27
    induction N27 with
    | zero => intro k h hc hk9 hN27; exact absurd hN27 (Nat.not_lt_zero _)
    | succ N27 ih27 =>
      intro k h hc hk9 hN27
      have hbk := zFo_r (co := fun k => xCo kx fr (J 31) k j) (v := fun k => B 0 (J 30 * i + k)) (r := ro) hb0 (by omega) k.toNat (fun q q0 q1 => by have := he0 (J 30 * i + q); exact ⟨xCo_r hm.2 (by omega) (by omega) hfr, by omega, by omega⟩)
      refine ga_iload (pc := 27) dX0_laysSum_27 rfl ?_
      refine ga_aload_n (pc := 29) dX0_laysSum_29 rfl ?_
      refine cc_g_now (pc := 30) hc dX0_laysSum_30 ?_
      refine ga_getN (pc := 33) (C := RX4) (T := TX4) (N := 5) (v := .int (iI (J 30))) in_X4 rfl (hc.1 4 (by decide)) 0 (by decide) (ga_nt q307 rfl) rfl rfl dX0_laysSum_33 ?_
      refine ga_icmp_ge (pc := 36) (tgt := 78) dX0_laysSum_36 rfl (by omega) (by omega) (fun c36 => ?_) (fun c36 => ?_)
      · skip
        refine ga_iconst (pc := 78) dX0_laysSum_78 ?_
        refine ga_istore (pc := 79) (L1 := [some (.ref (ad 0)), some (.ref p), some (.int (iI ro)), some (.int (iI i)), some (.int (iI j)), some (.int (iI 0))]) dX0_laysSum_79 rfl (by decide) rfl ?_
        replace hc : cOn h ad J (uN B 10 (zFo (fun x => xCo kx fr (J 31) i x) (fun x => zRg kd (B 0) (B 1) (J 30) (J 31) x j) ro (zFo (fun x => xCo kx fr (J 31) x j) (fun x => B 0 (J 30 * i + x)) ro (zAd (B 10) ro (xCo kx fr (J 31) i j) sh) (J 30).toNat) (Int.toNat 0))) Q Z := hc.eq (rfl) (by funext j; by_cases e0 : j = 10; (subst e0; exact (show (zFo (fun x => xCo kx fr (J 31) x j) (fun x => B 0 (J 30 * i + x)) ro (zAd (B 10) ro (xCo kx fr (J 31) i j) sh) (Int.toNat k)) = (zFo (fun x => xCo kx fr (J 31) i x) (fun x => zRg kd (B 0) (B 1) (J 30) (J 31) x j) ro (zFo (fun x => xCo kx fr (J 31) x j) (fun x => B 0 (J 30 * i + x)) ro (zAd (B 10) ro (xCo kx fr (J 31) i j) sh) (J 30).toNat) (Int.toNat 0)) from by rw [show k = J 30 by omega]; rfl)); simp only [uN, if_neg e0]) rfl
        have lp81 : ∀ (N81 : Nat) (k : Int), ∀ h : ga_H, cOn h ad J (uN B 10 (zFo (fun x => xCo kx fr (J 31) i x) (fun x => zRg kd (B 0) (B 1) (J 30) (J 31) x j) ro (zFo (fun x => xCo kx fr (J 31) x j) (fun x => B 0 (J 30 * i + x)) ro (zAd (B 10) ro (xCo kx fr (J 31) i j) sh) (J 30).toNat) (Int.toNat k))) Q Z → (0 ≤ k ∧ k ≤ J 31) → (J 31 - k).toNat < N81 → G X (gR 5) RX0 6 cX0_laysSum h 0 0 81 [some (.ref (ad 0)), some (.ref p), some (.int (iI ro)), some (.int (iI i)), some (.int (iI j)), some (.int (iI k))] [] := by
          intro N81
          induction N81 with
          | zero => intro k h hc hk9 hN81; exact absurd hN81 (Nat.not_lt_zero _)
          | succ N81 ih81 =>
            intro k h hc hk9 hN81
            have hb2 := zFo_r (co := fun k => xCo kx fr (J 31) k j) (v := fun k => B 0 (J 30 * i + k)) (r := ro) hb0 (by omega) (J 30).toNat (fun q q0 q1 => by have := he0 (J 30 * i + q); exact ⟨xCo_r hm.2 (by omega) (by omega) hfr, by omega, by omega⟩)
            have hbk := zFo_r (co := fun k => xCo kx fr (J 31) i k) (v := fun k => zRg kd (B 0) (B 1) (J 30) (J 31) k j) (r := ro) hb2 (by omega) k.toNat (fun q q0 q1 => by have := zRg_r (kd := kd) (ca := J 30) (cb := J 31) (i := q) (j := j) he0 he1; exact ⟨xCo_r hm.2 (by omega) (by omega) hfr, by omega, by omega⟩)
            refine ga_iload (pc := 81) dX0_laysSum_81 rfl ?_
            refine ga_aload_n (pc := 83) dX0_laysSum_83 rfl ?_
            refine cc_g_now (pc := 84) hc dX0_laysSum_84 ?_
            refine ga_getN (pc := 87) (C := RX4) (T := TX4) (N := 5) (v := .int (iI (J 31))) in_X4 rfl (hc.1 4 (by decide)) 1 (by decide) (ga_nt q309 rfl) rfl rfl dX0_laysSum_87 ?_
            refine ga_icmp_ge (pc := 90) (tgt := 130) dX0_laysSum_90 rfl (by omega) (by omega) (fun c90 => ?_) (fun c90 => ?_)
            · skip
              exact cc_vret hc hE dX0_laysSum_130 (⟨rfl, rfl, by funext j; by_cases e0 : j = 10; (subst e0; exact (show (zFo (fun x => xCo kx fr (J 31) i x) (fun x => zRg kd (B 0) (B 1) (J 30) (J 31) x j) ro (zFo (fun x => xCo kx fr (J 31) x j) (fun x => B 0 (J 30 * i + x)) ro (zAd (B 10) ro (xCo kx fr (J 31) i j) sh) (J 30).toNat) (Int.toNat k)) = (zFo (fun x => xCo kx fr (J 31) i x) (fun x => zRg kd (B 0) (B 1) (J 30) (J 31) x j) ro (zFo (fun x => xCo kx fr (J 31) x j) (fun x => B 0 (J 30 * i + x)) ro (zAd (B 10) ro (xCo kx fr (J 31) i j) sh) (J 30).toNat) (J 31).toNat) from by rw [show k = J 31 by omega])); simp only [uN, if_neg e0]⟩)
            · skip
              have hck := xCo_r (kx := kx) (fr := fr) (w := J 31) (i := i) (j := k) hm.2 (by omega) (by omega) hfr
              have hv1 := zRg_r (kd := kd) (ca := J 30) (cb := J 31) (i := k) (j := j) he0 he1
              refine ga_aload_n (pc := 93) dX0_laysSum_93 rfl ?_
              refine ga_iload_n (pc := 94) dX0_laysSum_94 rfl ?_
              refine ga_aload_n (pc := 95) dX0_laysSum_95 rfl ?_
              refine ga_iload_n (pc := 96) dX0_laysSum_96 rfl ?_
              refine ga_iload (pc := 97) dX0_laysSum_97 rfl ?_
              refine ga_aload_n (pc := 99) dX0_laysSum_99 rfl ?_
              refine cc_g_now (pc := 100) hc dX0_laysSum_100 ?_
              refine ga_getN (pc := 103) (C := RX4) (T := TX4) (N := 5) (v := .int (iI (J 31))) in_X4 rfl (hc.1 4 (by decide)) 1 (by decide) (ga_nt q309 rfl) rfl rfl dX0_laysSum_103 ?_
              refine x_codeAt (pc := 106) (p := p) (q := q) (kx := kx) (kd := kd) (y := y) (sh := sh) (fr := fr) (i := i) (j := k) (w := (J 31))  (hp.mono (fun a e z => (hc.2.2 a e z).1)) (by omega) hfr (rfl) ⟨Nat.le_of_ble_eq_true rfl, Nat.le_of_ble_eq_true rfl⟩ ⟨Nat.le_of_ble_eq_true rfl, Nat.le_of_ble_eq_true rfl⟩ (Nat.le_of_ble_eq_true rfl) dX0_laysSum_106 ?_
              refine ga_aload_n (pc := 109) dX0_laysSum_109 rfl ?_
              refine ga_aload_n (pc := 110) dX0_laysSum_110 rfl ?_
              refine cc_g_now (pc := 111) hc dX0_laysSum_111 ?_
              refine ga_iload (pc := 114) dX0_laysSum_114 rfl ?_
              refine ga_iload (pc := 116) dX0_laysSum_116 rfl ?_
              refine x_right (pc := 118) (p := p) (q := q) (kx := kx) (kd := kd) (y := y) (sh := sh) (fr := fr) (t := (ad 4)) (i := k) (j := j) (ta := ad 7) (tb := ad 8) (tc := ad 9) (ea := ad 16) (eb := ad 17) (m := J 30) (w := J 31) (ra := J 30) (ca := J 30) (rb := J 31) (cb := J 31) (fa := B 0) (fb := B 1) (hp.mono (fun a e z => (hc.2.2 a e z).1)) (hc.1 4 (by decide)) (hc.1 7 (by decide)) (hc.1 16 (by decide)) (hc.1 8 (by decide)) (hc.1 17 (by decide)) (fun z => zIx hm.2 (by omega) (by omega) (by omega)) (fun z => zIx hm.1 (by omega) (by omega) (by omega)) (fun z => zIx hm.1 (by omega) (by omega) (by omega)) (rfl) ⟨Nat.le_of_ble_eq_true rfl, Nat.le_of_ble_eq_true rfl⟩ ⟨Nat.le_of_ble_eq_true rfl, Nat.le_of_ble_eq_true rfl⟩ (Nat.le_of_ble_eq_true rfl) dX0_laysSum_118 ?_
              refine k_X0_adds (pc := 121) (ro := ro) (co := (xCo kx fr (J 31) i k)) (v := (zRg kd (B 0) (B 1) (J 30) (J 31) k j)) (B2 := (uN B 10 (zAd ((zFo (fun x => xCo kx fr (J 31) i x) (fun x => zRg kd (B 0) (B 1) (J 30) (J 31) x j) ro (zFo (fun x => xCo kx fr (J 31) x j) (fun x => B 0 (J 30 * i + x)) ro (zAd (B 10) ro (xCo kx fr (J 31) i j) sh) (J 30).toNat) (Int.toNat k))) ro (xCo kx fr (J 31) i k) (zRg kd (B 0) (B 1) (J 30) (J 31) k j)))) hc (show (0 ≤ ro ∧ ro ≤ 9) ∧ (-10 ≤ (xCo kx fr (J 31) i k) ∧ (xCo kx fr (J 31) i k) ≤ 10) ∧ -100 ≤ (zRg kd (B 0) (B 1) (J 30) (J 31) k j) ∧ (zRg kd (B 0) (B 1) (J 30) (J 31) k j) ≤ 100 from by omega) (show ∀ x9 : Int, 0 ≤ x9 → x9 < 100 → z40 ((zFo (fun x => xCo kx fr (J 31) i x) (fun x => zRg kd (B 0) (B 1) (J 30) (J 31) x j) ro (zFo (fun x => xCo kx fr (J 31) x j) (fun x => B 0 (J 30 * i + x)) ro (zAd (B 10) ro (xCo kx fr (J 31) i j) sh) (J 30).toNat) (Int.toNat k)) x9) from fun q q0 q1 => by have := hbk q q0 q1; omega) (by funext j; by_cases e0 : j = 10; (subst e0; rfl); simp only [uN, if_neg e0]) ⟨Nat.le_of_ble_eq_true rfl, Nat.le_of_ble_eq_true rfl⟩ ⟨Nat.le_of_ble_eq_true rfl, Nat.le_of_ble_eq_true rfl⟩ (Nat.le_of_ble_eq_true rfl) dX0_laysSum_121 (fun h hc => ?_)
              refine ga_iinc (pc := 124) (L1 := [some (.ref (ad 0)), some (.ref p), some (.int (iI ro)), some (.int (iI i)), some (.int (iI j)), some (.int (iI (k + 1)))]) dX0_laysSum_124 rfl rfl (by decide) rfl ?_
              refine ga_goto (pc := 127) (tgt := 81) dX0_laysSum_127 rfl ?_
              replace hc : cOn h ad J (uN B 10 (zFo (fun x => xCo kx fr (J 31) i x) (fun x => zRg kd (B 0) (B 1) (J 30) (J 31) x j) ro (zFo (fun x => xCo kx fr (J 31) x j) (fun x => B 0 (J 30 * i + x)) ro (zAd (B 10) ro (xCo kx fr (J 31) i j) sh) (J 30).toNat) (Int.toNat (k + 1)))) Q Z := hc.eq (rfl) (by funext j; by_cases e0 : j = 10; (subst e0; exact (show (zAd ((zFo (fun x => xCo kx fr (J 31) i x) (fun x => zRg kd (B 0) (B 1) (J 30) (J 31) x j) ro (zFo (fun x => xCo kx fr (J 31) x j) (fun x => B 0 (J 30 * i + x)) ro (zAd (B 10) ro (xCo kx fr (J 31) i j) sh) (J 30).toNat) (Int.toNat k))) ro (xCo kx fr (J 31) i k) (zRg kd (B 0) (B 1) (J 30) (J 31) k j)) = (zFo (fun x => xCo kx fr (J 31) i x) (fun x => zRg kd (B 0) (B 1) (J 30) (J 31) x j) ro (zFo (fun x => xCo kx fr (J 31) x j) (fun x => B 0 (J 30 * i + x)) ro (zAd (B 10) ro (xCo kx fr (J 31) i j) sh) (J 30).toNat) (Int.toNat (k + 1))) from (zFo_s _ _ _ _ hk9.1).symm)); simp only [uN, if_neg e0]) rfl
              exact ih81 (k + 1) h hc (by omega) (by omega)
        exact lp81 _ 0 h hc (by omega) (Nat.lt_succ_self _)
      · skip
        have hck := xCo_r (kx := kx) (fr := fr) (w := J 31) (i := k) (j := j) hm.2 (by omega) (by omega) hfr
        have hv0 := he0 (J 30 * i + k)
        have hix := zIx hm.1 (i := i) (j := k) (by omega) (by omega) (by omega)
        refine ga_aload_n (pc := 39) dX0_laysSum_39 rfl ?_
        refine ga_iload_n (pc := 40) dX0_laysSum_40 rfl ?_
        refine ga_aload_n (pc := 41) dX0_laysSum_41 rfl ?_
        refine ga_iload (pc := 42) dX0_laysSum_42 rfl ?_
        refine ga_iload (pc := 44) dX0_laysSum_44 rfl ?_
        refine ga_aload_n (pc := 46) dX0_laysSum_46 rfl ?_
        refine cc_g_now (pc := 47) hc dX0_laysSum_47 ?_
        refine ga_getN (pc := 50) (C := RX4) (T := TX4) (N := 5) (v := .int (iI (J 31))) in_X4 rfl (hc.1 4 (by decide)) 1 (by decide) (ga_nt q309 rfl) rfl rfl dX0_laysSum_50 ?_
        refine x_codeAt (pc := 53) (p := p) (q := q) (kx := kx) (kd := kd) (y := y) (sh := sh) (fr := fr) (i := k) (j := j) (w := (J 31))  (hp.mono (fun a e z => (hc.2.2 a e z).1)) (by omega) hfr (rfl) ⟨Nat.le_of_ble_eq_true rfl, Nat.le_of_ble_eq_true rfl⟩ ⟨Nat.le_of_ble_eq_true rfl, Nat.le_of_ble_eq_true rfl⟩ (Nat.le_of_ble_eq_true rfl) dX0_laysSum_53 ?_
        refine ga_aload_n (pc := 56) dX0_laysSum_56 rfl ?_
        refine cc_g_now (pc := 57) hc dX0_laysSum_57 ?_
        refine ga_getN (pc := 60) (C := RX4) (T := TX4) (N := 5) (v := .ref (ad 7)) in_X4 rfl (hc.1 4 (by decide)) 2 (by decide) (ga_nt q313 rfl) rfl rfl dX0_laysSum_60 ?_
        refine ga_iload_n (pc := 63) dX0_laysSum_63 rfl ?_
        refine ga_iload (pc := 64) dX0_laysSum_64 rfl ?_
        refine k_X5_at_X0 (pc := 66) (b := (ad 7)) (e := (ad 16)) (ro := (J 30)) (co := (J 30)) (i := i) (j := k) (f := (B 0)) (hc.1 7 (by decide)) (hc.1 16 (by decide)) (by omega) (rfl) ⟨Nat.le_of_ble_eq_true rfl, Nat.le_of_ble_eq_true rfl⟩ ⟨Nat.le_of_ble_eq_true rfl, Nat.le_of_ble_eq_true rfl⟩ (Nat.le_of_ble_eq_true rfl) dX0_laysSum_66 ?_
        refine k_X0_adds (pc := 69) (ro := ro) (co := (xCo kx fr (J 31) k j)) (v := ((B 0) ((J 30) * i + k))) (B2 := (uN B 10 (zAd ((zFo (fun x => xCo kx fr (J 31) x j) (fun x => B 0 (J 30 * i + x)) ro (zAd (B 10) ro (xCo kx fr (J 31) i j) sh) (Int.toNat k))) ro (xCo kx fr (J 31) k j) ((B 0) ((J 30) * i + k))))) hc (show (0 ≤ ro ∧ ro ≤ 9) ∧ (-10 ≤ (xCo kx fr (J 31) k j) ∧ (xCo kx fr (J 31) k j) ≤ 10) ∧ -100 ≤ ((B 0) ((J 30) * i + k)) ∧ ((B 0) ((J 30) * i + k)) ≤ 100 from by omega) (show ∀ x9 : Int, 0 ≤ x9 → x9 < 100 → z40 ((zFo (fun x => xCo kx fr (J 31) x j) (fun x => B 0 (J 30 * i + x)) ro (zAd (B 10) ro (xCo kx fr (J 31) i j) sh) (Int.toNat k)) x9) from fun q q0 q1 => by have := hbk q q0 q1; omega) (by funext j; by_cases e0 : j = 10; (subst e0; rfl); simp only [uN, if_neg e0]) ⟨Nat.le_of_ble_eq_true rfl, Nat.le_of_ble_eq_true rfl⟩ ⟨Nat.le_of_ble_eq_true rfl, Nat.le_of_ble_eq_true rfl⟩ (Nat.le_of_ble_eq_true rfl) dX0_laysSum_69 (fun h hc => ?_)
        refine ga_iinc (pc := 72) (L1 := [some (.ref (ad 0)), some (.ref p), some (.int (iI ro)), some (.int (iI i)), some (.int (iI j)), some (.int (iI (k + 1)))]) dX0_laysSum_72 rfl rfl (by decide) rfl ?_
        refine ga_goto (pc := 75) (tgt := 27) dX0_laysSum_75 rfl ?_
        replace hc : cOn h ad J (uN B 10 (zFo (fun x => xCo kx fr (J 31) x j) (fun x => B 0 (J 30 * i + x)) ro (zAd (B 10) ro (xCo kx fr (J 31) i j) sh) (Int.toNat (k + 1)))) Q Z := hc.eq (rfl) (by funext j; by_cases e0 : j = 10; (subst e0; exact (show (zAd ((zFo (fun x => xCo kx fr (J 31) x j) (fun x => B 0 (J 30 * i + x)) ro (zAd (B 10) ro (xCo kx fr (J 31) i j) sh) (Int.toNat k))) ro (xCo kx fr (J 31) k j) ((B 0) ((J 30) * i + k))) = (zFo (fun x => xCo kx fr (J 31) x j) (fun x => B 0 (J 30 * i + x)) ro (zAd (B 10) ro (xCo kx fr (J 31) i j) sh) (Int.toNat (k + 1))) from (zFo_s _ _ _ _ hk9.1).symm)); simp only [uN, if_neg e0]) rfl
        exact ih27 (k + 1) h hc (by omega) (by omega)
  exact lp27 _ 0 h hc (by omega) (Nat.lt_succ_self _)
theorem k_X0_laysSum {X : ga_X} {R : Room} {nL : Nat} {cc : ByteArray} {h : ga_H} {ad : Nat → Nat} {J : Nat → Int} {B : Nat → Int → Int} {Q : Nat → Int → Option Nat} {Z : ga_H} {k n pc : Nat} {L : List (Option Value)} {st : List Value} {p q : Nat} {kx kd y sh fr ro i j bd : Int}  {B2 : Nat → Int → Int} (hc : cOn h ad J B Q Z) (hm : (1 ≤ J 30 ∧ J 30 ≤ 3) ∧ 1 ≤ J 31 ∧ J 31 ≤ 3) (hp : pOn Z p kx kd y sh q fr) (hfr : 0 ≤ fr ∧ fr ≤ 3) (h1 : (0 ≤ ro ∧ ro ≤ 9) ∧ (0 ≤ i ∧ i < J 30) ∧ (0 ≤ j ∧ j < J 31) ∧ -2 ≤ sh ∧ sh ≤ 2) (hbd : 0 ≤ bd ∧ bd ≤ 100000) (hen : ∀ k : Int, 0 ≤ k → k < 100 → -bd ≤ B 10 k ∧ B 10 k ≤ bd) (he0 : ∀ k : Int, -50 ≤ B 0 k ∧ B 0 k ≤ 50) (he1 : ∀ k : Int, -50 ≤ B 1 k ∧ B 1 k ≤ 50) (hkl : kd < 2 ∨ J 30 = J 31)  (hB2 : (uN B 10 (zFo (fun x => xCo kx fr (J 31) i x) (fun x => zRg kd (B 0) (B 1) (J 30) (J 31) x j) ro (zFo (fun x => xCo kx fr (J 31) x j) (fun x => B 0 (J 30 * i + x)) ro (zAd (B 10) ro (xCo kx fr (J 31) i j) sh) (J 30).toNat) (J 31).toNat)) = B2) (hR : 5 + 1 ≤ R.frames ∧ 19 + 6 + 64 * 5 ≤ R.locals) (hk : k ≤ R.cells ∧ n ≤ R.slots) (hs : (st.map fun v => v.category).sum ≤ 8) (dd : decode cc pc = .ok (.invokevirtual 319, 3)) (kk : ∀ h : ga_H, cOn h ad J B2 Q Z → G X R RX0 nL cc h k n (pc + 3) L st) : G X R RX0 nL cc h k n pc L (.int (iI j) :: .int (iI i) :: .int (iI ro) :: .ref p :: .ref (ad 0) :: st) :=
  cc_run hc (m_X0_laysSum _ _ ad J B Q Z p q kx kd y sh fr ro i j bd hm hp hfr h1 hbd hen he0 he1 hkl) (lw_V q902 q904 qs19 q102 q905) rfl (show ga_nn' yX0_laysSum 4 from (by unfold ga_nn'; decide +kernel)) hR hk hs dd rfl (fun v hX J1 B1 hcX hp => by
    obtain ⟨rfl, hp⟩ := hp
    obtain ⟨rfl, rfl⟩ := hp
    subst hB2
    exact kk hX hcX)
