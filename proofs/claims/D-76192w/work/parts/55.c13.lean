/-! THE CLASS: the system of an equation, laid out -/
theorem zAd_at {f : Int → Int} {r co v s k : Int} (hco : -10 ≤ co ∧ co ≤ 10) (hk : 0 ≤ k ∧ k ≤ 9) : zAd f r co v (10 * s + k) = f (10 * s + k) + (if s = r then w_sg co k * v else 0) := by
  unfold zAd w_sg
  by_cases h0 : co = 0
  · rw [if_pos h0, if_neg (show ¬ co = k + 1 by omega), if_neg (show ¬ co = -(k + 1) by omega)]
    split <;> omega
  · rw [if_neg h0]
    unfold uZ
    by_cases e : 10 * s + k = 10 * r + ((co.natAbs : Int) - 1)
    · have e1 : s = r := by omega
      have e2 : k = (co.natAbs : Int) - 1 := by omega
      rw [if_pos e, if_pos e1, ← e]
      by_cases h1 : 0 < co
      · rw [if_pos h1, if_pos (by omega), Int.one_mul]
      · rw [if_neg h1, if_neg (by omega), if_pos (by omega)]; omega
    · rw [if_neg e]
      by_cases e1 : s = r
      · rw [if_pos e1, if_neg (by omega), if_neg (by omega)]; omega
      · rw [if_neg e1]; omega
theorem zFo_at {co v : Int → Int} {r s k : Int} {f : Int → Int} (hk : 0 ≤ k ∧ k ≤ 9) : ∀ n : Nat, (∀ x : Int, 0 ≤ x → x < n → -10 ≤ co x ∧ co x ≤ 10) → zFo co v r f n (10 * s + k) = f (10 * s + k) + (if s = r then zsum (fun x => w_sg (co x) k * v x) n else 0) := by
  intro n
  induction n with
  | zero => intro _; show f _ = f _ + (if s = r then 0 else 0); split <;> omega
  | succ n ih =>
    intro h
    show zAd (zFo co v r f n) r (co n) (v n) (10 * s + k) = _
    rw [zAd_at (h n (by omega) (by omega)) hk, ih fun x x0 x1 => h x x0 (by omega)]
    by_cases e : s = r
    · rw [if_pos e, if_pos e, if_pos e]
      show _ = _ + (zsum (fun x => w_sg (co x) k * v x) n + w_sg (co n) k * v n)
      omega
    · rw [if_neg e, if_neg e, if_neg e]; omega
/-- an entry of the class's system -/
def cEn (kx kd fr sh m n : Int) (fa fb : Int → Int) (i j k : Int) : Int := w_sg (xCo kx fr n i j) k * sh + zsum (fun x => w_sg (xCo kx fr n x j) k * fa (m * i + x)) m.toNat + zsum (fun x => w_sg (xCo kx fr n i x) k * zRg kd fa fb m n x j) n.toNat
def cGr (kx kd fr sh m n W f0 : Int) (fa fb fc : Int → Int) (lim r k : Int) : Int := if r < lim then (if k = W then fc (n * (f0 + r.tdiv n) + r.tmod n) else cEn kx kd fr sh m n fa fb (f0 + r.tdiv n) (r.tmod n) k) else 0
theorem w_sg_r (co k : Int) : w_sg co k = 1 ∨ w_sg co k = -1 ∨ w_sg co k = 0 := by
  unfold w_sg
  (repeat' split) <;> omega
theorem w_sg_m (co k : Int) {v b : Int} (hv : -b ≤ v ∧ v ≤ b) : -b ≤ w_sg co k * v ∧ w_sg co k * v ≤ b := by
  rcases w_sg_r co k with h | h | h <;> rw [h] <;> omega
theorem cEn_r {kx kd fr sh m n : Int} {fa fb : Int → Int} {i j k : Int} (hmn : (1 ≤ m ∧ m ≤ 3) ∧ 1 ≤ n ∧ n ≤ 3) (hs : -2 ≤ sh ∧ sh ≤ 2) (he0 : ∀ k : Int, -50 ≤ fa k ∧ fa k ≤ 50) (he1 : ∀ k : Int, -50 ≤ fb k ∧ fb k ≤ 50) : -302 ≤ cEn kx kd fr sh m n fa fb i j k ∧ cEn kx kd fr sh m n fa fb i j k ≤ 302 := by
  have h1 := w_sg_m (xCo kx fr n i j) k hs
  have h2 := w_zsB (f := fun x => w_sg (xCo kx fr n x j) k * fa (m * i + x)) (b := 50) m.toNat fun x _ _ => w_sg_m _ _ (he0 _)
  have h3 := w_zsB (f := fun x => w_sg (xCo kx fr n i x) k * zRg kd fa fb m n x j) (b := 50) n.toNat fun x _ _ => w_sg_m _ _ (zRg_r he0 he1)
  unfold cEn
  omega
theorem cGr_r {kx kd fr sh m n W f0 : Int} {fa fb fc : Int → Int} {lim r k : Int} (hmn : (1 ≤ m ∧ m ≤ 3) ∧ 1 ≤ n ∧ n ≤ 3) (hs : -2 ≤ sh ∧ sh ≤ 2) (he0 : ∀ k : Int, -50 ≤ fa k ∧ fa k ≤ 50) (he1 : ∀ k : Int, -50 ≤ fb k ∧ fb k ≤ 50) (he2 : ∀ k : Int, -50 ≤ fc k ∧ fc k ≤ 50) : -1000 ≤ cGr kx kd fr sh m n W f0 fa fb fc lim r k ∧ cGr kx kd fr sh m n W f0 fa fb fc lim r k ≤ 1000 := by
  have h1 := cEn_r (kx := kx) (kd := kd) (fr := fr) (i := f0 + r.tdiv n) (j := r.tmod n) (k := k) hmn hs he0 he1
  have h2 := he2 (n * (f0 + r.tdiv n) + r.tmod n)
  unfold cGr
  (repeat' split) <;> omega
theorem cPl {m n a j : Int} (hmn : (1 ≤ m ∧ m ≤ 3) ∧ 1 ≤ n ∧ n ≤ 3) (ha : 0 ≤ a ∧ a < m) (hj : 0 ≤ j ∧ j < n) : (0 ≤ n * a + j ∧ n * a + j ≤ 8) ∧ (n * a + j).tdiv n = a ∧ (n * a + j).tmod n = j := by
  have h0 : 0 ≤ n * a := Int.mul_nonneg (by omega) ha.1
  rw [Int.tdiv_eq_ediv_of_nonneg (by omega), Int.tmod_eq_emod_of_nonneg (by omega)]
  obtain ⟨⟨h1, h2⟩, h3, h4⟩ := hmn
  rcases (by omega : n = 1 ∨ n = 2 ∨ n = 3) with rfl | rfl | rfl <;> omega
/-- one more row -/
theorem cGr_s {kx kd fr sh m n W f0 i j : Int} {fa fb fc g : Int → Int} (hmn : (1 ≤ m ∧ m ≤ 3) ∧ 1 ≤ n ∧ n ≤ 3) (hf : 0 ≤ f0 ∧ f0 ≤ i) (hi : i < m) (hj : 0 ≤ j ∧ j < n) (hfr : 0 ≤ fr ∧ fr ≤ 3) (hW : 0 ≤ W ∧ W ≤ 9) (hg : ∀ r k : Int, 0 ≤ r → r ≤ 9 → 0 ≤ k → k ≤ 9 → g (10 * r + k) = cGr kx kd fr sh m n W f0 fa fb fc (n * (i - f0) + j) r k) :
    ∀ r k : Int, 0 ≤ r → r ≤ 9 → 0 ≤ k → k ≤ 9 → uZ (zFo (fun x => xCo kx fr n i x) (fun x => zRg kd fa fb m n x j) (n * (i - f0) + j) (zFo (fun x => xCo kx fr n x j) (fun x => fa (m * i + x)) (n * (i - f0) + j) (zAd g (n * (i - f0) + j) (xCo kx fr n i j) sh) m.toNat) n.toNat) (10 * (n * (i - f0) + j) + W) (fc (n * i + j)) (10 * r + k) = cGr kx kd fr sh m n W f0 fa fb fc (n * (i - f0) + (j + 1)) r k := by
  intro r k r0 r1 k0 k1
  have hp := cPl hmn (a := i - f0) (j := j) (by omega) hj
  obtain ⟨R, hR⟩ : ∃ R, R = n * (i - f0) + j := ⟨_, rfl⟩
  rw [show n * (i - f0) + (j + 1) = R + 1 by omega]
  rw [← hR] at hp hg ⊢
  have c1 := fun x (x0 : (0 : Int) ≤ x) (x1 : x < (n.toNat : Nat)) => xCo_r (kx := kx) (fr := fr) (w := n) (i := i) (j := x) hmn.2 (by omega) (by omega) hfr
  have c2 := fun x (x0 : (0 : Int) ≤ x) (x1 : x < (m.toNat : Nat)) => xCo_r (kx := kx) (fr := fr) (w := n) (i := x) (j := j) hmn.2 (by omega) (by omega) hfr
  have c3 := xCo_r (kx := kx) (fr := fr) (w := n) (i := i) (j := j) hmn.2 (by omega) (by omega) hfr
  by_cases e : 10 * r + k = 10 * R + W
  · rw [e, uZ_s]
    have e1 : r = R := by omega
    have e2 : k = W := by omega
    rw [e1, e2]
    unfold cGr
    rw [if_pos (show R < R + 1 by omega), if_pos rfl, hp.2.1, hp.2.2, show f0 + (i - f0) = i by omega]
  · rw [uZ_n _ _ e, zFo_at ⟨k0, k1⟩ n.toNat c1, zFo_at ⟨k0, k1⟩ m.toNat c2, zAd_at c3 ⟨k0, k1⟩, hg r k r0 r1 k0 k1]
    unfold cGr
    by_cases e1 : r = R
    · have e2 : ¬ k = W := fun q => e (by rw [e1, q])
      rw [if_pos e1, if_pos e1, if_pos e1, if_neg (show ¬ r < R by omega), if_pos (show r < R + 1 by omega), if_neg e2, e1, hp.2.1, hp.2.2, show f0 + (i - f0) = i by omega]
      unfold cEn
      omega
    · rw [if_neg e1, if_neg e1, if_neg e1]
      by_cases e2 : r < R
      · rw [if_pos e2, if_pos (show r < R + 1 by omega)]; omega
      · rw [if_neg e2, if_neg (show ¬ r < R + 1 by omega)]; omega
set_option maxHeartbeats 4000000 in
set_option maxRecDepth 100000 in
theorem m_X0_laysOut_2 (l : Launch) (D : ga_G) (ad : Nat → Nat) (J : Nat → Int) (B : Nat → Int → Int) (Q : Nat → Int → Option Nat) (Z : ga_H) (p q : Nat) (kx kd y sh fr f0 : Int) (hm : (1 ≤ J 30 ∧ J 30 ≤ 3) ∧ 1 ≤ J 31 ∧ J 31 ≤ 3) (hp : pOn Z p kx kd y sh q fr) (hfr : 0 ≤ fr ∧ fr ≤ 3) (he0 : ∀ k : Int, -50 ≤ B 0 k ∧ B 0 k ≤ 50) (he1 : ∀ k : Int, -50 ≤ B 1 k ∧ B 1 k ≤ 50) (he2 : ∀ k : Int, -50 ≤ B 2 k ∧ B 2 k ≤ 50) (hsh : -2 ≤ sh ∧ sh ≤ 2) (hkl : kd < 2 ∨ J 30 = J 31) (hun : 0 ≤ (xUn kx fr (J 30) (J 31)) ∧ (xUn kx fr (J 30) (J 31)) ≤ 9) (hf0 : 0 ≤ f0 ∧ f0 < J 30) : cM l D yX0_laysOut_2 (ws_ yX0_laysOut_2 cX0_laysOut_2 6 none) (gR 6) [.ref (ad 0), .ref p, .int (iI f0)] ad J B Q Z (mV (fun J1 B1 => J1 = uN (uN J 20 ((J 30 - f0) * J 31)) 21 (xUn kx fr (J 30) (J 31)) ∧ ∃ g, B1 = uN B 10 g ∧ ∀ r k : Int, 0 ≤ r → r ≤ 9 → 0 ≤ k → k ≤ 9 → g (10 * r + k) = cGr kx kd fr sh (J 30) (J 31) (xUn kx fr (J 30) (J 31)) f0 (B 0) (B 1) (B 2) (J 31 * (J 30 - f0)) r k)) := by
  refine cc_met (own := RX0) 3 (by decide) rfl (Nat.le_of_ble_eq_true rfl) (L0 := [some (.ref (ad 0)), some (.ref p), some (.int (iI f0)), none, none, none]) rfl (fun X h hc hE => ?_)
  refine ga_aload_n (pc := 0) dX0_laysOut_2_0 rfl ?_
  refine ga_aload_n (pc := 1) dX0_laysOut_2_1 rfl ?_
  refine cc_g_now (pc := 2) hc dX0_laysOut_2_2 ?_
  refine ga_getN (pc := 5) (C := RX4) (T := TX4) (N := 5) (v := .int (iI (J 30))) in_X4 rfl (hc.1 4 (by decide)) 0 (by decide) (ga_nt q307 rfl) rfl rfl dX0_laysOut_2_5 ?_
  refine ga_iload_n (pc := 8) dX0_laysOut_2_8 rfl ?_
  refine ga_isub (pc := 9) dX0_laysOut_2_9 ?_
  refine ga_aload_n (pc := 10) dX0_laysOut_2_10 rfl ?_
  refine cc_g_now (pc := 11) hc dX0_laysOut_2_11 ?_
  refine ga_getN (pc := 14) (C := RX4) (T := TX4) (N := 5) (v := .int (iI (J 31))) in_X4 rfl (hc.1 4 (by decide)) 1 (by decide) (ga_nt q309 rfl) rfl rfl dX0_laysOut_2_14 ?_
  refine ga_imul (pc := 17) dX0_laysOut_2_17 ?_
  refine ga_aload_n (pc := 18) dX0_laysOut_2_18 rfl ?_
  refine ga_aload_n (pc := 19) dX0_laysOut_2_19 rfl ?_
  refine cc_g_now (pc := 20) hc dX0_laysOut_2_20 ?_
  refine ga_getN (pc := 23) (C := RX4) (T := TX4) (N := 5) (v := .int (iI (J 30))) in_X4 rfl (hc.1 4 (by decide)) 0 (by decide) (ga_nt q307 rfl) rfl rfl dX0_laysOut_2_23 ?_
  refine ga_aload_n (pc := 26) dX0_laysOut_2_26 rfl ?_
  refine cc_g_now (pc := 27) hc dX0_laysOut_2_27 ?_
  refine ga_getN (pc := 30) (C := RX4) (T := TX4) (N := 5) (v := .int (iI (J 31))) in_X4 rfl (hc.1 4 (by decide)) 1 (by decide) (ga_nt q309 rfl) rfl rfl dX0_laysOut_2_30 ?_
  refine x_unknowns (pc := 33) (p := p) (q := q) (kx := kx) (kd := kd) (y := y) (sh := sh) (fr := fr) (m := (J 30)) (w := (J 31))  (hp.mono (fun a e z => (hc.2.2 a e z).1)) (by omega) (rfl) ⟨Nat.le_of_ble_eq_true rfl, Nat.le_of_ble_eq_true rfl⟩ ⟨Nat.le_of_ble_eq_true rfl, Nat.le_of_ble_eq_true rfl⟩ (Nat.le_of_ble_eq_true rfl) dX0_laysOut_2_33 ?_
  refine k_X0_clear (pc := 36) (a := (((J 30) - f0) * (J 31))) (b := (xUn kx fr (J 30) (J 31))) (J2 := (uN (uN J 20 (((J 30) - f0) * (J 31))) 21 (xUn kx fr (J 30) (J 31)))) (B2 := (uN B 10 (mSz (B 10) 0 100))) hc  (rfl) (rfl) ⟨Nat.le_of_ble_eq_true rfl, Nat.le_of_ble_eq_true rfl⟩ ⟨Nat.le_of_ble_eq_true rfl, Nat.le_of_ble_eq_true rfl⟩ (Nat.le_of_ble_eq_true rfl) dX0_laysOut_2_36 (fun h hc => ?_)
  refine ga_iload_n (pc := 39) dX0_laysOut_2_39 rfl ?_
  refine ga_istore_n (pc := 40) (L1 := [some (.ref (ad 0)), some (.ref p), some (.int (iI f0)), some (.int (iI f0)), none, none]) dX0_laysOut_2_40 rfl (by decide) rfl ?_
  replace hc : cOn h ad (uN (uN J 20 ((J 30 - f0) * J 31)) 21 (xUn kx fr (J 30) (J 31))) (uN B 10 (mSz (B 10) 0 100)) Q Z := hc.eq (by funext j; by_cases e0 : j = 20; (subst e0; rfl); by_cases e1 : j = 21; (subst e1; rfl); simp only [uN, if_neg e0, if_neg e1]) (rfl) rfl
  have lp41 : ∀ (N41 : Nat) (i : Int) (g : Int → Int), ∀ h : ga_H, cOn h ad (uN (uN J 20 ((J 30 - f0) * J 31)) 21 (xUn kx fr (J 30) (J 31))) (uN B 10 g) Q Z → (f0 ≤ i ∧ i ≤ J 30) → (∀ r k : Int, 0 ≤ r → r ≤ 9 → 0 ≤ k → k ≤ 9 → g (10 * r + k) = cGr kx kd fr sh (J 30) (J 31) (xUn kx fr (J 30) (J 31)) f0 (B 0) (B 1) (B 2) (J 31 * (i - f0)) r k) → (J 30 - i).toNat < N41 → G X (gR 6) RX0 6 cX0_laysOut_2 h 0 0 41 [some (.ref (ad 0)), some (.ref p), some (.int (iI f0)), some (.int (iI i)), none, none] [] := by
    intro N41
    induction N41 with
    | zero => intro i g h hc hi hg hN41; exact absurd hN41 (Nat.not_lt_zero _)
    | succ N41 ih41 =>
      intro i g h hc hi hg hN41
      refine ga_iload_n (pc := 41) dX0_laysOut_2_41 rfl ?_
      refine ga_aload_n (pc := 42) dX0_laysOut_2_42 rfl ?_
      refine cc_g_now (pc := 43) hc dX0_laysOut_2_43 ?_
      refine ga_getN (pc := 46) (C := RX4) (T := TX4) (N := 5) (v := .int (iI (J 30))) in_X4 rfl (hc.1 4 (by decide)) 0 (by decide) (ga_nt q307 rfl) rfl rfl dX0_laysOut_2_46 ?_
      refine ga_icmp_ge (pc := 49) (tgt := 133) dX0_laysOut_2_49 rfl (by omega) (by omega) (fun c49 => ?_) (fun c49 => ?_)
      · skip
        exact cc_vret hc hE dX0_laysOut_2_133 (⟨rfl, by dsimp only; (obtain rfl : i = J 30 := by omega); exact ⟨rfl, g, rfl, hg⟩⟩)
      · skip
        refine ga_iconst (pc := 52) dX0_laysOut_2_52 ?_
        refine ga_istore (pc := 53) (L1 := [some (.ref (ad 0)), some (.ref p), some (.int (iI f0)), some (.int (iI i)), some (.int (iI 0)), none]) dX0_laysOut_2_53 rfl (by decide) rfl ?_
        have lp55 : ∀ (N55 : Nat) (j : Int) (g2 : Int → Int), ∀ h : ga_H, cOn h ad (uN (uN J 20 ((J 30 - f0) * J 31)) 21 (xUn kx fr (J 30) (J 31))) (uN B 10 g2) Q Z → (0 ≤ j ∧ j ≤ J 31) → (∀ r k : Int, 0 ≤ r → r ≤ 9 → 0 ≤ k → k ≤ 9 → g2 (10 * r + k) = cGr kx kd fr sh (J 30) (J 31) (xUn kx fr (J 30) (J 31)) f0 (B 0) (B 1) (B 2) (J 31 * (i - f0) + j) r k) → (J 31 - j).toNat < N55 → G X (gR 6) RX0 6 cX0_laysOut_2 h 0 0 55 [some (.ref (ad 0)), some (.ref p), some (.int (iI f0)), some (.int (iI i)), some (.int (iI j)), none] [] := by
          intro N55
          induction N55 with
          | zero => intro j g2 h hc hj hg2 hN55; exact absurd hN55 (Nat.not_lt_zero _)
          | succ N55 ih55 =>
            intro j g2 h hc hj hg2 hN55
            refine ga_iload (pc := 55) dX0_laysOut_2_55 rfl ?_
            refine ga_aload_n (pc := 57) dX0_laysOut_2_57 rfl ?_
            refine cc_g_now (pc := 58) hc dX0_laysOut_2_58 ?_
            refine ga_getN (pc := 61) (C := RX4) (T := TX4) (N := 5) (v := .int (iI (J 31))) in_X4 rfl (hc.1 4 (by decide)) 1 (by decide) (ga_nt q309 rfl) rfl rfl dX0_laysOut_2_61 ?_
            refine ga_icmp_ge (pc := 64) (tgt := 127) dX0_laysOut_2_64 rfl (by omega) (by omega) (fun c64 => ?_) (fun c64 => ?_)
            · skip
              refine ga_iinc (pc := 127) (L1 := [some (.ref (ad 0)), some (.ref p), some (.int (iI f0)), some (.int (iI (i + 1))), some (.int (iI j)), none]) dX0_laysOut_2_127 rfl rfl (by decide) rfl ?_
              refine ga_goto (pc := 130) (tgt := 41) dX0_laysOut_2_130 rfl ?_
              refine ga_kill (pc := 41) 4 (L1 := [some (.ref (ad 0)), some (.ref p), some (.int (iI f0)), some (.int (iI (i + 1))), none, none]) rfl ?_
              exact ih41 (i + 1) g2 h hc (by omega) (by rw [show J 31 * (i + 1 - f0) = J 31 * (i - f0) + j by { obtain rfl : j = J 31 := (by omega); grind }]; exact hg2) (by omega)
            · skip
              have hf0a : 0 ≤ f0 ∧ f0 ≤ i := ⟨hf0.1, hi.1⟩
              have hcp := cPl hm (a := i - f0) (j := j) (by omega) (by omega)
              obtain ⟨r5, hr5⟩ : ∃ x, x = J 31 * (i - f0) + j := ⟨_, rfl⟩
              rw [← hr5] at hcp
              refine ga_aload_n (pc := 67) dX0_laysOut_2_67 rfl ?_
              refine cc_g_now (pc := 68) hc dX0_laysOut_2_68 ?_
              refine ga_getN (pc := 71) (C := RX4) (T := TX4) (N := 5) (v := .int (iI (J 31))) in_X4 rfl (hc.1 4 (by decide)) 1 (by decide) (ga_nt q309 rfl) rfl rfl dX0_laysOut_2_71 ?_
              refine ga_iload_n (pc := 74) dX0_laysOut_2_74 rfl ?_
              refine ga_iload_n (pc := 75) dX0_laysOut_2_75 rfl ?_
              refine ga_isub (pc := 76) dX0_laysOut_2_76 ?_
              refine ga_imul (pc := 77) dX0_laysOut_2_77 ?_
              refine ga_iload (pc := 78) dX0_laysOut_2_78 rfl ?_
              refine ga_iadd (pc := 80) dX0_laysOut_2_80 ?_
              refine ga_topi (pc := 81) (b := r5) (hr5.symm) ?_
              refine ga_istore (pc := 81) (L1 := [some (.ref (ad 0)), some (.ref p), some (.int (iI f0)), some (.int (iI i)), some (.int (iI j)), some (.int (iI r5))]) dX0_laysOut_2_81 rfl (by decide) rfl ?_
              refine ga_aload_n (pc := 83) dX0_laysOut_2_83 rfl ?_
              refine ga_aload_n (pc := 84) dX0_laysOut_2_84 rfl ?_
              refine ga_iload (pc := 85) dX0_laysOut_2_85 rfl ?_
              refine ga_iload_n (pc := 87) dX0_laysOut_2_87 rfl ?_
              refine ga_iload (pc := 88) dX0_laysOut_2_88 rfl ?_
              refine k_X0_laysSum (pc := 90) (p := p) (q := q) (kx := kx) (kd := kd) (y := y) (sh := sh) (fr := fr) (ro := r5) (i := i) (j := j) (bd := 1000) (B2 := (uN B 10 (zFo (fun x => xCo kx fr ((J 31)) i x) (fun x => zRg kd ((B 0)) ((B 1)) ((J 30)) ((J 31)) x j) r5 (zFo (fun x => xCo kx fr ((J 31)) x j) (fun x => (B 0) ((J 30) * i + x)) r5 (zAd (g2) r5 (xCo kx fr ((J 31)) i j) sh) ((J 30)).toNat) ((J 31)).toNat))) hc (show (1 ≤ (J 30) ∧ (J 30) ≤ 3) ∧ 1 ≤ (J 31) ∧ (J 31) ≤ 3 from by first | exact hm | omega) (show pOn Z p kx kd y sh q fr from by first | exact hp | omega) (show 0 ≤ fr ∧ fr ≤ 3 from by first | exact hfr | omega) (show (0 ≤ r5 ∧ r5 ≤ 9) ∧ (0 ≤ i ∧ i < (J 30)) ∧ (0 ≤ j ∧ j < (J 31)) ∧ -2 ≤ sh ∧ sh ≤ 2 from by omega) (show 0 ≤ 1000 ∧ 1000 ≤ 100000 from by omega) (show ∀ k : Int, 0 ≤ k → k < 100 → -1000 ≤ g2 k ∧ g2 k ≤ 1000 from fun k k0 k1 => by have e := hg2 (k / 10) (k % 10) (by omega) (by omega) (by omega) (by omega); rw [show 10 * (k / 10) + k % 10 = k by omega] at e; rw [e]; exact cGr_r hm hsh he0 he1 he2) (show ∀ k : Int, -50 ≤ (B 0) k ∧ (B 0) k ≤ 50 from by first | exact he0 | omega) (show ∀ k : Int, -50 ≤ (B 1) k ∧ (B 1) k ≤ 50 from by first | exact he1 | omega) (show kd < 2 ∨ (J 30) = (J 31) from by first | exact hkl | omega) (by funext j; by_cases e0 : j = 10; (subst e0; rfl); simp only [uN, if_neg e0]) ⟨Nat.le_of_ble_eq_true rfl, Nat.le_of_ble_eq_true rfl⟩ ⟨Nat.le_of_ble_eq_true rfl, Nat.le_of_ble_eq_true rfl⟩ (Nat.le_of_ble_eq_true rfl) dX0_laysOut_2_90 (fun h hc => ?_)
              refine ga_aload_n (pc := 93) dX0_laysOut_2_93 rfl ?_
              refine cc_g_grid (pc := 94) hc dX0_laysOut_2_94 ?_
              refine ga_bipush (pc := 97) dX0_laysOut_2_97 rfl ?_
              refine ga_iload (pc := 99) dX0_laysOut_2_99 rfl ?_
              refine ga_imul (pc := 101) dX0_laysOut_2_101 ?_
              refine ga_aload_n (pc := 102) dX0_laysOut_2_102 rfl ?_
              refine cc_g_gridUnknowns (pc := 103) (z := xUn kx fr (J 30) (J 31)) hc rfl dX0_laysOut_2_103 ?_
              refine ga_iadd (pc := 106) dX0_laysOut_2_106 ?_
              refine ga_aload_n (pc := 107) dX0_laysOut_2_107 rfl ?_
              refine cc_g_now (pc := 108) hc dX0_laysOut_2_108 ?_
              refine ga_getN (pc := 111) (C := RX4) (T := TX4) (N := 5) (v := .ref (ad 9)) in_X4 rfl (hc.1 4 (by decide)) 4 (by decide) (ga_nt q318 rfl) rfl rfl dX0_laysOut_2_111 ?_
              have hix2 := zIx hm.2 (i := i) (j := j) (by omega) (by omega) (by omega)
              refine ga_iload_n (pc := 114) dX0_laysOut_2_114 rfl ?_
              refine ga_iload (pc := 115) dX0_laysOut_2_115 rfl ?_
              refine k_X5_at_X0 (pc := 117) (b := (ad 9)) (e := (ad 18)) (ro := (J 30)) (co := (J 31)) (i := i) (j := j) (f := (B 2)) (hc.1 9 (by decide)) (hc.1 18 (by decide)) (by first | exact hij | omega) (rfl) ⟨Nat.le_of_ble_eq_true rfl, Nat.le_of_ble_eq_true rfl⟩ ⟨Nat.le_of_ble_eq_true rfl, Nat.le_of_ble_eq_true rfl⟩ (Nat.le_of_ble_eq_true rfl) dX0_laysOut_2_117 ?_
              refine cc_ast10 (pc := 120) (B1 := (uN B 10 (uZ (zFo (fun x => xCo kx fr ((J 31)) i x) (fun x => zRg kd ((B 0)) ((B 1)) ((J 30)) ((J 31)) x j) r5 (zFo (fun x => xCo kx fr ((J 31)) x j) (fun x => (B 0) ((J 30) * i + x)) r5 (zAd (g2) r5 (xCo kx fr ((J 31)) i j) sh) ((J 30)).toNat) ((J 31)).toNat) ((10 * r5) + (xUn kx fr (J 30) (J 31))) ((B 2) ((J 31) * i + j))))) hc (by omega) (by funext j; by_cases e0 : j = 10; (subst e0; rfl); simp only [uN, if_neg e0]) dX0_laysOut_2_120 (fun h hc => ?_)
              refine ga_iinc (pc := 121) (L1 := [some (.ref (ad 0)), some (.ref p), some (.int (iI f0)), some (.int (iI i)), some (.int (iI (j + 1))), some (.int (iI r5))]) dX0_laysOut_2_121 rfl rfl (by decide) rfl ?_
              refine ga_goto (pc := 124) (tgt := 55) dX0_laysOut_2_124 rfl ?_
              refine ga_kill (pc := 55) 5 (L1 := [some (.ref (ad 0)), some (.ref p), some (.int (iI f0)), some (.int (iI i)), some (.int (iI (j + 1))), none]) rfl ?_
              exact ih55 (j + 1) (uZ (zFo (fun x => xCo kx fr ((J 31)) i x) (fun x => zRg kd ((B 0)) ((B 1)) ((J 30)) ((J 31)) x j) r5 (zFo (fun x => xCo kx fr ((J 31)) x j) (fun x => (B 0) ((J 30) * i + x)) r5 (zAd (g2) r5 (xCo kx fr ((J 31)) i j) sh) ((J 30)).toNat) ((J 31)).toNat) ((10 * r5) + (xUn kx fr (J 30) (J 31))) ((B 2) ((J 31) * i + j))) h hc (by omega) (by have := cGr_s (sh := sh) (fc := B 2) hm hf0a (by omega) (by omega) hfr hun hg2; rw [← hr5] at this; exact this) (by omega)
        exact lp55 _ 0 g h hc (by omega) (by rw [Int.add_zero]; exact hg) (Nat.lt_succ_self _)
  exact lp41 _ f0 (mSz (B 10) 0 100) h hc (by omega) (fun r k r0 r1 k0 k1 => by unfold mSz cGr; rw [if_pos (by omega), Int.sub_self, Int.mul_zero, if_neg (by omega)]) (Nat.lt_succ_self _)
theorem k_X0_laysOut_2 {X : ga_X} {R : Room} {nL : Nat} {cc : ByteArray} {h : ga_H} {ad : Nat → Nat} {J : Nat → Int} {B : Nat → Int → Int} {Q : Nat → Int → Option Nat} {Z : ga_H} {k n pc : Nat} {L : List (Option Value)} {st : List Value} {p q : Nat} {kx kd y sh fr f0 : Int}  (hc : cOn h ad J B Q Z) (hm : (1 ≤ J 30 ∧ J 30 ≤ 3) ∧ 1 ≤ J 31 ∧ J 31 ≤ 3) (hp : pOn Z p kx kd y sh q fr) (hfr : 0 ≤ fr ∧ fr ≤ 3) (he0 : ∀ k : Int, -50 ≤ B 0 k ∧ B 0 k ≤ 50) (he1 : ∀ k : Int, -50 ≤ B 1 k ∧ B 1 k ≤ 50) (he2 : ∀ k : Int, -50 ≤ B 2 k ∧ B 2 k ≤ 50) (hsh : -2 ≤ sh ∧ sh ≤ 2) (hkl : kd < 2 ∨ J 30 = J 31) (hun : 0 ≤ (xUn kx fr (J 30) (J 31)) ∧ (xUn kx fr (J 30) (J 31)) ≤ 9) (hf0 : 0 ≤ f0 ∧ f0 < J 30)  (hR : 6 + 1 ≤ R.frames ∧ 19 + 6 + 64 * 6 ≤ R.locals) (hk : k ≤ R.cells ∧ n ≤ R.slots) (hs : (st.map fun v => v.category).sum ≤ 8) (dd : decode cc pc = .ok (.invokevirtual 325, 3)) (kk : ∀ (J1 : Nat → Int) (B1 : Nat → Int → Int), (J1 = uN (uN J 20 ((J 30 - f0) * J 31)) 21 (xUn kx fr (J 30) (J 31)) ∧ ∃ g, B1 = uN B 10 g ∧ ∀ r k : Int, 0 ≤ r → r ≤ 9 → 0 ≤ k → k ≤ 9 → g (10 * r + k) = cGr kx kd fr sh (J 30) (J 31) (xUn kx fr (J 30) (J 31)) f0 (B 0) (B 1) (B 2) (J 31 * (J 30 - f0)) r k) → ∀ h : ga_H, cOn h ad J1 B1 Q Z → G X R RX0 nL cc h k n (pc + 3) L st) : G X R RX0 nL cc h k n pc L (.int (iI f0) :: .ref p :: .ref (ad 0) :: st) :=
  cc_run hc (m_X0_laysOut_2 _ _ ad J B Q Z p q kx kd y sh fr f0 hm hp hfr he0 he1 he2 hsh hkl hun hf0) (lw_V q894 q896 qs17 q102 q897) rfl (show ga_nn' yX0_laysOut_2 2 from (by unfold ga_nn'; decide +kernel)) hR hk hs dd rfl (fun v hX J1 B1 hcX hp => by
    obtain ⟨rfl, hp⟩ := hp
    exact kk J1 B1 hp hX hcX)
set_option maxHeartbeats 4000000 in
set_option maxRecDepth 100000 in
theorem m_X0_laysOut (l : Launch) (D : ga_G) (ad : Nat → Nat) (J : Nat → Int) (B : Nat → Int → Int) (Q : Nat → Int → Option Nat) (Z : ga_H) (p q : Nat) (kx kd y sh fr : Int) (hm : (1 ≤ J 30 ∧ J 30 ≤ 3) ∧ 1 ≤ J 31 ∧ J 31 ≤ 3) (hp : pOn Z p kx kd y sh q fr) (hfr : 0 ≤ fr ∧ fr ≤ 3) (he0 : ∀ k : Int, -50 ≤ B 0 k ∧ B 0 k ≤ 50) (he1 : ∀ k : Int, -50 ≤ B 1 k ∧ B 1 k ≤ 50) (he2 : ∀ k : Int, -50 ≤ B 2 k ∧ B 2 k ≤ 50) (hsh : -2 ≤ sh ∧ sh ≤ 2) (hkl : kd < 2 ∨ J 30 = J 31) (hun : 0 ≤ (xUn kx fr (J 30) (J 31)) ∧ (xUn kx fr (J 30) (J 31)) ≤ 9) : cM l D yX0_laysOut (ws_ yX0_laysOut cX0_laysOut 2 none) (gR 7) [.ref (ad 0), .ref p] ad J B Q Z (mV (fun J1 B1 => J1 = uN (uN J 20 (J 30 * J 31)) 21 (xUn kx fr (J 30) (J 31)) ∧ ∃ g, B1 = uN B 10 g ∧ ∀ r k : Int, 0 ≤ r → r ≤ 9 → 0 ≤ k → k ≤ 9 → g (10 * r + k) = cGr kx kd fr sh (J 30) (J 31) (xUn kx fr (J 30) (J 31)) 0 (B 0) (B 1) (B 2) (J 31 * J 30) r k)) := by
  refine cc_met (own := RX0) 0 (by decide) rfl (Nat.le_of_ble_eq_true rfl) (L0 := [some (.ref (ad 0)), some (.ref p)]) rfl (fun X h hc hE => ?_)
  refine ga_aload_n (pc := 0) dX0_laysOut_0 rfl ?_
  refine ga_aload_n (pc := 1) dX0_laysOut_1 rfl ?_
  refine ga_iconst (pc := 2) dX0_laysOut_2 ?_
  refine k_X0_laysOut_2 (pc := 3) (p := p) (q := q) (kx := kx) (kd := kd) (y := y) (sh := sh) (fr := fr) (f0 := 0) hc (by first | exact hm | omega) (by first | exact hp | omega) (by first | exact hfr | omega) (by first | exact he0 | omega) (by first | exact he1 | omega) (by first | exact he2 | omega) (by first | exact hsh | omega) (by first | exact hkl | omega) (by first | exact hun | omega) (by first | exact hf0 | omega) ⟨Nat.le_of_ble_eq_true rfl, Nat.le_of_ble_eq_true rfl⟩ ⟨Nat.le_of_ble_eq_true rfl, Nat.le_of_ble_eq_true rfl⟩ (Nat.le_of_ble_eq_true rfl) dX0_laysOut_3 (fun J3 B3 hp3 h hc => ?_)
  exact cc_vret hc hE dX0_laysOut_6 (⟨rfl, by dsimp only; simpa only [Int.sub_zero] using hp3⟩)
theorem k_X0_laysOut {X : ga_X} {R : Room} {nL : Nat} {cc : ByteArray} {h : ga_H} {ad : Nat → Nat} {J : Nat → Int} {B : Nat → Int → Int} {Q : Nat → Int → Option Nat} {Z : ga_H} {k n pc : Nat} {L : List (Option Value)} {st : List Value} {p q : Nat} {kx kd y sh fr : Int}  (hc : cOn h ad J B Q Z) (hm : (1 ≤ J 30 ∧ J 30 ≤ 3) ∧ 1 ≤ J 31 ∧ J 31 ≤ 3) (hp : pOn Z p kx kd y sh q fr) (hfr : 0 ≤ fr ∧ fr ≤ 3) (he0 : ∀ k : Int, -50 ≤ B 0 k ∧ B 0 k ≤ 50) (he1 : ∀ k : Int, -50 ≤ B 1 k ∧ B 1 k ≤ 50) (he2 : ∀ k : Int, -50 ≤ B 2 k ∧ B 2 k ≤ 50) (hsh : -2 ≤ sh ∧ sh ≤ 2) (hkl : kd < 2 ∨ J 30 = J 31) (hun : 0 ≤ (xUn kx fr (J 30) (J 31)) ∧ (xUn kx fr (J 30) (J 31)) ≤ 9)  (hR : 7 + 1 ≤ R.frames ∧ 19 + 2 + 64 * 7 ≤ R.locals) (hk : k ≤ R.cells ∧ n ≤ R.slots) (hs : (st.map fun v => v.category).sum ≤ 8) (dd : decode cc pc = .ok (.invokevirtual 354, 3)) (kk : ∀ (J1 : Nat → Int) (B1 : Nat → Int → Int), (J1 = uN (uN J 20 (J 30 * J 31)) 21 (xUn kx fr (J 30) (J 31)) ∧ ∃ g, B1 = uN B 10 g ∧ ∀ r k : Int, 0 ≤ r → r ≤ 9 → 0 ≤ k → k ≤ 9 → g (10 * r + k) = cGr kx kd fr sh (J 30) (J 31) (xUn kx fr (J 30) (J 31)) 0 (B 0) (B 1) (B 2) (J 31 * J 30) r k) → ∀ h : ga_H, cOn h ad J1 B1 Q Z → G X R RX0 nL cc h k n (pc + 3) L st) : G X R RX0 nL cc h k n pc L (.ref p :: .ref (ad 0) :: st) :=
  cc_run hc (m_X0_laysOut _ _ ad J B Q Z p q kx kd y sh fr hm hp hfr he0 he1 he2 hsh hkl hun) (lw_V q890 q892 qs16 q102 q893) rfl (show ga_nn' yX0_laysOut 1 from (by unfold ga_nn'; decide +kernel)) hR hk hs dd rfl (fun v hX J1 B1 hcX hp => by
    obtain ⟨rfl, hp⟩ := hp
    exact kk J1 B1 hp hX hcX)
