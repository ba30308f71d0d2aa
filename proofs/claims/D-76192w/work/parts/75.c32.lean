/-! ROWS of System.arraycopy, references -/
def zcq (f g : Int → Option Nat) (s d n : Int) : Int → Option Nat := fun x => if d ≤ x ∧ x < d + n then f (s + (x - d)) else g x
theorem zcq_v {f g : Int → Option Nat} {s d n : Int} (hs : 0 ≤ s) (hd : 0 ≤ d) (hn : 0 ≤ n) : va_cpy (fun j : Nat => f j) (fun j : Nat => g j) s.toNat d.toNat n.toNat = fun j : Nat => zcq f g s d n j := by
  funext k
  unfold va_cpy zcq
  by_cases h : d ≤ (k : Int) ∧ (k : Int) < d + n
  · rw [if_pos (by omega), if_pos h]
    show f ((s.toNat + (k - d.toNat) : Nat) : Int) = _
    rw [show ((s.toNat + (k - d.toNat) : Nat) : Int) = s + ((k : Int) - d) by omega]
  · rw [if_neg (by omega), if_neg h]
section GACQ
variable {X : ga_X} {R : Room} {own : String} {nL : Nat} {cc : ByteArray} {h : ga_H} {k n pc : Nat} {L : List (Option Value)} {st : List Value}
theorem ga_copyR {a0 a n0 n1 idx : Nat} {C : String} {f g : Int → Option Nat} {zs zd zn : Int} (ha0 : h a0 = some (aR C n0 f)) (ha : h a = some (aR C n1 g)) (h1 : 0 ≤ zs ∧ 0 ≤ zd ∧ 0 ≤ zn ∧ zs + zn ≤ n0 ∧ zd + zn ≤ n1) (hN : n0 ≤ 2147483647 ∧ n1 ≤ 2147483647)
    (hel : ∀ i : Int, zs ≤ i → i < zs + zn → ∀ y : Nat, f i = some y → ∃ (ci : Nat) (fs : List Value) (q : vw_C), h y = some (oE ci fs) ∧ ga_Cl[ci]? = some q ∧ (C = q.1 ∨ Cond.castable q.1 C ∈ ga_nw))
    (hq1 : Cond.methodLink own idx arraycopyName ∈ lw_all) (hq2 : Cond.native arraycopyName ∈ lw_all) (hq3 : Cond.static arraycopyName ∈ lw_all) (hq4 : Cond.initialized "java/lang/System" ∈ lw_all) (hfr : 1 ≤ R.frames) (hlo : (st.map fun v => v.category).sum + (nativeFrameWords "java/lang/System" "arraycopy" 5 + 11) ≤ R.locals) (d : decode cc pc = .ok (.invokestatic idx, 3))
    (kk : G X R own nL cc (ga_u h a (aR C n1 (zcq f g zs zd zn))) k n (pc + 3) L st) : G X R own nL cc h k n pc L (.int (iI zn) :: .int (iI zd) :: .ref a :: .int (iI zs) :: .ref a0 :: st) := by
  intro H locs ls T0 I hl
  obtain ⟨c0, e0, r0, -⟩ := I.1 a0 _ ha0
  obtain ⟨c1, e1, r1, kA1, comp1, p1, p2, p3, p4⟩ := I.1 a _ ha
  intro T hT X1
  have hts := T0.2.2.2.2.1
  have hKK := T0.2.2.2.2.2.1
  obtain ⟨-, k0, hk0, cm0, hkk0⟩ := r0 n0 (fun j => va_rf (f j))
  obtain ⟨-, k1, hk1, cm1, hkk1⟩ := r1 n1 (fun j => va_rf (g j))
  have nz : ∀ z : Int, 0 ≤ z → z ≤ 2147483647 → ¬ iI z < 0 := fun z z0 z1 => by rw [← iI_0, iI_lt (by omega) (by omega)]; omega
  have nc : ∀ z : Int, 0 ≤ z → z ≤ 2147483647 → (iI z).toNatClampNeg = z.toNat := fun z z0 z1 => iI_cl z0 (by omega)
  have nt : ∀ z : Int, 0 ≤ z → z ≤ 2147483647 → (iI z).toInt = z := fun z z0 z1 => iI_t ⟨by omega, by omega⟩
  obtain ⟨vm', X', step⟩ := X1.arraycopy T0.1 T0.2.2.2.1 (hts _ hq1) (hts _ hq2) (hts _ hq3) (hts _ hq4) (src := a0) (dst := a) (cs := vp_cell c0 (n0, .inr (.inr (.inr (.inr (fun j : Nat => f j)))))) (cd := vp_cell c1 (n1, .inr (.inr (.inr (.inr (fun j : Nat => g j)))))) (srcPos := iI zs) (destPos := iI zd) (n := iI zn) (by rw [hT]; exact e0) (by rw [hT]; exact e1)
    (fun _ h => by cases h) (fun _ h => by cases h) (fun h => by cases h) (fun h => by cases h) hk0 hk1 hkk0 hkk1 rfl (nz _ (by omega) (by omega)) (nz _ (by omega) (by omega)) (nz _ (by omega) (by omega))
    (by rw [nt zs (by omega) (by omega), nt zn (by omega) (by omega)]; show ¬ _ > ((arrV c0 n0 (fun j => va_rf (f j))).slots.size : Int); rw [arrV_size]; omega)
    (by rw [nt zd (by omega) (by omega), nt zn (by omega) (by omega)]; show ¬ _ > ((arrV c1 n1 (fun j => va_rf (g j))).slots.size : Int); rw [arrV_size]; omega)
    (fun vm₁ hal i hi => by
      rw [nc zn (by omega) (by omega)] at hi
      have e : (vp_cell c0 (n0, .inr (.inr (.inr (.inr (fun j : Nat => f j)))))).slots.getD ((iI zs).toNatClampNeg + i) .null = va_rf (f ((zs.toNat + i : Nat))) := by
        show (arrV c0 n0 (fun j => va_rf (f j))).slots.getD _ _ = _
        rw [nc zs (by omega) (by omega)]
        rw [Array.getD_eq_getD_getElem?, arrV_read _ _ (by omega)]
        rfl
      rw [e]
      cases hy : f ((zs.toNat + i : Nat)) with
      | none => exact ⟨rfl, trivial⟩
      | some y =>
        obtain ⟨ci, fs, q, hy1, hq, hcast⟩ := hel _ (by omega) (by omega) y hy
        obtain ⟨r', hr', cellV, g1, g2, g3, -⟩ := I.1 y _ hy1
        have hcls := (hKK.1.1 ci q hq).2
        obtain ⟨kC, hkC, -⟩ := hcls.2
        cases hk1.symm.trans p1
        cases hkk1.symm.trans p2
        obtain ⟨kE, hkE, -⟩ := Vm.findClass_spec p3
        obtain ⟨kC', hkC', -⟩ := hal.2.2 _ _ hkC
        obtain ⟨kE', hkE', -⟩ := hal.2.2 _ _ hkE
        have hasg : (ga_s X).vm.assignable ((ga_D X).1.1 ci) comp1 = true := by
          rcases hcast with hcast | hcast
          · subst hcast
            have hcomp : comp1 = (ga_D X).1.1 ci := Option.some.inj (p3.symm.trans hcls.1)
            subst hcomp
            exact va_assign hcls
          · obtain ⟨c0, t0, f1, f2, f3⟩ := Cond.castable_spec (hKK.2.1 _ hcast)
            cases f1.symm.trans hcls.1
            cases f2.symm.trans p3
            exact f3
        refine ⟨rfl, cellV, (show T.heap[y]? = some cellV by rw [hT]; exact g1), (fun q h => by rw [g3] at h; cases h), ⟨kC', by rw [g2]; exact hkC'⟩, ?_, ?_⟩
        · exact ⟨kE', hkE'⟩
        · show vm₁.assignable _ _ = true
          rw [hal.assignable, g2]
          exact hasg)
    (g := F0 (ga_m X) pc ls (.int (iI zn) :: .int (iI zd) :: .ref a :: .int (iI zs) :: .ref a0 :: st)) rfl (by rw [T0.2.2.1]; exact hl.1) (rest := st) rfl (by rw [T0.2.1]; exact d) hfr (by show 2 * 0 + _ + _ ≤ _; omega)
  have e2 : copied (vp_cell c0 (n0, .inr (.inr (.inr (.inr (fun j : Nat => f j)))))) (vp_cell c1 (n1, .inr (.inr (.inr (.inr (fun j : Nat => g j)))))) (iI zs) (iI zd) (iI zn) = vp_cell c1 (n1, .inr (.inr (.inr (.inr (fun j : Nat => zcq f g zs zd zn j))))) := by
    have := va_copied (fun z => va_rf z) c0 c1 (fun j : Nat => f j) (fun j : Nat => g j) (n0 := n0) (n1 := n1) (sp := (iI zs).toNatClampNeg) (dp := (iI zd).toNatClampNeg) (n := (iI zn).toNatClampNeg) (by rw [nc zs (by omega) (by omega), nc zn (by omega) (by omega)]; omega)
    rw [vp_cell_q, vp_cell_q, vp_cell_q]
    refine Eq.trans this ?_
    rw [nc zs (by omega) (by omega), nc zd (by omega) (by omega), nc zn (by omega) (by omega), zcq_v (by omega) (by omega) (by omega)]
  rw [e2] at X' step
  have hlt : a < H.size := (Array.getElem?_eq_some_iff.mp e1).1
  have hheap : ((T.setVm vm').setCell a (vp_cell c1 (n1, .inr (.inr (.inr (.inr (fun j : Nat => zcq f g zs zd zn j))))))).heap = H.setIfInBounds a (vp_cell c1 (n1, .inr (.inr (.inr (.inr (fun j : Nat => zcq f g zs zd zn j)))))) := by rw [← hT]; rfl
  obtain ⟨t, a1, b1⟩ := kk (H.setIfInBounds a (vp_cell c1 (n1, .inr (.inr (.inr (.inr (fun j : Nat => zcq f g zs zd zn j))))))) _ ls T0 (by
    have hA : ga_AA X a := I.2.1 a (by rw [ha]; exact fun q => nomatch q)
    have oq : ∀ q : Nat, q ≠ a → (H.setIfInBounds a (vp_cell c1 (n1, .inr (.inr (.inr (.inr (fun j : Nat => zcq f g zs zd zn j)))))))[q]? = H[q]? := fun q hq => by simp [Array.getElem?_setIfInBounds, Ne.symm hq]
    refine ⟨I.1.upd ⟨c1, by simp [Array.getElem?_setIfInBounds, hlt], r1, kA1, comp1, p1, p2, p3, p4⟩ oq, fun b hb => ?_, by simpa using I.2.2.1, fun q g1 g2 => ?_, fun q hq => ?_⟩
    · by_cases hba : b = a
      · rw [hba]; exact hA
      · rw [ga_un hba] at hb
        exact I.2.1 b hb
    · rw [oq q (fun e => g2 (by rw [e]; exact hA))]
      exact I.2.2.2.1 q g1 g2
    · rcases List.mem_append.mp hq with z | z
      · exact I.2.2.2.2 q z
      · obtain ⟨y, -, hy⟩ := List.mem_map.mp z
        rw [← hy]
        exact hA) hl _ hheap X'
  exact ⟨t, step t a1, b1⟩
end GACQ
set_option maxHeartbeats 4000000 in
set_option maxRecDepth 100000 in
theorem m_X0_size (l : Launch) (D : ga_G) (ad : Nat → Nat) (J : Nat → Int) (B : Nat → Int → Int) (Q : Nat → Int → Option Nat) (Z : ga_H) (m n : Int) (hm : (1 ≤ J 30 ∧ J 30 ≤ 3) ∧ 1 ≤ J 31 ∧ J 31 ≤ 3) (hri : (-2147483648 ≤ m ∧ m < 2147483648) ∧ (-2147483648 ≤ n ∧ n < 2147483648)) : kM l D yX0_size (ws_ yX0_size cX0_size 4 (some .int)) (gK 4 7 44) [.ref (ad 0), .int (iI m), .int (iI n)] ad J B Q Z (kI (fun r ad1 J1 B1 Q1 Z1 => ad1 0 = ad 0 ∧ Q1 = Q ∧ Z1 = Z ∧ r = (if (1 ≤ m ∧ m ≤ 3) ∧ 1 ≤ n ∧ n ≤ 3 then 10 * J 30 + J 31 else -1) ∧ ((((1 ≤ m ∧ m ≤ 3) ∧ 1 ≤ n ∧ n ≤ 3) ∧ J1 = uN (uN J 30 m) 31 n ∧ B1 = uN (uN (uN B 0 (fun _ => 0)) 1 (fun _ => 0)) 2 (fun _ => 0)) ∨ (¬ ((1 ≤ m ∧ m ≤ 3) ∧ 1 ≤ n ∧ n ≤ 3) ∧ J1 = J ∧ B1 = B)))) kX0 7 44 := by
  refine kc_met (own := RX0) 1 (by decide) rfl (Nat.le_of_ble_eq_true rfl) (L0 := [some (.ref (ad 0)), some (.int (iI m)), some (.int (iI n)), none]) rfl (fun X h hc hE => ?_)
  obtain ⟨adO, eadO⟩ : ∃ x, x = ad := ⟨_, rfl⟩
  have h0 : ad 0 = adO 0 := by rw [eadO]
  refine ga_iload_n (pc := 0) dX0_size_0 rfl ?_
  refine ga_iconst (pc := 1) dX0_size_1 ?_
  refine ga_iconst (pc := 2) dX0_size_2 ?_
  refine k_X0_isIn (pc := 3) (a := m) (b := 1) (e := 3) (by omega) (rfl) ⟨Nat.le_of_ble_eq_true rfl, Nat.le_of_ble_eq_true rfl⟩ ⟨Nat.le_of_ble_eq_true rfl, Nat.le_of_ble_eq_true rfl⟩ (Nat.le_of_ble_eq_true rfl) dX0_size_3 ?_
  refine ga_ifb_eq (pc := 6) (tgt := 18) dX0_size_6 rfl (fun c6 => ?_) (fun c6 => ?_)
  · skip
    refine ga_iconst (pc := 18) dX0_size_18 ?_
    exact kc_iret hc hE dX0_size_19 (by omega) (by omega) (⟨_, rfl, by (try dsimp only); exact ⟨rfl, rfl, rfl, by rw [if_neg (by omega)], Or.inr ⟨by omega, rfl, rfl⟩⟩⟩)
  · skip
    refine ga_iload_n (pc := 9) dX0_size_9 rfl ?_
    refine ga_iconst (pc := 10) dX0_size_10 ?_
    refine ga_iconst (pc := 11) dX0_size_11 ?_
    refine k_X0_isIn (pc := 12) (a := n) (b := 1) (e := 3) (by omega) (rfl) ⟨Nat.le_of_ble_eq_true rfl, Nat.le_of_ble_eq_true rfl⟩ ⟨Nat.le_of_ble_eq_true rfl, Nat.le_of_ble_eq_true rfl⟩ (Nat.le_of_ble_eq_true rfl) dX0_size_12 ?_
    refine ga_ifb_ne (pc := 15) (tgt := 20) dX0_size_15 rfl (fun c15 => ?_) (fun c15 => ?_)
    · skip
      refine ga_bipush (pc := 20) dX0_size_20 rfl ?_
      refine ga_aload_n (pc := 22) dX0_size_22 rfl ?_
      refine cc_g_now (pc := 23) hc dX0_size_23 ?_
      refine ga_getN (pc := 26) (C := RX4) (T := TX4) (N := 5) (v := .int (iI (J 30))) in_X4 rfl (hc.1 4 (by decide)) 0 (by decide) (ga_nt q307 rfl) rfl rfl dX0_size_26 ?_
      refine ga_imul (pc := 29) dX0_size_29 ?_
      refine ga_aload_n (pc := 30) dX0_size_30 rfl ?_
      refine cc_g_now (pc := 31) hc dX0_size_31 ?_
      refine ga_getN (pc := 34) (C := RX4) (T := TX4) (N := 5) (v := .int (iI (J 31))) in_X4 rfl (hc.1 4 (by decide)) 1 (by decide) (ga_nt q309 rfl) rfl rfl dX0_size_34 ?_
      refine ga_iadd (pc := 37) dX0_size_37 ?_
      refine ga_istore_n (pc := 38) (L1 := [some (.ref (ad 0)), some (.int (iI m)), some (.int (iI n)), some (.int (iI ((10 * (J 30)) + (J 31))))]) dX0_size_38 rfl (by decide) rfl ?_
      refine ga_aload_n (pc := 39) dX0_size_39 rfl ?_
      refine ga_new (pc := 40) (ci := 4) (fs := [.int (iI 0), .int (iI 0), .null, .null, .null]) in_X4 tyX4_ok rfl q270 q271 q109 (fun j hj => by rcases j with _ | _ | _ | _ | _ | j <;> first | rfl | omega) (by decide) (by decide) dX0_size_40 (fun q haq => ?_)
      have hcO := hc
      replace hc := hc.none (e := (oE 4 [.int (iI 0), .int (iI 0), .null, .null, .null])) haq
      obtain ⟨hN, ehN⟩ : ∃ x, x = ga_u h q (oE 4 [.int (iI 0), .int (iI 0), .null, .null, .null]) := ⟨_, rfl⟩
      rw [← ehN] at hc ⊢
      refine ga_dup (pc := 43) dX0_size_43 rfl ?_
      refine ga_iload_n (pc := 44) dX0_size_44 rfl ?_
      refine ga_iload_n (pc := 45) dX0_size_45 rfl ?_
      refine ga_goV (pc := 46) (ga_runI (mc := 6) (ms := 39) (m_X4_init_2 _ _ _ q _ _ _ _ _ m n (by rw [ehN]; exact ga_us _ _ _)) (lw_meth q277) q109 q460 q276 rfl (show ga_nn' yX4_init_2 2 from (by unfold ga_nn'; decide +kernel)) ⟨rfl, rfl⟩ ⟨by show 3 + 1 ≤ _; exact Nat.le_of_ble_eq_true rfl, by show 8 + (3 + 11) + 64 * 3 ≤ _; exact Nat.le_of_ble_eq_true rfl⟩ ⟨Nat.le_of_ble_eq_true rfl, Nat.le_of_ble_eq_true rfl⟩ (Nat.le_of_ble_eq_true rfl) dX0_size_46 rfl) (fun h1 hp1 => ?_)
      obtain ⟨t0, t1, t2, c0, c1, c2, hp1⟩ := hp1
      rw [ehN] at hp1
      replace hp1 := fOn.f haq hp1
      replace hc := hcO.fr (fun a e z => hp1.1 _ _ z (fun y => y))
      refine ga_put (pc := 49) (C := RX0) (T := TX0) (N := 29) in_X0 tyX0_ok nmX0 rfl (hc.1 0 (by decide)) 3 (by decide) q368 rfl rfl rfl rfl (by show 3 < 29; decide) rfl dX0_size_49 ?_
      refine ga_heq (pc := 52) (h1 := ga_u h1 (ad 0) (cE (adT ad 0 q t0 t1 t2 c0 c1 c2) (uN (uN J 30 m) 31 n) (uN (uN (uN B 0 (fun _ => 0)) 1 (fun _ => 0)) 2 (fun _ => 0)) Q 0)) rfl ?_
      replace hc : cOn (ga_u h1 (ad 0) (cE (adT ad 0 q t0 t1 t2 c0 c1 c2) (uN (uN J 30 m) 31 n) (uN (uN (uN B 0 (fun _ => 0)) 1 (fun _ => 0)) 2 (fun _ => 0)) Q 0)) (adT ad 0 q t0 t1 t2 c0 c1 c2) (uN (uN J 30 m) 31 n) (uN (uN (uN B 0 (fun _ => 0)) 1 (fun _ => 0)) 2 (fun _ => 0)) Q Z := cOn_newT0 hcO hp1
      generalize ga_u h1 (ad 0) (cE (adT ad 0 q t0 t1 t2 c0 c1 c2) (uN (uN J 30 m) 31 n) (uN (uN (uN B 0 (fun _ => 0)) 1 (fun _ => 0)) 2 (fun _ => 0)) Q 0) = h at hc ⊢
      refine ga_eq (pc := 52) (L1 := [some (.ref ((adT ad 0 q t0 t1 t2 c0 c1 c2) 0)), some (.int (iI m)), some (.int (iI n)), some (.int (iI ((10 * (J 30)) + (J 31))))]) (st1 := []) rfl rfl rfl ?_
      have h0N : (adT ad 0 q t0 t1 t2 c0 c1 c2) 0 = adO 0 := h0
      clear h0
      generalize (adT ad 0 q t0 t1 t2 c0 c1 c2) = ad at hc h0N ⊢
      have h0 := h0N
      refine ga_iload_n (pc := 52) dX0_size_52 rfl ?_
      exact kc_iret hc hE dX0_size_53 (by omega) (by omega) (⟨_, rfl, by (try dsimp only); exact ⟨by rw [h0, eadO], rfl, rfl, by rw [if_pos (by omega)], Or.inl ⟨by omega, rfl, rfl⟩⟩⟩)
    · skip
      refine ga_iconst (pc := 18) dX0_size_18 ?_
      exact kc_iret hc hE dX0_size_19 (by omega) (by omega) (⟨_, rfl, by (try dsimp only); exact ⟨rfl, rfl, rfl, by rw [if_neg (by omega)], Or.inr ⟨by omega, rfl, rfl⟩⟩⟩)
theorem plC {kd : Int} (h : 0 ≤ kd ∧ kd ≤ 6) : ∃ q : vw_C, ga_Cl[9 + kd.toNat]? = some q ∧ ("TwoSidedTables$Plain" = q.1 ∨ Cond.castable q.1 "TwoSidedTables$Plain" ∈ ga_nw) := by
  rcases (by omega : kd = 0 ∨ kd = 1 ∨ kd = 2 ∨ kd = 3 ∨ kd = 4 ∨ kd = 5 ∨ kd = 6) with rfl | rfl | rfl | rfl | rfl | rfl | rfl
  · exact ⟨_, rfl, Or.inl rfl⟩
  · exact ⟨_, rfl, Or.inr (ga_nt q2179 rfl)⟩
  · exact ⟨_, rfl, Or.inr (ga_nt q2177 rfl)⟩
  · exact ⟨_, rfl, Or.inr (ga_nt q2184 rfl)⟩
  · exact ⟨_, rfl, Or.inr (ga_nt q2180 rfl)⟩
  · exact ⟨_, rfl, Or.inr (ga_nt q2178 rfl)⟩
  · exact ⟨_, rfl, Or.inr (ga_nt q2183 rfl)⟩
/-- all equations that are there, or have been, are things of a kind -/
def qOk (q : Int → Option Nat) (Z : ga_H) : Prop := ∀ (e : Int) (y : Nat), 0 ≤ e → e < 6 → q e = some y → ∃ kd n s : Int, (0 ≤ kd ∧ kd ≤ 6) ∧ Z y = some (oE (9 + kd.toNat) [.int (iI n), .int (iI s)])
theorem cE_q {ad : Nat → Nat} {J : Nat → Int} {B : Nat → Int → Int} {Q : Nat → Int → Option Nat} {f : Nat} {g : Int → Option Nat} {r0 : Nat} (hf : (f = 0 ∧ r0 = 25) ∨ (f = 1 ∧ r0 = 26) ∨ (f = 2 ∧ r0 = 31)) (r : Nat) (hr : r < 44) (hn : r ≠ r0) : cE ad J B (uN Q f g) r = cE ad J B Q r := by
  have e : ∀ k, k ≠ f → uN Q f g k = Q k := fun k hk => uN_n Q g hk
  match r, hr, hn with
  | 25, _, hn => show aR "TwoSidedTables$Plain" 6 (uN Q f g 0) = aR "TwoSidedTables$Plain" 6 (Q 0); rw [e 0 (by omega)]
  | 26, _, hn => show aR "TwoSidedTables$Plain" 6 (uN Q f g 1) = aR "TwoSidedTables$Plain" 6 (Q 1); rw [e 1 (by omega)]
  | 27, _, hn => show aR "java/lang/String" 3 (uN Q f g 5) = aR "java/lang/String" 3 (Q 5); rw [e 5 (by omega)]
  | 31, _, hn => show aR "TwoSidedTables$Plain" 35 (uN Q f g 2) = aR "TwoSidedTables$Plain" 35 (Q 2); rw [e 2 (by omega)]
  | 34, _, hn => show oE 7 [va_rf (uN Q f g 3 0)] = oE 7 [va_rf (Q 3 0)]; rw [e 3 (by omega)]
  | 35, _, hn => show oE 7 [va_rf (uN Q f g 3 1)] = oE 7 [va_rf (Q 3 1)]; rw [e 3 (by omega)]
  | 36, _, hn => show oE 7 [va_rf (uN Q f g 3 2)] = oE 7 [va_rf (Q 3 2)]; rw [e 3 (by omega)]
  | 37, _, hn => show oE 7 [va_rf (uN Q f g 3 3)] = oE 7 [va_rf (Q 3 3)]; rw [e 3 (by omega)]
  | 38, _, hn => show oE 7 [va_rf (uN Q f g 4 0)] = oE 7 [va_rf (Q 4 0)]; rw [e 4 (by omega)]
  | 39, _, hn => show oE 7 [va_rf (uN Q f g 4 1)] = oE 7 [va_rf (Q 4 1)]; rw [e 4 (by omega)]
  | 40, _, hn => show oE 7 [va_rf (uN Q f g 4 2)] = oE 7 [va_rf (Q 4 2)]; rw [e 4 (by omega)]
  | 41, _, hn => show oE 7 [va_rf (uN Q f g 4 3)] = oE 7 [va_rf (Q 4 3)]; rw [e 4 (by omega)]
  | 0, _, _ | 1, _, _ | 2, _, _ | 3, _, _ | 4, _, _ | 5, _, _ | 6, _, _ | 7, _, _ | 8, _, _ | 9, _, _ | 10, _, _ | 11, _, _ | 12, _, _ | 13, _, _ | 14, _, _ | 15, _, _ | 16, _, _ | 17, _, _ | 18, _, _ | 19, _, _ | 20, _, _ | 21, _, _ | 22, _, _ | 23, _, _ | 24, _, _ | 28, _, _ | 29, _, _ | 30, _, _ | 32, _, _ | 33, _, _ | 42, _, _ | 43, _, _ => rfl
  | r + 44, hr, _ => omega
