/-! CELLS that are made, and what else is kept: O the cells that may be written -/
def fOn (h0 h : ga_H) (O : Nat → Prop) (V : List (Nat × ga_E)) : Prop := (∀ x e, h0 x = some e → ¬ O x → h x = some e) ∧ (∀ p ∈ V, h p.1 = some p.2) ∧ (V.map Prod.fst).Nodup ∧ (∀ p ∈ V, O p.1 ∨ h0 p.1 = none) ∧ ∀ x, O x → h x ≠ none
section FON
variable {h0 h h1 : ga_H} {O : Nat → Prop} {V : List (Nat × ga_E)}
theorem fOn.g (hf : fOn h0 h O V) (i : Nat) {p : Nat × ga_E} (hi : V[i]? = some p) : h p.1 = some p.2 := hf.2.1 p (List.mem_of_getElem? hi)
theorem fOn.n (hf : fOn h0 h O V) {b : Nat} {e : ga_E} (hb : h b = none) : fOn h0 (ga_u h b e) O ((b, e) :: V) := by
  have nb : ∀ x e', h x = some e' → x ≠ b := fun x e' hx z => by rw [z, hb] at hx; cases hx
  refine ⟨fun x e' hx ho => ?_, fun p hp => ?_, ?_, fun p hp => ?_, fun x ho => ?_⟩
  · have := hf.1 x e' hx ho
    rw [ga_un (nb _ _ this)]; exact this
  · rcases List.mem_cons.mp hp with z | z
    · rw [z]; exact ga_us _ _ _
    · rw [ga_un (nb _ _ (hf.2.1 p z))]; exact hf.2.1 p z
  · rw [List.map_cons]
    refine List.nodup_cons.mpr ⟨fun z => ?_, hf.2.2.1⟩
    obtain ⟨p, hp, e1⟩ := List.mem_map.mp z
    exact nb _ _ (hf.2.1 p hp) e1
  · rcases List.mem_cons.mp hp with z | z
    · rw [z]
      by_cases ho : O b
      · exact Or.inl ho
      · refine Or.inr ?_
        cases hx : h0 b with
        | none => rfl
        | some e' => exact absurd rfl (nb _ _ (hf.1 b e' hx ho))
    · exact hf.2.2.2.1 p z
  · by_cases z : x = b
    · rw [z, ga_us]; exact fun q => nomatch q
    · rw [ga_un z]; exact hf.2.2.2.2 x ho
theorem w_keyinj {V : List (Nat × ga_E)} (hn : (V.map Prod.fst).Nodup) : ∀ p ∈ V, ∀ q ∈ V, p.1 = q.1 → p = q := by
  induction V with
  | nil => intro p hp; cases hp
  | cons a V ih =>
    rw [List.map_cons] at hn
    obtain ⟨h1, h2⟩ := List.nodup_cons.mp hn
    intro p hp q hq e
    rcases List.mem_cons.mp hp with z | z <;> rcases List.mem_cons.mp hq with y | y
    · rw [z, y]
    · exact absurd (List.mem_map.mpr ⟨q, y, by rw [← e, z]⟩) h1
    · exact absurd (List.mem_map.mpr ⟨p, z, by rw [e, y]⟩) h1
    · exact ih h2 p z q y e
theorem w_keyset {a : Nat} {e e' : ga_E} : ∀ (V : List (Nat × ga_E)) (i : Nat), V[i]? = some (a, e) → (V.set i (a, e')).map Prod.fst = V.map Prod.fst := by
  intro V
  induction V with
  | nil => intro i h; cases i <;> cases h
  | cons v V ih =>
    intro i h
    cases i with
    | zero =>
      have : v = (a, e) := Option.some.inj h
      rw [this]; rfl
    | succ i =>
      show v.1 :: (V.set i (a, e')).map Prod.fst = v.1 :: V.map Prod.fst
      rw [ih i h]
theorem fOn.p (hf : fOn h0 h O V) (i : Nat) {a : Nat} {e e' : ga_E} (hi : V[i]? = some (a, e)) {V1 : List (Nat × ga_E)} (hV : V.set i (a, e') = V1) : fOn h0 (ga_u h a e') O V1 := by
  subst hV
  have ha := List.mem_of_getElem? hi
  have hk := w_keyset (e' := e') V i hi
  have hnd : ((V.set i (a, e')).map Prod.fst).Nodup := by rw [hk]; exact hf.2.2.1
  have hlt : i < V.length := (List.getElem?_eq_some_iff.mp hi).1
  have hmem : (a, e') ∈ V.set i (a, e') := List.mem_set hlt _
  refine ⟨fun x e1 hx ho => ?_, fun p hp => ?_, hnd, fun p hp => ?_, fun x ho => ?_⟩
  · have hne : x ≠ a := fun z => by
      rcases hf.2.2.2.1 _ ha with q | q
      · exact ho (z ▸ q)
      · rw [z, q] at hx; cases hx
    rw [ga_un hne]; exact hf.1 x e1 hx ho
  · by_cases z : p.1 = a
    · have := w_keyinj hnd p hp _ hmem z
      rw [this]; exact ga_us _ _ _
    · rw [ga_un z]
      rcases List.mem_or_eq_of_mem_set hp with q | q
      · exact hf.2.1 p q
      · exact absurd (by rw [q]) z
  · rcases List.mem_or_eq_of_mem_set hp with q | q
    · exact hf.2.2.2.1 p q
    · rw [q]; exact hf.2.2.2.1 (a, e) ha
  · by_cases z : x = a
    · rw [z, ga_us]; exact fun q => nomatch q
    · rw [ga_un z]; exact hf.2.2.2.2 x ho
/-- a call that writes one cell, and makes one -/
theorem fOn.c (hf : fOn h0 h O V) (i : Nat) {a c : Nat} {e e' ec : ga_E} (hi : V[i]? = some (a, e)) (hc : h c = none) {V1 : List (Nat × ga_E)} (hV : (c, ec) :: V.set i (a, e') = V1) : fOn h0 (ga_u (ga_u h c ec) a e') O V1 := by
  subst hV
  exact (hf.n hc).p (i + 1) (a := a) (e := e) hi rfl
theorem fOn.i (q : Nat) {e : ga_E} (hq : h q = some e) : fOn h h (fun x => x = q) [(q, e)] := by
  refine ⟨fun _ _ z _ => z, fun p hp => ?_, by simp, fun p hp => ?_, fun x hx => ?_⟩
  · rcases List.mem_cons.mp hp with z | z
    · rw [z]; exact hq
    · cases z
  · rcases List.mem_cons.mp hp with z | z
    · exact Or.inl (by rw [z])
    · cases z
  · rw [hx, hq]; exact fun z => nomatch z
end FON
theorem fOn.t {h0 h h1 : ga_H} {O : Nat → Prop} {V : List (Nat × ga_E)} (hf : fOn h0 h O V) (i : Nat) {a c : Nat} {e e' ec : ga_E} (hi : V[i]? = some (a, e)) (hg : fOn h h1 (fun x => x = a) [(c, ec), (a, e')]) {V1 : List (Nat × ga_E)} (hV : (c, ec) :: V.set i (a, e') = V1) : fOn h0 h1 O V1 := by
  subst hV
  have ha := List.mem_of_getElem? hi
  have hk := w_keyset (e' := e') V i hi
  have hca : c ≠ a := by
    have := hg.2.2.1
    simp at this
    exact this
  have hcn : h c = none := by
    rcases hg.2.2.2.1 (c, ec) (List.mem_cons_self ..) with z | z
    · exact absurd z hca
    · exact z
  have h1c : h1 c = some ec := hg.2.1 (c, ec) (List.mem_cons_self ..)
  have h1a : h1 a = some e' := hg.2.1 (a, e') (List.mem_cons_of_mem _ (List.mem_cons_self ..))
  have hnc : ∀ p ∈ V, p.1 ≠ c := fun p hp z => by have := hf.2.1 p hp; rw [z, hcn] at this; cases this
  have hmk : ∀ p ∈ V.set i (a, e'), p.1 ∈ V.map Prod.fst := fun p hp => by rw [← hk]; exact List.mem_map.mpr ⟨p, hp, rfl⟩
  have hnd : ((V.set i (a, e')).map Prod.fst).Nodup := by rw [hk]; exact hf.2.2.1
  have hlt : i < V.length := (List.getElem?_eq_some_iff.mp hi).1
  have hmem : (a, e') ∈ V.set i (a, e') := List.mem_set hlt _
  refine ⟨fun x e1 hx ho => ?_, fun p hp => ?_, ?_, fun p hp => ?_, fun x ho => ?_⟩
  · have hne : x ≠ a := fun z => by
      rcases hf.2.2.2.1 _ ha with q | q
      · exact ho (z ▸ q)
      · rw [z, q] at hx; cases hx
    exact hg.1 x e1 (hf.1 x e1 hx ho) hne
  · rcases List.mem_cons.mp hp with z | z
    · rw [z]; exact h1c
    · by_cases y : p.1 = a
      · rw [w_keyinj hnd p z _ hmem y]; exact h1a
      · rcases List.mem_or_eq_of_mem_set z with q | q
        · exact hg.1 p.1 p.2 (hf.2.1 p q) y
        · exact absurd (by rw [q]) y
  · rw [List.map_cons]
    refine List.nodup_cons.mpr ⟨fun z => ?_, hnd⟩
    obtain ⟨p, hp, e1⟩ := List.mem_map.mp (hk ▸ z)
    exact hnc p hp e1
  · rcases List.mem_cons.mp hp with z | z
    · rw [z]
      by_cases ho : O c
      · exact Or.inl ho
      · refine Or.inr ?_
        cases hx : h0 c with
        | none => rfl
        | some e1 => have := hf.1 c e1 hx ho; rw [hcn] at this; cases this
    · rcases List.mem_or_eq_of_mem_set z with q | q
      · exact hf.2.2.2.1 p q
      · rw [q]; exact hf.2.2.2.1 (a, e) ha
  · by_cases y : x = a
    · rw [y, h1a]; exact fun q => nomatch q
    · cases hx : h x with
      | none => exact absurd hx (hf.2.2.2.2 x ho)
      | some e1 => rw [hg.1 x e1 hx y]; exact fun q => nomatch q
set_option maxHeartbeats 4000000 in
set_option maxRecDepth 100000 in
theorem m_X5_init_2 (l : Launch) (D : ga_G) (h : ga_H) (b : Nat) (v0 v1 v2 v3 : Value) (ro co : Int) (hb : h b = some (oE 5 [v0, v1, v2, v3])) : ga_M l D yX5_init_2 (ws_ yX5_init_2 cX5_init_2 3 none) (gK 1 1 9) [.ref b, .int (iI ro), .int (iI co)] h (pV (fun h1 => ∃ c : Nat, fOn h h1 (fun x => x = b) [(c, aL 9 (fun _ => 0)), (b, oE 5 [.int (iI ro), .int (iI co), .int (iI 9), .ref c])])) pX0 1 9 := by
  refine ga_met (own := RX5) 0 (by decide) rfl (Nat.le_of_ble_eq_true rfl) (L0 := [some (.ref b), some (.int (iI ro)), some (.int (iI co))]) rfl (fun X _ _ hE => ?_)
  have hf := fOn.i b hb
  obtain ⟨h0, eh0⟩ : ∃ x, x = h := ⟨_, rfl⟩
  have hf0 : fOn h0 h (fun x => x = b) [(b, oE 5 [v0, v1, v2, v3])] := by rw [eh0]; exact hf
  replace hf := hf0
  clear hf0
  rw [← eh0] at hE
  clear eh0 hb
  refine ga_aload_n (pc := 0) dX5_init_2_0 rfl ?_
  refine ga_objInit (pc := 1) q287 (Nat.le_of_ble_eq_true rfl) (Nat.le_of_ble_eq_true rfl) dX5_init_2_1 ?_
  refine ga_aload_n (pc := 4) dX5_init_2_4 rfl ?_
  refine ga_bipush (pc := 5) dX5_init_2_5 rfl ?_
  refine ga_putF (pc := 7) (fs1 := [v0, v1, .int (iI 9), v3]) (C := RX5) (T := TX5) (N := 4) in_X5 tyX5_ok nmX5 rfl (hf.g 0 rfl) 2 (by decide) q292 rfl rfl hE.2.2.2.1 rfl rfl rfl (by show 2 < 4; decide) rfl dX5_init_2_7 ?_
  replace hf := hf.p 0 (e' := oE 5 [v0, v1, .int (iI 9), v3]) rfl (V1 := [(b, oE 5 [v0, v1, .int (iI 9), v3])]) rfl
  generalize ga_u h b (oE 5 [v0, v1, .int (iI 9), v3]) = h at hf ⊢
  refine ga_aload_n (pc := 10) dX5_init_2_10 rfl ?_
  refine ga_aload_n (pc := 11) dX5_init_2_11 rfl ?_
  refine ga_get (pc := 12) (C := RX5) (T := TX5) (N := 4) (v := .int (iI 9)) in_X5 rfl (hf.g 0 rfl) 2 (by decide) q292 rfl rfl dX5_init_2_12 ?_
  refine ga_newL (pc := 15) (N := 9) rfl (by decide) (by decide) (by decide) dX5_init_2_15 (fun c hac => ?_)
  replace hf := hf.n (e := (aL 9 (fun _ => 0))) hac
  generalize ga_u h c (aL 9 (fun _ => 0)) = h at hf ⊢
  refine ga_putF (pc := 17) (fs1 := [v0, v1, .int (iI 9), .ref c]) (C := RX5) (T := TX5) (N := 4) in_X5 tyX5_ok nmX5 rfl (hf.g 1 rfl) 3 (by decide) q293 rfl rfl hE.2.2.2.1 rfl rfl rfl (by show 3 < 4; decide) rfl dX5_init_2_17 ?_
  replace hf := hf.p 1 (e' := oE 5 [v0, v1, .int (iI 9), .ref c]) rfl (V1 := [(c, aL 9 (fun _ => 0)), (b, oE 5 [v0, v1, .int (iI 9), .ref c])]) rfl
  generalize ga_u h b (oE 5 [v0, v1, .int (iI 9), .ref c]) = h at hf ⊢
  refine ga_aload_n (pc := 20) dX5_init_2_20 rfl ?_
  refine ga_iload_n (pc := 21) dX5_init_2_21 rfl ?_
  refine ga_putF (pc := 22) (fs1 := [.int (iI ro), v1, .int (iI 9), .ref c]) (C := RX5) (T := TX5) (N := 4) in_X5 tyX5_ok nmX5 rfl (hf.g 1 rfl) 0 (by decide) q288 rfl rfl hE.2.2.2.1 rfl rfl rfl (by show 0 < 4; decide) rfl dX5_init_2_22 ?_
  replace hf := hf.p 1 (e' := oE 5 [.int (iI ro), v1, .int (iI 9), .ref c]) rfl (V1 := [(c, aL 9 (fun _ => 0)), (b, oE 5 [.int (iI ro), v1, .int (iI 9), .ref c])]) rfl
  generalize ga_u h b (oE 5 [.int (iI ro), v1, .int (iI 9), .ref c]) = h at hf ⊢
  refine ga_aload_n (pc := 25) dX5_init_2_25 rfl ?_
  refine ga_iload_n (pc := 26) dX5_init_2_26 rfl ?_
  refine ga_putF (pc := 27) (fs1 := [.int (iI ro), .int (iI co), .int (iI 9), .ref c]) (C := RX5) (T := TX5) (N := 4) in_X5 tyX5_ok nmX5 rfl (hf.g 1 rfl) 1 (by decide) q290 rfl rfl hE.2.2.2.1 rfl rfl rfl (by show 1 < 4; decide) rfl dX5_init_2_27 ?_
  replace hf := hf.p 1 (e' := oE 5 [.int (iI ro), .int (iI co), .int (iI 9), .ref c]) rfl (V1 := [(c, aL 9 (fun _ => 0)), (b, oE 5 [.int (iI ro), .int (iI co), .int (iI 9), .ref c])]) rfl
  generalize ga_u h b (oE 5 [.int (iI ro), .int (iI co), .int (iI 9), .ref c]) = h at hf ⊢
  exact ga_vret hE dX5_init_2_30 (Nat.le_of_ble_eq_true rfl) (Nat.le_of_ble_eq_true rfl) (⟨rfl, c, hf⟩)
set_option maxHeartbeats 4000000 in
set_option maxRecDepth 100000 in
theorem m_X5_init (l : Launch) (D : ga_G) (h : ga_H) (b : Nat) (v0 v1 v2 v3 : Value) (ro : Int) (hb : h b = some (oE 5 [v0, v1, v2, v3])) : ga_M l D yX5_init (ws_ yX5_init cX5_init 2 none) (gK 2 1 9) [.ref b, .int (iI ro)] h (pV (fun h1 => ∃ c : Nat, fOn h h1 (fun x => x = b) [(c, aL 9 (fun _ => 0)), (b, oE 5 [.int (iI ro), .int (iI ro), .int (iI 9), .ref c])])) pX0 1 9 := by
  refine ga_met (own := RX5) 0 (by decide) rfl (Nat.le_of_ble_eq_true rfl) (L0 := [some (.ref b), some (.int (iI ro))]) rfl (fun X _ _ hE => ?_)
  have hf := fOn.i b hb
  obtain ⟨h0, eh0⟩ : ∃ x, x = h := ⟨_, rfl⟩
  have hf0 : fOn h0 h (fun x => x = b) [(b, oE 5 [v0, v1, v2, v3])] := by rw [eh0]; exact hf
  replace hf := hf0
  clear hf0
  rw [← eh0] at hE
  clear eh0 hb
  refine ga_aload_n (pc := 0) dX5_init_0 rfl ?_
  refine ga_iload_n (pc := 1) dX5_init_1 rfl ?_
  refine ga_iload_n (pc := 2) dX5_init_2 rfl ?_
  refine ga_goV (pc := 3) (ga_runI (mc := 1) (ms := 9) (m_X5_init_2 _ _ _ b v0 v1 v2 v3 ro ro (hf.g 0 rfl)) (lw_meth q286) q110 q284 q285 rfl (show ga_nn' yX5_init_2 2 from (by unfold ga_nn'; decide +kernel)) ⟨rfl, rfl⟩ ⟨by show 1 + 1 ≤ _; exact Nat.le_of_ble_eq_true rfl, by show 8 + (3 + 11) + 64 * 1 ≤ _; exact Nat.le_of_ble_eq_true rfl⟩ ⟨Nat.le_of_ble_eq_true rfl, Nat.le_of_ble_eq_true rfl⟩ (Nat.le_of_ble_eq_true rfl) dX5_init_3 rfl) (fun h1 hp1 => ?_)
  obtain ⟨c, hp1⟩ := hp1
  replace hf := hf.t 0 rfl hp1 (V1 := [(c, aL 9 (fun _ => 0)), (b, oE 5 [.int (iI ro), .int (iI ro), .int (iI 9), .ref c])]) rfl
  clear hp1
  skip
  generalize h1 = h at hf ⊢
  exact ga_vret hE dX5_init_6 (Nat.le_of_ble_eq_true rfl) (Nat.le_of_ble_eq_true rfl) (⟨rfl, c, hf⟩)
set_option maxHeartbeats 4000000 in
set_option maxRecDepth 100000 in
theorem m_X4_init_2 (l : Launch) (D : ga_G) (h : ga_H) (b : Nat) (v0 v1 v2 v3 v4 : Value) (m n : Int) (hb : h b = some (oE 4 [v0, v1, v2, v3, v4])) : ga_M l D yX4_init_2 (ws_ yX4_init_2 cX4_init_2 3 none) (gK 3 6 39) [.ref b, .int (iI m), .int (iI n)] h (pV (fun h1 => ∃ t0 t1 t2 c0 c1 c2 : Nat, fOn h h1 (fun x => x = b) [(c2, aL 9 (fun _ => 0)), (t2, oE 5 [.int (iI m), .int (iI n), .int (iI 9), .ref c2]), (c1, aL 9 (fun _ => 0)), (t1, oE 5 [.int (iI n), .int (iI n), .int (iI 9), .ref c1]), (c0, aL 9 (fun _ => 0)), (t0, oE 5 [.int (iI m), .int (iI m), .int (iI 9), .ref c0]), (b, oE 4 [.int (iI m), .int (iI n), .ref t0, .ref t1, .ref t2])])) pX0 6 39 := by
  refine ga_met (own := RX4) 0 (by decide) rfl (Nat.le_of_ble_eq_true rfl) (L0 := [some (.ref b), some (.int (iI m)), some (.int (iI n))]) rfl (fun X _ _ hE => ?_)
  have hf := fOn.i b hb
  obtain ⟨h0, eh0⟩ : ∃ x, x = h := ⟨_, rfl⟩
  have hf0 : fOn h0 h (fun x => x = b) [(b, oE 4 [v0, v1, v2, v3, v4])] := by rw [eh0]; exact hf
  replace hf := hf0
  clear hf0
  rw [← eh0] at hE
  clear eh0 hb
  refine ga_aload_n (pc := 0) dX4_init_2_0 rfl ?_
  refine ga_objInit (pc := 1) q278 (Nat.le_of_ble_eq_true rfl) (Nat.le_of_ble_eq_true rfl) dX4_init_2_1 ?_
  refine ga_aload_n (pc := 4) dX4_init_2_4 rfl ?_
  refine ga_iload_n (pc := 5) dX4_init_2_5 rfl ?_
  refine ga_putF (pc := 6) (fs1 := [.int (iI m), v1, v2, v3, v4]) (C := RX4) (T := TX4) (N := 5) in_X4 tyX4_ok nmX4 rfl (hf.g 0 rfl) 0 (by decide) q306 rfl rfl hE.2.2.2.1 rfl rfl rfl (by show 0 < 5; decide) rfl dX4_init_2_6 ?_
  replace hf := hf.p 0 (e' := oE 4 [.int (iI m), v1, v2, v3, v4]) rfl (V1 := [(b, oE 4 [.int (iI m), v1, v2, v3, v4])]) rfl
  generalize ga_u h b (oE 4 [.int (iI m), v1, v2, v3, v4]) = h at hf ⊢
  refine ga_aload_n (pc := 9) dX4_init_2_9 rfl ?_
  refine ga_iload_n (pc := 10) dX4_init_2_10 rfl ?_
  refine ga_putF (pc := 11) (fs1 := [.int (iI m), .int (iI n), v2, v3, v4]) (C := RX4) (T := TX4) (N := 5) in_X4 tyX4_ok nmX4 rfl (hf.g 0 rfl) 1 (by decide) q308 rfl rfl hE.2.2.2.1 rfl rfl rfl (by show 1 < 5; decide) rfl dX4_init_2_11 ?_
  replace hf := hf.p 0 (e' := oE 4 [.int (iI m), .int (iI n), v2, v3, v4]) rfl (V1 := [(b, oE 4 [.int (iI m), .int (iI n), v2, v3, v4])]) rfl
  generalize ga_u h b (oE 4 [.int (iI m), .int (iI n), v2, v3, v4]) = h at hf ⊢
  refine ga_aload_n (pc := 14) dX4_init_2_14 rfl ?_
  refine ga_new (pc := 15) (ci := 5) (fs := [.int (iI 0), .int (iI 0), .int (iI 0), .null]) in_X5 tyX5_ok rfl q279 q280 q110 (fun j hj => by rcases j with _ | _ | _ | _ | j <;> first | rfl | omega) (by decide) (by decide) dX4_init_2_15 (fun t0 hat0 => ?_)
  replace hf := hf.n (e := (oE 5 [.int (iI 0), .int (iI 0), .int (iI 0), .null])) hat0
  generalize ga_u h t0 (oE 5 [.int (iI 0), .int (iI 0), .int (iI 0), .null]) = h at hf ⊢
  refine ga_dup (pc := 18) dX4_init_2_18 rfl ?_
  refine ga_iload_n (pc := 19) dX4_init_2_19 rfl ?_
  refine ga_goV (pc := 20) (ga_runI (mc := 1) (ms := 9) (m_X5_init _ _ _ t0 _ _ _ _ m (hf.g 0 rfl)) (lw_meth q283) q110 q281 q282 rfl (show ga_nn' yX5_init 1 from (by unfold ga_nn'; decide +kernel)) ⟨rfl, rfl⟩ ⟨by show 2 + 1 ≤ _; exact Nat.le_of_ble_eq_true rfl, by show 8 + (2 + 11) + 64 * 2 ≤ _; exact Nat.le_of_ble_eq_true rfl⟩ ⟨Nat.le_of_ble_eq_true rfl, Nat.le_of_ble_eq_true rfl⟩ (Nat.le_of_ble_eq_true rfl) dX4_init_2_20 rfl) (fun h1 hp1 => ?_)
  obtain ⟨c0, hp1⟩ := hp1
  replace hf := hf.t 0 rfl hp1 (V1 := [(c0, aL 9 (fun _ => 0)), (t0, oE 5 [.int (iI m), .int (iI m), .int (iI 9), .ref c0]), (b, oE 4 [.int (iI m), .int (iI n), v2, v3, v4])]) rfl
  clear hp1
  skip
  generalize h1 = h at hf ⊢
  refine ga_putF (pc := 23) (fs1 := [.int (iI m), .int (iI n), .ref t0, v3, v4]) (C := RX4) (T := TX4) (N := 5) in_X4 tyX4_ok nmX4 rfl (hf.g 2 rfl) 2 (by decide) q310 rfl rfl hE.2.2.2.1 rfl rfl rfl (by show 2 < 5; decide) rfl dX4_init_2_23 ?_
  replace hf := hf.p 2 (e' := oE 4 [.int (iI m), .int (iI n), .ref t0, v3, v4]) rfl (V1 := [(c0, aL 9 (fun _ => 0)), (t0, oE 5 [.int (iI m), .int (iI m), .int (iI 9), .ref c0]), (b, oE 4 [.int (iI m), .int (iI n), .ref t0, v3, v4])]) rfl
  generalize ga_u h b (oE 4 [.int (iI m), .int (iI n), .ref t0, v3, v4]) = h at hf ⊢
  refine ga_aload_n (pc := 26) dX4_init_2_26 rfl ?_
  refine ga_new (pc := 27) (ci := 5) (fs := [.int (iI 0), .int (iI 0), .int (iI 0), .null]) in_X5 tyX5_ok rfl q279 q280 q110 (fun j hj => by rcases j with _ | _ | _ | _ | j <;> first | rfl | omega) (by decide) (by decide) dX4_init_2_27 (fun t1 hat1 => ?_)
  replace hf := hf.n (e := (oE 5 [.int (iI 0), .int (iI 0), .int (iI 0), .null])) hat1
  generalize ga_u h t1 (oE 5 [.int (iI 0), .int (iI 0), .int (iI 0), .null]) = h at hf ⊢
  refine ga_dup (pc := 30) dX4_init_2_30 rfl ?_
  refine ga_iload_n (pc := 31) dX4_init_2_31 rfl ?_
  refine ga_goV (pc := 32) (ga_runI (mc := 1) (ms := 9) (m_X5_init _ _ _ t1 _ _ _ _ n (hf.g 0 rfl)) (lw_meth q283) q110 q281 q282 rfl (show ga_nn' yX5_init 1 from (by unfold ga_nn'; decide +kernel)) ⟨rfl, rfl⟩ ⟨by show 2 + 1 ≤ _; exact Nat.le_of_ble_eq_true rfl, by show 8 + (2 + 11) + 64 * 2 ≤ _; exact Nat.le_of_ble_eq_true rfl⟩ ⟨Nat.le_of_ble_eq_true rfl, Nat.le_of_ble_eq_true rfl⟩ (Nat.le_of_ble_eq_true rfl) dX4_init_2_32 rfl) (fun h1 hp1 => ?_)
  obtain ⟨c1, hp1⟩ := hp1
  replace hf := hf.t 0 rfl hp1 (V1 := [(c1, aL 9 (fun _ => 0)), (t1, oE 5 [.int (iI n), .int (iI n), .int (iI 9), .ref c1]), (c0, aL 9 (fun _ => 0)), (t0, oE 5 [.int (iI m), .int (iI m), .int (iI 9), .ref c0]), (b, oE 4 [.int (iI m), .int (iI n), .ref t0, v3, v4])]) rfl
  clear hp1
  skip
  generalize h1 = h at hf ⊢
  refine ga_putF (pc := 35) (fs1 := [.int (iI m), .int (iI n), .ref t0, .ref t1, v4]) (C := RX4) (T := TX4) (N := 5) in_X4 tyX4_ok nmX4 rfl (hf.g 4 rfl) 3 (by decide) q314 rfl rfl hE.2.2.2.1 rfl rfl rfl (by show 3 < 5; decide) rfl dX4_init_2_35 ?_
  replace hf := hf.p 4 (e' := oE 4 [.int (iI m), .int (iI n), .ref t0, .ref t1, v4]) rfl (V1 := [(c1, aL 9 (fun _ => 0)), (t1, oE 5 [.int (iI n), .int (iI n), .int (iI 9), .ref c1]), (c0, aL 9 (fun _ => 0)), (t0, oE 5 [.int (iI m), .int (iI m), .int (iI 9), .ref c0]), (b, oE 4 [.int (iI m), .int (iI n), .ref t0, .ref t1, v4])]) rfl
  generalize ga_u h b (oE 4 [.int (iI m), .int (iI n), .ref t0, .ref t1, v4]) = h at hf ⊢
  refine ga_aload_n (pc := 38) dX4_init_2_38 rfl ?_
  refine ga_new (pc := 39) (ci := 5) (fs := [.int (iI 0), .int (iI 0), .int (iI 0), .null]) in_X5 tyX5_ok rfl q279 q280 q110 (fun j hj => by rcases j with _ | _ | _ | _ | j <;> first | rfl | omega) (by decide) (by decide) dX4_init_2_39 (fun t2 hat2 => ?_)
  replace hf := hf.n (e := (oE 5 [.int (iI 0), .int (iI 0), .int (iI 0), .null])) hat2
  generalize ga_u h t2 (oE 5 [.int (iI 0), .int (iI 0), .int (iI 0), .null]) = h at hf ⊢
  refine ga_dup (pc := 42) dX4_init_2_42 rfl ?_
  refine ga_iload_n (pc := 43) dX4_init_2_43 rfl ?_
  refine ga_iload_n (pc := 44) dX4_init_2_44 rfl ?_
  refine ga_goV (pc := 45) (ga_runI (mc := 1) (ms := 9) (m_X5_init_2 _ _ _ t2 _ _ _ _ m n (hf.g 0 rfl)) (lw_meth q286) q110 q305 q285 rfl (show ga_nn' yX5_init_2 2 from (by unfold ga_nn'; decide +kernel)) ⟨rfl, rfl⟩ ⟨by show 1 + 1 ≤ _; exact Nat.le_of_ble_eq_true rfl, by show 8 + (3 + 11) + 64 * 1 ≤ _; exact Nat.le_of_ble_eq_true rfl⟩ ⟨Nat.le_of_ble_eq_true rfl, Nat.le_of_ble_eq_true rfl⟩ (Nat.le_of_ble_eq_true rfl) dX4_init_2_45 rfl) (fun h1 hp1 => ?_)
  obtain ⟨c2, hp1⟩ := hp1
  replace hf := hf.t 0 rfl hp1 (V1 := [(c2, aL 9 (fun _ => 0)), (t2, oE 5 [.int (iI m), .int (iI n), .int (iI 9), .ref c2]), (c1, aL 9 (fun _ => 0)), (t1, oE 5 [.int (iI n), .int (iI n), .int (iI 9), .ref c1]), (c0, aL 9 (fun _ => 0)), (t0, oE 5 [.int (iI m), .int (iI m), .int (iI 9), .ref c0]), (b, oE 4 [.int (iI m), .int (iI n), .ref t0, .ref t1, v4])]) rfl
  clear hp1
  skip
  generalize h1 = h at hf ⊢
  refine ga_putF (pc := 48) (fs1 := [.int (iI m), .int (iI n), .ref t0, .ref t1, .ref t2]) (C := RX4) (T := TX4) (N := 5) in_X4 tyX4_ok nmX4 rfl (hf.g 6 rfl) 4 (by decide) q317 rfl rfl hE.2.2.2.1 rfl rfl rfl (by show 4 < 5; decide) rfl dX4_init_2_48 ?_
  replace hf := hf.p 6 (e' := oE 4 [.int (iI m), .int (iI n), .ref t0, .ref t1, .ref t2]) rfl (V1 := [(c2, aL 9 (fun _ => 0)), (t2, oE 5 [.int (iI m), .int (iI n), .int (iI 9), .ref c2]), (c1, aL 9 (fun _ => 0)), (t1, oE 5 [.int (iI n), .int (iI n), .int (iI 9), .ref c1]), (c0, aL 9 (fun _ => 0)), (t0, oE 5 [.int (iI m), .int (iI m), .int (iI 9), .ref c0]), (b, oE 4 [.int (iI m), .int (iI n), .ref t0, .ref t1, .ref t2])]) rfl
  generalize ga_u h b (oE 4 [.int (iI m), .int (iI n), .ref t0, .ref t1, .ref t2]) = h at hf ⊢
  exact ga_vret hE dX4_init_2_51 (Nat.le_of_ble_eq_true rfl) (Nat.le_of_ble_eq_true rfl) (⟨rfl, t0, t1, t2, c0, c1, c2, hf⟩)
