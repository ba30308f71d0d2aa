/-! ROWS of the heap, of calls, of a method's start and end -/
abbrev aI (n : Nat) (f : Int → Int) : ga_E := .inl (.int, (n, .inl (fun j : Nat => iI (f j))))
abbrev aB (n : Nat) (f : Int → Int) : ga_E := .inl (.byte, (n, .inl (fun j : Nat => iI (f j))))
abbrev aS (n : Nat) (f : Int → Int) : ga_E := .inl (.short, (n, .inl (fun j : Nat => iI (f j))))
abbrev aL (n : Nat) (f : Int → Int) : ga_E := .inl (.long, (n, .inr (.inl (fun j : Nat => lI (f j)))))
abbrev aR (C : String) (n : Nat) (f : Int → Option Nat) : ga_E := .inl (.object C, (n, .inr (.inr (.inr (.inr (fun j : Nat => f j))))))
abbrev oE (ci : Nat) (fs : List Value) : ga_E := .inr (ci, fs)
section GAH
variable {X : ga_X} {R : Room} {own : String} {nL : Nat} {cc : ByteArray} {h : ga_H} {k n pc : Nat} {L : List (Option Value)} {st : List Value}
/-- a cell is written -/
theorem ga_I.upd {H H1 : Heap} {locs : List Loc} {a : Nat} {e0 e : ga_E} {i : Nat} (I : ga_I X h H locs) (ha : h a = some e0) (he : ga_at (ga_D X).1 (ga_s X) a e H1) (hz : H1.size = H.size) (oq : ∀ q : Nat, q ≠ a → H1[q]? = H[q]?) : ga_I X (ga_u h a e) H1 (locs ++ [⟨a, i⟩]) := by
  have hA : ga_AA X a := I.2.1 a (by rw [ha]; exact fun q => nomatch q)
  refine ⟨I.1.upd he oq, fun b hb => ?_, ?_⟩
  · by_cases hba : b = a
    · rw [hba]; exact hA
    · rw [ga_un hba] at hb
      exact I.2.1 b hb
  · exact I.2.2.put hz oq hA
/-- a cell is made -/
theorem ga_I.new {H H1 : Heap} {locs : List Loc} {e : ga_E} (hA : ∀ q, (ga_s X).heap.size ≤ q → ga_AA X q) (I : ga_I X h H locs) (he : ga_at (ga_D X).1 (ga_s X) H.size e H1) (hz : H1.size = H.size + 1) (oq : ∀ q : Nat, q < H.size → H1[q]? = H[q]?) : ga_I X (ga_u h H.size e) H1 locs := by
  refine ⟨I.1.new rfl he oq, fun b hb => ?_, ⟨Nat.le_trans I.2.2.1 (by omega), fun x h1 h2 => (oq x (Nat.lt_of_lt_of_le h1 I.2.2.1)).trans (I.2.2.2.1 x h1 h2), I.2.2.2.2⟩⟩
  by_cases hba : b = H.size
  · rw [hba]; exact hA _ I.2.2.1
  · rw [ga_un hba] at hb
    exact I.2.1 b hb
theorem ga_get {a ci : Nat} {fs : List Value} {ref C : String} {T : u_T} {N idx : Nat} {v : Value} (hin : ∀ w ∈ u_ws C T N, w ∈ lw_all) (hc : ga_Cl[ci]? = some (C, T, N)) (ha : h a = some (oE ci fs)) (j : Nat) (hj : j < N) (hq : Cond.fieldLink own idx ref (T j).2.1 (T j).2.2.1 ∈ lw_all) (hr : (T j).1 = ref) (hv : fs[j]? = some v) (d : decode cc pc = .ok (.getfield idx, 3))
    (kk : G X R own nL cc h k n (pc + 3) L (v :: st)) : G X R own nL cc h k n pc L (.ref a :: st) := fun H locs ls T0 I hl =>
  va_get (D := (ga_D X).1) T0.1 T0.2.1 T0.2.2.2.2.1 hin T0.2.2.2.1 T0.2.2.2.2.2.1.1 (ga_one (I.1 a _ ha)) 0 rfl hc j hj (T0.2.2.2.2.1 _ hq) (fun _ q => by rw [← hr]; exact q) hv d (kk H locs ls T0 I hl)
theorem ga_getN {a ci : Nat} {fs : List Value} {ref C host : String} {T : u_T} {N idx : Nat} {v : Value} (hin : ∀ w ∈ u_ws C T N, w ∈ lw_all) (hc : ga_Cl[ci]? = some (C, T, N)) (ha : h a = some (oE ci fs)) (j : Nat) (hj : j < N) (hq : Cond.fieldLinkNest own idx ref (T j).2.1 (T j).2.2.1 host ∈ ga_nw) (hr : (T j).1 = ref) (hv : fs[j]? = some v) (d : decode cc pc = .ok (.getfield idx, 3))
    (kk : G X R own nL cc h k n (pc + 3) L (v :: st)) : G X R own nL cc h k n pc L (.ref a :: st) := fun H locs ls T0 I hl =>
  va_getN (D := (ga_D X).1) T0.1 T0.2.1 T0.2.2.2.2.1 hin T0.2.2.2.1 T0.2.2.2.2.2.1.1 (ga_one (I.1 a _ ha)) 0 rfl hc j hj (va_Nw.use rfl (T0.2.2.2.2.2.1.2.1 _ hq)) (fun _ q => by rw [← hr]; exact q) hv d (kk H locs ls T0 I hl)
theorem ga_put {a ci : Nat} {fs fs1 : List Value} {ref C : String} {T : u_T} {ty0 : Nat → FieldType} {N idx : Nat} {v : Value} (hin : ∀ w ∈ u_ws C T N, w ∈ lw_all) (hty : ∀ k, k < N → parseFieldDescriptor (T k).2.2.1 = some (ty0 k)) (hnm : ∀ a, a < N → ∀ b, b < N → a ≠ b → (T a).2.1 ≠ (T b).2.1) (hc : ga_Cl[ci]? = some (C, T, N)) (ha : h a = some (oE ci fs)) (j : Nat) (hj : j < N) (hq : Cond.fieldLink own idx ref (T j).2.1 (T j).2.2.1 ∈ lw_all) (hr : (T j).1 = ref) (hfin : (T j).2.2.2 = false) (hn : narrow (ty0 j) v = v) (hfit : fits (ty0 j) v = true) (hl0 : j < fs.length) (hfs : fs.set j v = fs1) (d : decode cc pc = .ok (.putfield idx, 3))
    (kk : G X R own nL cc (ga_u h a (oE ci fs1)) k n (pc + 3) L st) : G X R own nL cc h k n pc L (v :: .ref a :: st) := by
  intro H locs ls T0 I hl
  obtain ⟨hx, hb, -, hown, hts, hKK, -⟩ := id T0
  have hK := hKK.1
  have hap := va_apart (own := own) hts hin ty0 hty hnm hK hc
  obtain ⟨r, h1, cell, q1, q2, q3, q4⟩ := I.1 a _ ha
  have hr9 : r = (C, T, N) := Option.some.inj (h1.symm.trans hc)
  subst hr9
  obtain ⟨hS, hfc, kC, hkC, hkind⟩ := hK.1 ci _ hc
  obtain ⟨cf, kf, fi, f, hi, hsl⟩ := hS j hj
  have hlay := hts _ (hin _ (u_in_lay hj))
  unfold u_lay at hlay
  rw [if_neg (by rw [hfin]; decide)] at hlay
  have hst := (u_facts hfc hkC (u_lays hts hin hj) hi).1
  have h6 := u_store hfc hkC hkind hlay hi (hty j hj) hn hfit
  refine W.putK hx hb (f := f) ⟨hown, hts _ hq, ⟨_, _, _, by rw [← hr]; exact hi⟩, hst⟩ (by rw [q2]; exact h6) q1 q3 (by rw [hsl]; exact k2_hasslot (q4 j hj)) rfl rfl d fun H' e1 e2 e3 => ?_
  rw [hsl] at e1 ⊢
  refine kk H' _ ls T0 (I.upd ha ?_ e2 e3) hl
  rw [← hfs]
  exact ⟨_, hc, t_OB.to (V := updV (vp_V fs) j v) ⟨_, e1, q2, q3, t_set q4 hap hj v⟩ (fun i _ => vp_updV_set hl0 v i)⟩
theorem ga_putN {a ci : Nat} {fs fs1 : List Value} {ref C host : String} {T : u_T} {ty0 : Nat → FieldType} {N idx : Nat} {v : Value} (hin : ∀ w ∈ u_ws C T N, w ∈ lw_all) (hty : ∀ k, k < N → parseFieldDescriptor (T k).2.2.1 = some (ty0 k)) (hnm : ∀ a, a < N → ∀ b, b < N → a ≠ b → (T a).2.1 ≠ (T b).2.1) (hc : ga_Cl[ci]? = some (C, T, N)) (ha : h a = some (oE ci fs)) (j : Nat) (hj : j < N) (hq : Cond.fieldLinkNest own idx ref (T j).2.1 (T j).2.2.1 host ∈ ga_nw) (hr : (T j).1 = ref) (hfin : (T j).2.2.2 = false) (hn : narrow (ty0 j) v = v) (hfit : fits (ty0 j) v = true) (hl0 : j < fs.length) (hfs : fs.set j v = fs1) (d : decode cc pc = .ok (.putfield idx, 3))
    (kk : G X R own nL cc (ga_u h a (oE ci fs1)) k n (pc + 3) L st) : G X R own nL cc h k n pc L (v :: .ref a :: st) := by
  intro H locs ls T0 I hl
  obtain ⟨hx, hb, -, hown, hts, hKK, -⟩ := id T0
  have hK := hKK.1
  have hap := va_apart (own := own) hts hin ty0 hty hnm hK hc
  obtain ⟨r, h1, cell, q1, q2, q3, q4⟩ := I.1 a _ ha
  have hr9 : r = (C, T, N) := Option.some.inj (h1.symm.trans hc)
  subst hr9
  obtain ⟨hS, hfc, kC, hkC, hkind⟩ := hK.1 ci _ hc
  obtain ⟨cf, kf, fi, f, hi, hsl⟩ := hS j hj
  have hlay := hts _ (hin _ (u_in_lay hj))
  unfold u_lay at hlay
  rw [if_neg (by rw [hfin]; decide)] at hlay
  have hst := (u_facts hfc hkC (u_lays hts hin hj) hi).1
  have h6 := u_store hfc hkC hkind hlay hi (hty j hj) hn hfit
  refine va_WputK hx hb (f := f) hown (va_Nw.use rfl (hKK.2.1 _ hq)) (by rw [← hr]; exact hi) hst (by rw [q2]; exact h6) q1 q3 (by rw [hsl]; exact k2_hasslot (q4 j hj)) rfl rfl d fun H' e1 e2 e3 => ?_
  rw [hsl] at e1 ⊢
  refine kk H' _ ls T0 (I.upd ha ?_ e2 e3) hl
  rw [← hfs]
  exact ⟨_, hc, t_OB.to (V := updV (vp_V fs) j v) ⟨_, e1, q2, q3, t_set q4 hap hj v⟩ (fun i _ => vp_updV_set hl0 v i)⟩
/-- a final field, in its class's constructor -/
theorem ga_putF {a ci : Nat} {fs fs1 : List Value} {ref C : String} {T : u_T} {ty0 : Nat → FieldType} {N idx : Nat} {v : Value} (hin : ∀ w ∈ u_ws C T N, w ∈ lw_all) (hty : ∀ k, k < N → parseFieldDescriptor (T k).2.2.1 = some (ty0 k)) (hnm : ∀ a, a < N → ∀ b, b < N → a ≠ b → (T a).2.1 ≠ (T b).2.1) (hc : ga_Cl[ci]? = some (C, T, N)) (ha : h a = some (oE ci fs)) (j : Nat) (hj : j < N) (hq : Cond.fieldLink own idx ref (T j).2.1 (T j).2.2.1 ∈ lw_all) (hr : (T j).1 = ref) (hfin : (T j).2.2.2 = true) (hin2 : (ga_meth X).name = "<init>") (hdecl : (T j).1 = own) (hn : narrow (ty0 j) v = v) (hfit : fits (ty0 j) v = true) (hl0 : j < fs.length) (hfs : fs.set j v = fs1) (d : decode cc pc = .ok (.putfield idx, 3))
    (kk : G X R own nL cc (ga_u h a (oE ci fs1)) k n (pc + 3) L st) : G X R own nL cc h k n pc L (v :: .ref a :: st) := by
  intro H locs ls T0 I hl
  obtain ⟨hx, hb, -, hown, hts, hKK, -⟩ := id T0
  have hK := hKK.1
  have hap := va_apart (own := own) hts hin ty0 hty hnm hK hc
  obtain ⟨r, h1, cell, q1, q2, q3, q4⟩ := I.1 a _ ha
  have hr9 : r = (C, T, N) := Option.some.inj (h1.symm.trans hc)
  subst hr9
  obtain ⟨hS, hfc, kC, hkC, hkind⟩ := hK.1 ci _ hc
  obtain ⟨cf, kf, fi, f, hi, hsl⟩ := hS j hj
  have hlay := hts _ (hin _ (u_in_lay hj))
  unfold u_lay at hlay
  rw [if_pos hfin] at hlay
  have hst := (u_facts hfc hkC (u_lays hts hin hj) hi).1
  have hcf : (ga_m X).cls = cf := by
    obtain ⟨_, _, c', _, _, _, -, -, hf', -, -, -, hown2, -⟩ := Cond.laysFinal_spec hlay
    have e1 : c' = cf := by have := hi.symm.trans hf'; simp at this; exact this.1.symm
    rw [hdecl] at hown2
    rw [← e1]; exact Option.some.inj (hown.symm.trans hown2)
  have h6 := u_fits hfc hkC hkind (Or.inr hlay) hi (hty j hj) hn hfit
  refine W.putFinK hx hb hown (hts _ hq) (by rw [← hr]; exact hi) hst hcf hin2 (by rw [q2]; exact h6) q1 q3 (by rw [hsl]; exact k2_hasslot (q4 j hj)) rfl rfl d fun H' e1 e2 e3 => ?_
  rw [hsl] at e1 ⊢
  refine kk H' _ ls T0 (I.upd ha ?_ e2 e3) hl
  rw [← hfs]
  exact ⟨_, hc, t_OB.to (V := updV (vp_V fs) j v) ⟨_, e1, q2, q3, t_set q4 hap hj v⟩ (fun i _ => vp_updV_set hl0 v i)⟩
theorem ga_new {ci : Nat} {fs : List Value} {C : String} {T : u_T} {ty0 : Nat → FieldType} {N idx : Nat} (hin : ∀ w ∈ u_ws C T N, w ∈ lw_all) (hty : ∀ k, k < N → parseFieldDescriptor (T k).2.2.1 = some (ty0 k)) (hc : ga_Cl[ci]? = some (C, T, N)) (hq1 : Cond.classLink own idx C ∈ lw_all) (hq2 : Cond.instantiable C N ∈ lw_all) (hq3 : Cond.initialized C ∈ lw_all) (hfs : ∀ j, j < N → defaultValue (ty0 j) = vp_V fs j) (hk : k + 1 ≤ R.cells) (hn : n + N ≤ R.slots) (d : decode cc pc = .ok (.new idx, 3))
    (kk : ∀ q : Nat, h q = none → G X R own nL cc (ga_u h q (oE ci fs)) (k + 1) (n + N) (pc + 3) L (.ref q :: st)) : G X R own nL cc h k n pc L st := by
  intro H locs ls T0 I hl
  obtain ⟨hx, hb, -, hown, hts, hKK, hA, -⟩ := id T0
  have hKn := hKK.1.1 ci _ hc
  refine W.newcK hx hb hown (hts _ hq1) (hts _ hq2) (hts _ hq3) rfl d hk hn hKn.2.1 rfl fun H1 kC hkC e1 z1 o1 => ?_
  exact kk H.size I.1.fresh H1 locs ls T0 (I.new hA ⟨_, hc, (u_born ty0 hts hin hKn hkC e1 hty).to hfs⟩ z1 o1) hl
theorem ga_newa {atype : ArrayType} {ty : FieldType} {N : Nat} {z : Int} {x0 : vp_A} (hq : Cond.arrayClass ty ∈ lw_all) (hty : newarray.typeOf atype = ty) (hx0 : ∀ cA : ClassId, vp_cell cA x0 = arrV cA N (fun _ => defaultValue ty)) (hRA : ∀ (U : State) (cA : ClassId), U.vm.findClass ("[" ++ ty.toString) = some cA → va_RA U cA ty) (hz : z = N) (hN : N ≤ 60000000) (hby : componentBytes ty ≤ 8) (hk : k + 1 ≤ R.cells) (hn : n + N ≤ R.slots) (d : decode cc pc = .ok (.newarray atype, 2))
    (kk : ∀ q : Nat, h q = none → G X R own nL cc (ga_u h q (.inl (ty, x0))) (k + 1) (n + N) (pc + 2) L (.ref q :: st)) : G X R own nL cc h k n pc L (.int (iI z) :: st) := by
  intro H locs ls T0 I hl
  obtain ⟨hx, hb, -, hown, hts, hKK, hA, -⟩ := id T0
  subst hty
  have hz0 : ¬ iI z < 0 := by rw [← iI_0, iI_lt (by omega) (by omega)]; omega
  have hzN : (iI z).toNatClampNeg = N := by rw [iI_cl (by omega) (by omega)]; omega
  have hb9 : N * componentBytes (newarray.typeOf atype) ≤ 536870912 := Nat.le_trans (Nat.mul_le_mul hN hby) (by decide)
  refine va_newaK hx hb (hts _ hq) rfl d rfl hz0 hzN hb9 hk hn rfl fun H1 cA e1 z1 o1 hAr hNm => ?_
  exact kk H.size I.1.fresh H1 locs ls T0 (I.new hA ⟨cA, by rw [hx0]; exact e1, hAr, hRA _ _ hNm⟩ z1 o1) hl
theorem ga_newI {N : Nat} {z : Int} (hz : z = N) (hN : N ≤ 60000000) (hk : k + 1 ≤ R.cells) (hn : n + N ≤ R.slots) (d : decode cc pc = .ok (.newarray .int, 2)) (kk : ∀ q : Nat, h q = none → G X R own nL cc (ga_u h q (aI N (fun _ => 0))) (k + 1) (n + N) (pc + 2) L (.ref q :: st)) : G X R own nL cc h k n pc L (.int (iI z) :: st) :=
  ga_newa (atype := .int) (ty := .int) (N := N) (x0 := (N, .inl (fun j : Nat => iI ((fun _ : Int => (0 : Int)) j)))) q355 rfl (fun _ => rfl) (fun _ _ q => q) hz hN (by decide) hk hn d kk
theorem ga_newB {N : Nat} {z : Int} (hz : z = N) (hN : N ≤ 60000000) (hk : k + 1 ≤ R.cells) (hn : n + N ≤ R.slots) (d : decode cc pc = .ok (.newarray .byte, 2)) (kk : ∀ q : Nat, h q = none → G X R own nL cc (ga_u h q (aB N (fun _ => 0))) (k + 1) (n + N) (pc + 2) L (.ref q :: st)) : G X R own nL cc h k n pc L (.int (iI z) :: st) :=
  ga_newa (atype := .byte) (ty := .byte) (N := N) (x0 := (N, .inl (fun j : Nat => iI ((fun _ : Int => (0 : Int)) j)))) q354 rfl (fun _ => rfl) (fun _ _ q => q) hz hN (by decide) hk hn d kk
theorem ga_newS {N : Nat} {z : Int} (hz : z = N) (hN : N ≤ 60000000) (hk : k + 1 ≤ R.cells) (hn : n + N ≤ R.slots) (d : decode cc pc = .ok (.newarray .short, 2)) (kk : ∀ q : Nat, h q = none → G X R own nL cc (ga_u h q (aS N (fun _ => 0))) (k + 1) (n + N) (pc + 2) L (.ref q :: st)) : G X R own nL cc h k n pc L (.int (iI z) :: st) :=
  ga_newa (atype := .short) (ty := .short) (N := N) (x0 := (N, .inl (fun j : Nat => iI ((fun _ : Int => (0 : Int)) j)))) q1220 rfl (fun _ => rfl) (fun _ _ q => q) hz hN (by decide) hk hn d kk
theorem ga_newL {N : Nat} {z : Int} (hz : z = N) (hN : N ≤ 60000000) (hk : k + 1 ≤ R.cells) (hn : n + N ≤ R.slots) (d : decode cc pc = .ok (.newarray .long, 2)) (kk : ∀ q : Nat, h q = none → G X R own nL cc (ga_u h q (aL N (fun _ => 0))) (k + 1) (n + N) (pc + 2) L (.ref q :: st)) : G X R own nL cc h k n pc L (.int (iI z) :: st) :=
  ga_newa (atype := .long) (ty := .long) (N := N) (x0 := (N, .inr (.inl (fun j : Nat => lI ((fun _ : Int => (0 : Int)) j))))) q304 rfl (fun _ => rfl) (fun _ _ q => q) hz hN (by decide) hk hn d kk
theorem ga_newR {C : String} {N idx : Nat} {z : Int} (hq1 : Cond.classLink own idx C ∈ lw_all) (hq2 : Cond.arrayOver (.object C) ∈ ga_nw) (hz : z = N) (hN : N ≤ 60000000) (hk : k + 1 ≤ R.cells) (hn : n + N ≤ R.slots) (d : decode cc pc = .ok (.anewarray idx, 3))
    (kk : ∀ q : Nat, h q = none → G X R own nL cc (ga_u h q (aR C N (fun _ => none))) (k + 1) (n + N) (pc + 3) L (.ref q :: st)) : G X R own nL cc h k n pc L (.int (iI z) :: st) := by
  intro H locs ls T0 I hl
  obtain ⟨hx, hb, -, hown, hts, hKK, hA, -⟩ := id T0
  have hz0 : ¬ iI z < 0 := by rw [← iI_0, iI_lt (by omega) (by omega)]; omega
  have hzN : (iI z).toNatClampNeg = N := by rw [iI_cl (by omega) (by omega)]; omega
  refine W.anew hx hb hown (hts _ hq1) (va_AO.use (hKK.2.1 _ hq2)) rfl d rfl hz0 (by rw [hzN]; omega) hk (by rw [hzN]; exact hn) fun cA kA comp f1 f2 f3 f4 => ?_
  rw [hzN]
  generalize hH1 : H.push ({ cls := cA, slots := Array.replicate N .null, vm := .none } : Cell) = H1
  have z1 : H1.size = H.size + 1 := by rw [← hH1, Array.size_push]
  have e1 : H1[H.size]? = some (arrV cA N (fun _ => .null)) := by rw [← hH1, Array.getElem?_push_size, ← arrV_new]
  have o1 : ∀ q : Nat, q < H.size → H1[q]? = H[q]? := fun q hq => by rw [← hH1, Array.getElem?_push, if_neg (Nat.ne_of_lt hq)]
  have hAr : ArrOfT (ga_s X) cA (.object C) := fun N z => ⟨(fun k h => by cases h), kA, f2, comp, f3⟩
  exact kk H.size I.1.fresh H1 locs ls T0 (I.new hA ⟨cA, by rw [vp_cell_q]; exact e1, hAr, kA, comp, f2, f3, f4, f1⟩ z1 o1) hl
theorem ga_iald {a N : Nat} {f : Int → Int} {z : Int} (ha : h a = some (aI N f)) (hz : 0 ≤ z ∧ z < N) (hN : N ≤ 2147483647) (d : decode cc pc = .ok (.iaload, 1)) (kk : G X R own nL cc h k n (pc + 1) L (.int (iI (f z)) :: st)) : G X R own nL cc h k n pc L (.int (iI z) :: .ref a :: st) := by
  intro H locs ls T0 I hl
  obtain ⟨cA, e1, e2, e3⟩ := I.1 a _ ha
  refine va_iald T0.1 T0.2.1 (ga_K1 T0.2.2.2.2.2.1.1 e2 e3) (ga_oneA e1) 0 0 rfl rfl (iI_in hz.1 hz.2 hN) d ?_
  rw [iI_cl hz.1 (by omega), show ((z.toNat : Nat) : Int) = z by omega]
  exact kk H locs ls T0 I hl
theorem ga_iast {a N : Nat} {f : Int → Int} {z x : Int} (ha : h a = some (aI N f)) (hz : 0 ≤ z ∧ z < N) (hN : N ≤ 2147483647) (d : decode cc pc = .ok (.iastore, 1)) (kk : G X R own nL cc (ga_u h a (aI N (uZ f z x))) k n (pc + 1) L st) : G X R own nL cc h k n pc L (.int (iI x) :: .int (iI z) :: .ref a :: st) := by
  intro H locs ls T0 I hl
  obtain ⟨cA, e1, e2, e3⟩ := I.1 a _ ha
  refine W.iast T0.1 T0.2.1 e1 (e2 N (fun j => .int (iI (f j)))) (fun q => by cases q) (by show ¬ (iI z < 0 ∨ (arrV _ _ _).slots.size ≤ _); rw [arrV_size]; exact iI_in hz.1 hz.2 hN) rfl rfl d fun H1 e z1 oq => ?_
  refine kk H1 _ ls T0 (I.upd ha ⟨cA, ?_, e2, e3⟩ z1 oq) hl
  rw [e]
  show some ((arrV cA N (fun j : Nat => .int (iI (f j)))).setSlot _ _) = some (arrV cA N (fun j : Nat => .int (iI (uZ f z x j))))
  rw [arrV_store, iI_cl hz.1 (by omega)]
  congr 2
  funext j
  unfold updV uZ
  by_cases hj : j = z.toNat
  · rw [if_pos hj, if_pos (by omega)]
    
  · rw [if_neg hj, if_neg (by omega)]
theorem ga_bald {a N : Nat} {f : Int → Int} {z : Int} (ha : h a = some (aB N f)) (hz : 0 ≤ z ∧ z < N) (hN : N ≤ 2147483647) (d : decode cc pc = .ok (.baload, 1)) (kk : G X R own nL cc h k n (pc + 1) L (.int (iI (f z)) :: st)) : G X R own nL cc h k n pc L (.int (iI z) :: .ref a :: st) := by
  intro H locs ls T0 I hl
  obtain ⟨cA, e1, e2, e3⟩ := I.1 a _ ha
  refine va_bald T0.1 T0.2.1 (ga_K1 T0.2.2.2.2.2.1.1 e2 e3) (ga_oneA e1) 0 0 rfl rfl (iI_in hz.1 hz.2 hN) d ?_
  rw [iI_cl hz.1 (by omega), show ((z.toNat : Nat) : Int) = z by omega]
  exact kk H locs ls T0 I hl
theorem ga_bast {a N : Nat} {f : Int → Int} {z x : Int} (ha : h a = some (aB N f)) (hz : 0 ≤ z ∧ z < N) (hN : N ≤ 2147483647) (d : decode cc pc = .ok (.bastore, 1)) (kk : G X R own nL cc (ga_u h a (aB N (uZ f z (x.bmod 256)))) k n (pc + 1) L st) : G X R own nL cc h k n pc L (.int (iI x) :: .int (iI z) :: .ref a :: st) := by
  intro H locs ls T0 I hl
  obtain ⟨cA, e1, e2, e3⟩ := I.1 a _ ha
  refine W.bast T0.1 T0.2.1 e1 (e2 N (fun j => .int (iI (f j)))) (fun q => by cases q) (by show ¬ (iI z < 0 ∨ (arrV _ _ _).slots.size ≤ _); rw [arrV_size]; exact iI_in hz.1 hz.2 hN) rfl rfl d fun H1 e z1 oq => ?_
  refine kk H1 _ ls T0 (I.upd ha ⟨cA, ?_, e2, e3⟩ z1 oq) hl
  rw [e]
  show some ((arrV cA N (fun j : Nat => .int (iI (f j)))).setSlot _ _) = some (arrV cA N (fun j : Nat => .int (iI (uZ f z (x.bmod 256) j))))
  rw [arrV_store, iI_cl hz.1 (by omega)]
  congr 2
  funext j
  unfold updV uZ
  by_cases hj : j = z.toNat
  · rw [if_pos hj, if_pos (by omega)]
    show Value.int _ = _; congr 1; exact iI_b x
  · rw [if_neg hj, if_neg (by omega)]
theorem ga_sald {a N : Nat} {f : Int → Int} {z : Int} (ha : h a = some (aS N f)) (hz : 0 ≤ z ∧ z < N) (hN : N ≤ 2147483647) (d : decode cc pc = .ok (.saload, 1)) (kk : G X R own nL cc h k n (pc + 1) L (.int (iI (f z)) :: st)) : G X R own nL cc h k n pc L (.int (iI z) :: .ref a :: st) := by
  intro H locs ls T0 I hl
  obtain ⟨cA, e1, e2, e3⟩ := I.1 a _ ha
  refine va_sald T0.1 T0.2.1 (ga_K1 T0.2.2.2.2.2.1.1 e2 e3) (ga_oneA e1) 0 0 rfl rfl (iI_in hz.1 hz.2 hN) d ?_
  rw [iI_cl hz.1 (by omega), show ((z.toNat : Nat) : Int) = z by omega]
  exact kk H locs ls T0 I hl
theorem ga_sast {a N : Nat} {f : Int → Int} {z x : Int} (ha : h a = some (aS N f)) (hz : 0 ≤ z ∧ z < N) (hN : N ≤ 2147483647) (d : decode cc pc = .ok (.sastore, 1)) (kk : G X R own nL cc (ga_u h a (aS N (uZ f z (x.bmod 65536)))) k n (pc + 1) L st) : G X R own nL cc h k n pc L (.int (iI x) :: .int (iI z) :: .ref a :: st) := by
  intro H locs ls T0 I hl
  obtain ⟨cA, e1, e2, e3⟩ := I.1 a _ ha
  refine W.sast T0.1 T0.2.1 e1 (e2 N (fun j => .int (iI (f j)))) (fun q => by cases q) (by show ¬ (iI z < 0 ∨ (arrV _ _ _).slots.size ≤ _); rw [arrV_size]; exact iI_in hz.1 hz.2 hN) rfl rfl d fun H1 e z1 oq => ?_
  refine kk H1 _ ls T0 (I.upd ha ⟨cA, ?_, e2, e3⟩ z1 oq) hl
  rw [e]
  show some ((arrV cA N (fun j : Nat => .int (iI (f j)))).setSlot _ _) = some (arrV cA N (fun j : Nat => .int (iI (uZ f z (x.bmod 65536) j))))
  rw [arrV_store, iI_cl hz.1 (by omega)]
  congr 2
  funext j
  unfold updV uZ
  by_cases hj : j = z.toNat
  · rw [if_pos hj, if_pos (by omega)]
    show Value.int _ = _; congr 1; exact iI_s x
  · rw [if_neg hj, if_neg (by omega)]
theorem ga_lald {a N : Nat} {f : Int → Int} {z : Int} (ha : h a = some (aL N f)) (hz : 0 ≤ z ∧ z < N) (hN : N ≤ 2147483647) (d : decode cc pc = .ok (.laload, 1)) (kk : G X R own nL cc h k n (pc + 1) L (.long (lI (f z)) :: st)) : G X R own nL cc h k n pc L (.int (iI z) :: .ref a :: st) := by
  intro H locs ls T0 I hl
  obtain ⟨cA, e1, e2, e3⟩ := I.1 a _ ha
  refine va_lald T0.1 T0.2.1 (ga_K1 T0.2.2.2.2.2.1.1 e2 e3) (ga_oneA e1) 0 0 rfl rfl (iI_in hz.1 hz.2 hN) d ?_
  rw [iI_cl hz.1 (by omega), show ((z.toNat : Nat) : Int) = z by omega]
  exact kk H locs ls T0 I hl
theorem ga_last {a N : Nat} {f : Int → Int} {z x : Int} (ha : h a = some (aL N f)) (hz : 0 ≤ z ∧ z < N) (hN : N ≤ 2147483647) (d : decode cc pc = .ok (.lastore, 1)) (kk : G X R own nL cc (ga_u h a (aL N (uZ f z x))) k n (pc + 1) L st) : G X R own nL cc h k n pc L (.long (lI x) :: .int (iI z) :: .ref a :: st) := by
  intro H locs ls T0 I hl
  obtain ⟨cA, e1, e2, e3⟩ := I.1 a _ ha
  refine W.last T0.1 T0.2.1 e1 (e2 N (fun j => .long (lI (f j)))) (fun q => by cases q) (by show ¬ (iI z < 0 ∨ (arrV _ _ _).slots.size ≤ _); rw [arrV_size]; exact iI_in hz.1 hz.2 hN) rfl rfl d fun H1 e z1 oq => ?_
  refine kk H1 _ ls T0 (I.upd ha ⟨cA, ?_, e2, e3⟩ z1 oq) hl
  rw [e]
  show some ((arrV cA N (fun j : Nat => .long (lI (f j)))).setSlot _ _) = some (arrV cA N (fun j : Nat => .long (lI (uZ f z x j))))
  rw [arrV_store, iI_cl hz.1 (by omega)]
  congr 2
  funext j
  unfold updV uZ
  by_cases hj : j = z.toNat
  · rw [if_pos hj, if_pos (by omega)]
    
  · rw [if_neg hj, if_neg (by omega)]
theorem ga_aald {a N : Nat} {C : String} {f : Int → Option Nat} {z : Int} (ha : h a = some (aR C N f)) (hz : 0 ≤ z ∧ z < N) (hN : N ≤ 2147483647) (d : decode cc pc = .ok (.aaload, 1)) (kk : G X R own nL cc h k n (pc + 1) L (va_rf (f z) :: st)) : G X R own nL cc h k n pc L (.int (iI z) :: .ref a :: st) := by
  intro H locs ls T0 I hl
  obtain ⟨cA, e1, e2, e3⟩ := I.1 a _ ha
  refine va_aldq T0.1 T0.2.1 (ga_K1 T0.2.2.2.2.2.1.1 e2 e3) (ga_oneA e1) 0 0 rfl rfl (iI_in hz.1 hz.2 hN) d ?_
  rw [iI_cl hz.1 (by omega), show ((z.toNat : Nat) : Int) = z by omega]
  exact kk H locs ls T0 I hl
/-- a reference put into a row of its own class, or of a class above it -/
theorem ga_aast {a N v ci : Nat} {C : String} {f : Int → Option Nat} {z : Int} {fs : List Value} {q : vw_C} (ha : h a = some (aR C N f)) (hv : h v = some (oE ci fs)) (hc : ga_Cl[ci]? = some q) (hcast : C = q.1 ∨ Cond.castable q.1 C ∈ ga_nw) (hz : 0 ≤ z ∧ z < N) (hN : N ≤ 2147483647) (d : decode cc pc = .ok (.aastore, 1)) (kk : G X R own nL cc (ga_u h a (aR C N (uZ f z (some v)))) k n (pc + 1) L st) : G X R own nL cc h k n pc L (.ref v :: .int (iI z) :: .ref a :: st) := by
  intro H locs ls T0 I hl
  obtain ⟨cA, e1, e2, e3⟩ := I.1 a _ ha
  obtain ⟨r', hr', cellV, g1, g2, g3, -⟩ := I.1 v _ hv
  have hKK := T0.2.2.2.2.2.1
  have hcls := (hKK.1.1 ci q hc).2
  obtain ⟨kA, comp, k1, k2, k3, k4⟩ := e3
  obtain ⟨kC, hkC, -⟩ := hcls.2
  obtain ⟨kcomp, hkcomp, -⟩ := Vm.findClass_spec k3
  have hasg : (ga_s X).vm.assignable ((ga_D X).1.1 ci) comp = true := by
    rcases hcast with hcast | hcast
    · subst hcast
      have hcomp : comp = (ga_D X).1.1 ci := Option.some.inj (k3.symm.trans hcls.1)
      subst hcomp
      exact va_assign hcls
    · obtain ⟨c0, t0, f1, f2, f3⟩ := Cond.castable_spec (hKK.2.1 _ hcast)
      cases f1.symm.trans hcls.1
      cases f2.symm.trans k3
      exact f3
  refine W.aast T0.1 T0.2.1 e1 (fun q h => by cases h) (fun h => by cases h) k1 k2 rfl hkcomp ⟨fun q => (iI_in hz.1 hz.2 hN) (Or.inl q), by show _ < (arrV _ _ _).slots.size; rw [arrV_size]; exact Nat.not_le.mp fun q => (iI_in hz.1 hz.2 hN) (Or.inr q)⟩ g1 (fun q h => by rw [g3] at h; cases h) (by rw [g2]; exact hkC) (by rw [g2]; exact hasg) rfl rfl d fun H1 e z1 oq => ?_
  refine kk H1 _ ls T0 (I.upd ha ⟨cA, ?_, e2, kA, comp, k1, k2, k3, k4⟩ z1 oq) hl
  rw [e]
  show some ((arrV cA N (fun j : Nat => va_rf (f j))).setSlot _ _) = some (arrV cA N (fun j : Nat => va_rf (uZ f z (some v) j)))
  rw [arrV_store, iI_cl hz.1 (by omega)]
  congr 2
  funext j
  unfold updV uZ
  by_cases hj : j = z.toNat
  · rw [if_pos hj, if_pos (by omega)]
    rfl
  · rw [if_neg hj, if_neg (by omega)]
theorem ga_alen {a : Nat} {ty : FieldType} {x : vp_A} {z : Int} (ha : h a = some (.inl (ty, x))) (hz : z = (x.1 : Nat)) (d : decode cc pc = .ok (.arraylength, 1)) (kk : G X R own nL cc h k n (pc + 1) L (.int (iI z) :: st)) : G X R own nL cc h k n pc L (.ref a :: st) := by
  intro H locs ls T0 I hl
  obtain ⟨cA, e1, e2, e3⟩ := I.1 a _ ha
  refine va_alen (v := iI z) T0.1 T0.2.1 (ga_K1 T0.2.2.2.2.2.1.1 e2 e3) (ga_oneA e1) 0 0 rfl rfl ?_ d (kk H locs ls T0 I hl)
  rw [hz]
  exact Int32.ofInt_eq_ofNat.symm
theorem ga_objInit {idx a : Nat} (hq : Cond.methodLink own idx Lib.objectInit ∈ lw_all) (hs : (st.map fun v => v.category).sum + 12 ≤ R.locals) (hf : 1 ≤ R.frames) (d : decode cc pc = .ok (.invokespecial idx, 3)) (kk : G X R own nL cc h k n (pc + 3) L st) : G X R own nL cc h k n pc L (.ref a :: st) := by
  intro H locs ls T0 I hl
  refine W.objInit T0.1 T0.2.1 T0.2.2.2.1 (T0.2.2.2.2.1 _ hq) (T0.2.2.2.2.1 _ q144) (T0.2.2.2.2.1 _ q145) rfl (by rw [T0.2.2.1]; exact hl.1) rfl d hf (by show 2 * (F0 (ga_m X) pc ls (.ref a :: st)).monitorRoom + _ + 12 ≤ _; show 2 * 0 + _ + 12 ≤ _; omega) ?_
  exact W.eq (g2 := F0 (ga_m X) (pc + 3) ls st) rfl (kk H locs ls T0 I hl)
/-- a call: from st0 to what it leaves on 'rest' -/
def ga_Run (X : ga_X) (R : Room) (own : String) (nL : Nat) (cc : ByteArray) (h : ga_H) (k n : Nat) (pc : Nat) (L : List (Option Value)) (st0 rest : List Value) (post : Option Value → ga_H → Prop) (px : String → Addr → ga_H → Prop) (mc ms : Nat) : Prop :=
  ∀ (H : Heap) (locs : List Loc) (ls : Array Slot), ga_T X own nL cc → ga_I X h H locs → ga_l ls nL L → vx_Run (ga_p X) (ga_la X) (ga_e X) R (ga_s X) (ga_m X) (ga_args X) (ga_below X) (ga_meth X) (ga_c X) H locs k n mc ms (F0 (ga_m X) pc ls st0) rest (ga_Q (ga_D X) h H.size post #[]) (ga_XC (ga_D X) h H.size px) (ga_A h H.size)
theorem ga_wide {H : Heap} {locs : List Loc} {cc : ByteArray} (T : ga_T X own nL cc) (I : ga_I X h H locs) : ∀ q, ga_A h H.size q → ga_AA X q := by
  intro q hq
  rcases hq with hq | hq
  · exact I.2.1 q hq
  · exact T.2.2.2.2.2.2.1 q (Nat.le_trans I.2.2.1 hq)
theorem ga_pre {H : Heap} {locs : List Loc} {As : List Value} (T : ga_T X own nL cc) (I : ga_I X h H locs) (U : State) (hU : U.heap = H) (hW : (ga_s X).WarmedH U.vm) : va_Pc As (ga_P (ga_D X) h H.size) As.toArray U := by
  refine ⟨rfl, by rw [hU], by rw [hU]; exact I.1.moved hW.alike, T.2.2.2.2.2.1.moved hW, ?_⟩
  rw [hU]
  exact ((T.2.2.2.2.2.2.2.1.kept I.2.2.2.1).narrow (ga_wide T I)).moved hW.alike
theorem ga_go {st0 rest : List Value} {post : Option Value → ga_H → Prop} {px : String → Addr → ga_H → Prop} {mc ms : Nat} (hr : ga_Run X R own nL cc h k n pc L st0 rest post px mc ms) (kx : ∀ (E : String) (q : Addr) (h1 : ga_H), px E q h1 → GX X R own nL cc h1 (k + mc) (n + ms) pc L E q)
    (kk : ∀ (v : Option Value) (h1 : ga_H), post v h1 → G X R own nL cc h1 (k + mc) (n + ms) (pc + 3) L (v.toList ++ rest)) : G X R own nL cc h k n pc L st0 := by
  intro H locs ls T I hl Ts hT S
  have hA := ga_wide T I
  rcases hr H locs ls T I hl Ts hT S with ⟨v, st₀, t, T', Lc, h0, X', hL, e1, e2, ⟨⟨w, h1, hv, hp, hw, ha⟩, hF⟩, hgo⟩ | ⟨q, st₀, t, T', Lc, E, ce, h0, X', hL, e1, e2, ⟨⟨h1, hp, hw, ha⟩, hF⟩, hce, hcv, hcl, hgo⟩
  · cases hv
    obtain ⟨k1, k2, k3⟩ := vx_keep h0 e1 I.2.2 (fun q _ z => hA q z) hA hL hF
    have hal : t.vm.Alike (ga_s X).vm := by rw [← e2]; exact X'.warmed.alike.symm
    obtain ⟨t2, a1, b1⟩ := kk _ h1 hp T'.heap (locs ++ Lc) ls T ⟨by rw [e1]; exact hw.moved hal, fun a z => hA a (ha a z), k3⟩ hl T' rfl X'
    exact ⟨t2, hgo t2 a1, b1⟩
  · obtain ⟨k1, k2, k3⟩ := vx_keep h0 e1 I.2.2 (fun q _ z => hA q z) hA hL hF
    have hal : t.vm.Alike (ga_s X).vm := by rw [← e2]; exact X'.warmed.alike.symm
    obtain ⟨t2, a1, b1⟩ := kx E q h1 hp T'.heap (locs ++ Lc) ls rest ce T ⟨by rw [e1]; exact hw.moved hal, fun a z => hA a (ha a z), k3⟩ hl (by rw [e1]; exact hce) hcv hcl T' rfl X'
    exact ⟨t2, hgo.trans a1, b1⟩
theorem ga_goI {st0 rest : List Value} {P : Int → ga_H → Prop} {mc ms : Nat} (hr : ga_Run X R own nL cc h k n pc L st0 rest (pI P) pX0 mc ms) (kk : ∀ (r : Int) (h1 : ga_H), P r h1 → G X R own nL cc h1 (k + mc) (n + ms) (pc + 3) L (.int (iI r) :: rest)) : G X R own nL cc h k n pc L st0 :=
  ga_go hr (fun _ _ _ z => z.elim) (fun v h1 hp => by obtain ⟨r, rfl, hp⟩ := hp; exact kk r h1 hp)
theorem ga_goL {st0 rest : List Value} {P : Int → ga_H → Prop} {mc ms : Nat} (hr : ga_Run X R own nL cc h k n pc L st0 rest (pL P) pX0 mc ms) (kk : ∀ (r : Int) (h1 : ga_H), P r h1 → G X R own nL cc h1 (k + mc) (n + ms) (pc + 3) L (.long (lI r) :: rest)) : G X R own nL cc h k n pc L st0 :=
  ga_go hr (fun _ _ _ z => z.elim) (fun v h1 hp => by obtain ⟨r, rfl, hp⟩ := hp; exact kk r h1 hp)
theorem ga_goR {st0 rest : List Value} {P : Option Nat → ga_H → Prop} {mc ms : Nat} (hr : ga_Run X R own nL cc h k n pc L st0 rest (pR P) pX0 mc ms) (kk : ∀ (r : Option Nat) (h1 : ga_H), P r h1 → G X R own nL cc h1 (k + mc) (n + ms) (pc + 3) L (va_rf r :: rest)) : G X R own nL cc h k n pc L st0 :=
  ga_go hr (fun _ _ _ z => z.elim) (fun v h1 hp => by obtain ⟨r, rfl, hp⟩ := hp; exact kk r h1 hp)
theorem ga_goV {st0 rest : List Value} {P : ga_H → Prop} {mc ms : Nat} (hr : ga_Run X R own nL cc h k n pc L st0 rest (pV P) pX0 mc ms) (kk : ∀ (h1 : ga_H), P h1 → G X R own nL cc h1 (k + mc) (n + ms) (pc + 3) L rest) : G X R own nL cc h k n pc L st0 :=
  ga_go hr (fun _ _ _ z => z.elim) (fun v h1 hp => by obtain ⟨rfl, hp⟩ := hp; exact kk h1 hp)
/-- calls that may throw -/
theorem ga_xgoI {st0 rest : List Value} {P : Int → ga_H → Prop} {px : String → Addr → ga_H → Prop} {mc ms : Nat} (hr : ga_Run X R own nL cc h k n pc L st0 rest (pI P) px mc ms) (kx : ∀ (E : String) (q : Addr) (h1 : ga_H), px E q h1 → GX X R own nL cc h1 (k + mc) (n + ms) pc L E q) (kk : ∀ (r : Int) (h1 : ga_H), P r h1 → G X R own nL cc h1 (k + mc) (n + ms) (pc + 3) L (.int (iI r) :: rest)) : G X R own nL cc h k n pc L st0 :=
  ga_go hr kx (fun v h1 hp => by obtain ⟨r, rfl, hp⟩ := hp; exact kk r h1 hp)
theorem ga_xgoL {st0 rest : List Value} {P : Int → ga_H → Prop} {px : String → Addr → ga_H → Prop} {mc ms : Nat} (hr : ga_Run X R own nL cc h k n pc L st0 rest (pL P) px mc ms) (kx : ∀ (E : String) (q : Addr) (h1 : ga_H), px E q h1 → GX X R own nL cc h1 (k + mc) (n + ms) pc L E q) (kk : ∀ (r : Int) (h1 : ga_H), P r h1 → G X R own nL cc h1 (k + mc) (n + ms) (pc + 3) L (.long (lI r) :: rest)) : G X R own nL cc h k n pc L st0 :=
  ga_go hr kx (fun v h1 hp => by obtain ⟨r, rfl, hp⟩ := hp; exact kk r h1 hp)
theorem ga_xgoR {st0 rest : List Value} {P : Option Nat → ga_H → Prop} {px : String → Addr → ga_H → Prop} {mc ms : Nat} (hr : ga_Run X R own nL cc h k n pc L st0 rest (pR P) px mc ms) (kx : ∀ (E : String) (q : Addr) (h1 : ga_H), px E q h1 → GX X R own nL cc h1 (k + mc) (n + ms) pc L E q) (kk : ∀ (r : Option Nat) (h1 : ga_H), P r h1 → G X R own nL cc h1 (k + mc) (n + ms) (pc + 3) L (va_rf r :: rest)) : G X R own nL cc h k n pc L st0 :=
  ga_go hr kx (fun v h1 hp => by obtain ⟨r, rfl, hp⟩ := hp; exact kk r h1 hp)
theorem ga_xgoV {st0 rest : List Value} {P : ga_H → Prop} {px : String → Addr → ga_H → Prop} {mc ms : Nat} (hr : ga_Run X R own nL cc h k n pc L st0 rest (pV P) px mc ms) (kx : ∀ (E : String) (q : Addr) (h1 : ga_H), px E q h1 → GX X R own nL cc h1 (k + mc) (n + ms) pc L E q) (kk : ∀ (h1 : ga_H), P h1 → G X R own nL cc h1 (k + mc) (n + ms) (pc + 3) L rest) : G X R own nL cc h k n pc L st0 :=
  ga_go hr kx (fun v h1 hp => by obtain ⟨rfl, hp⟩ := hp; exact kk h1 hp)
theorem ga_recv {H : Heap} {locs : List Loc} {a ci : Nat} {fs : List Value} {q : vw_C} (T : ga_T X own nL cc) (I : ga_I X h H locs) (ha : h a = some (oE ci fs)) (hc : ga_Cl[ci]? = some q) : ∃ cell : Cell, H[a]? = some cell ∧ cell.vm.isStatics = false ∧ (ga_s X).vm.findClass q.1 = some cell.cls :=
  va_recv T.2.2.2.2.2.1.1 (ga_one (I.1 a _ ha)) hc (q0 := 0) rfl
section GAC
variable {y : MethodName} {bytes : ByteArray} {maxL : Nat} {ret : Option FieldType} {ws' : List Cond} {rm : Room} {As rest st0 : List Value} {post : Option Value → ga_H → Prop} {px : String → Addr → ga_H → Prop} {mc ms idx : Nat}
/-- what a method's name says of a call of it: how many arguments stand beside the receiver -/
def ga_nn' (y : MethodName) (na : Nat) : Prop := y.cls ≠ "java/lang/invoke/MethodHandle" ∧ y.cls ≠ "java/lang/invoke/VarHandle" ∧ (parseMethodDescriptor y.desc).map (fun d => d.parameters.length) = some na
/-- through an object of the very class -/
theorem ga_runV {b ci : Nat} {fs : List Value} {C : String} {T : u_T} {N : Nat} (hM : ga_M (ga_la X) (ga_D X) y (ws_ y bytes maxL ret) rm (.ref b :: As) h post px mc ms) (hV : GoodIn lw_all (wsV own idx C y (ws_ y bytes maxL ret))) (hC : y.cls = C) (hy : ga_nn' y As.length) (hrm : rm.cells = mc ∧ rm.slots = ms) (hR : rm.frames + 1 ≤ R.frames ∧ 8 + (maxL + 11) + rm.locals ≤ R.locals) (hf : k + mc ≤ R.cells ∧ n + ms ≤ R.slots) (hb : h b = some (oE ci fs)) (hc : ga_Cl[ci]? = some (C, T, N)) (hs : (rest.map fun v => v.category).sum ≤ 8) (d : decode cc pc = .ok (.invokevirtual idx, 3)) (hst : st0 = As.reverse ++ .ref b :: rest) :
    ga_Run X R own nL cc h k n pc L st0 rest post px mc ms := by
  intro H locs ls T0 I hl
  exact vx_runV (C := C) ⟨T0.1, T0.2.1, T0.2.2.1, T0.2.2.2.1, T0.2.2.2.2.1⟩ (hM T0.2.2.2.2.2.2.2.2.1 H.size) (cwV As.length T0.2.2.2.2.1 hV rfl hrm.1 hrm.2 ⟨hC, hy⟩ hR) ⟨ga_blind, ga_recv T0 I hb hc, fun U hU hW => ga_pre T0 I U hU hW⟩ rfl rfl hl.1 hst (lv_room hs) d hf
theorem ga_runS (hM : ga_M (ga_la X) (ga_D X) y (ws_ y bytes maxL ret) rm As h post px mc ms) (hV : GoodIn lw_all (va_wsS own idx y (ws_ y bytes maxL ret))) (hy : ga_nn' y As.length) (hrm : rm.cells = mc ∧ rm.slots = ms) (hR : rm.frames + 1 ≤ R.frames ∧ 8 + (maxL + 11) + rm.locals ≤ R.locals) (hf : k + mc ≤ R.cells ∧ n + ms ≤ R.slots) (hs : (rest.map fun v => v.category).sum ≤ 8) (d : decode cc pc = .ok (.invokestatic idx, 3)) (hst : st0 = As.reverse ++ rest) :
    ga_Run X R own nL cc h k n pc L st0 rest post px mc ms := by
  intro H locs ls T0 I hl
  exact vx_runS (As := As) ⟨T0.1, T0.2.1, T0.2.2.1, T0.2.2.2.1, T0.2.2.2.2.1⟩ (hM T0.2.2.2.2.2.2.2.2.1 H.size) (va_cwS As.length T0.2.2.2.2.1 hV rfl hrm.1 hrm.2 hy hR) ⟨ga_blind, fun U hU hW => ga_pre T0 I U hU hW⟩ rfl rfl hl.1 hst (lv_room hs) d hf
/-- a constructor -/
theorem ga_runI {b : Nat} (hM : ga_M (ga_la X) (ga_D X) y (ws_ y bytes maxL none) rm (.ref b :: As) h post px mc ms) (hV : GoodIn lw_all (ws_ y bytes maxL none)) (hq1 : Cond.initialized y.cls ∈ lw_all) (hq2 : Cond.methodLink own idx y ∈ lw_all) (hq3 : Cond.instanceMethod y ∈ lw_all) (hi : y.name = "<init>") (hy : ga_nn' y As.length) (hrm : rm.cells = mc ∧ rm.slots = ms) (hR : rm.frames + 1 ≤ R.frames ∧ 8 + (maxL + 11) + rm.locals ≤ R.locals) (hf : k + mc ≤ R.cells ∧ n + ms ≤ R.slots) (hs : (rest.map fun v => v.category).sum ≤ 8) (d : decode cc pc = .ok (.invokespecial idx, 3)) (hst : st0 = As.reverse ++ .ref b :: rest) :
    ga_Run X R own nL cc h k n pc L st0 rest post px mc ms := by
  intro H locs ls T0 I hl
  exact vx_runI ⟨T0.1, T0.2.1, T0.2.2.1, T0.2.2.2.1, T0.2.2.2.2.1⟩ (hM T0.2.2.2.2.2.2.2.2.1 H.size) (cwI As.length T0.2.2.2.2.1 hV rfl hrm.1 hrm.2 (T0.2.2.2.2.1 _ hq1) (T0.2.2.2.2.1 _ hq2) (T0.2.2.2.2.1 _ hq3) hi hy hR) ⟨ga_blind, fun U hU hW => ga_pre T0 I U hU hW⟩ rfl rfl hl.1 hst (lv_room hs) d hf
/-- through an object of the very class, a method with handlers -/
theorem ga_runVX {b ci : Nat} {fs : List Value} {C : String} {T : u_T} {N : Nat} {hh : List (Nat × Nat × Nat × Nat)} (hM : ga_M (ga_la X) (ga_D X) y (wsW_ y bytes maxL ret hh) rm (.ref b :: As) h post px mc ms) (hV : GoodIn lw_all (wsV own idx C y (wsW_ y bytes maxL ret hh))) (hC : y.cls = C) (hy : ga_nn' y As.length) (hrm : rm.cells = mc ∧ rm.slots = ms) (hR : rm.frames + 1 ≤ R.frames ∧ 8 + (maxL + 11) + rm.locals ≤ R.locals) (hf : k + mc ≤ R.cells ∧ n + ms ≤ R.slots) (hb : h b = some (oE ci fs)) (hc : ga_Cl[ci]? = some (C, T, N)) (hs : (rest.map fun v => v.category).sum ≤ 8) (d : decode cc pc = .ok (.invokevirtual idx, 3)) (hst : st0 = As.reverse ++ .ref b :: rest) :
    ga_Run X R own nL cc h k n pc L st0 rest post px mc ms := by
  intro H locs ls T0 I hl
  exact vx_runVX (C := C) ⟨T0.1, T0.2.1, T0.2.2.1, T0.2.2.2.1, T0.2.2.2.2.1⟩ (hM T0.2.2.2.2.2.2.2.2.1 H.size) (vx_cwVW As.length T0.2.2.2.2.1 hV rfl hrm.1 hrm.2 ⟨hC, hy⟩ hR) ⟨ga_blind, ga_recv T0 I hb hc, fun U hU hW => ga_pre T0 I U hU hW⟩ rfl rfl hl.1 hst (lv_room hs) d hf
end GAC
/-- a method's entry: its locals -/
def ga_L0 : List Value → List (Option Value)
  | [] => []
  | v :: t => if v.category = 2 then some v :: none :: ga_L0 t else some v :: ga_L0 t
theorem ga_L0_mem : ∀ (vs : List Value) (b i : Nat) (v : Value), (ga_L0 vs)[i]? = some (some v) → (b + i, v) ∈ lv_args b vs := by
  intro vs
  induction vs with
  | nil => intro b i v h; simp [ga_L0] at h
  | cons w t ih =>
    intro b i v h
    unfold ga_L0 at h
    unfold lv_args
    by_cases hc : w.category = 2
    · rw [if_pos hc] at h
      rw [if_pos hc]
      match i, h with
      | 0, h =>
        have : w = v := by simpa using h
        rw [this]
        exact List.mem_cons_self
      | 1, h => simp at h
      | i + 2, h =>
        have h2 := ih (b + 2) i v (by simpa using h)
        rw [show b + (i + 2) = b + 2 + i by omega]
        exact List.mem_cons_of_mem _ h2
    · rw [if_neg hc] at h
      rw [if_neg hc]
      match i, h with
      | 0, h =>
        have : w = v := by simpa using h
        rw [this]
        exact List.mem_cons_self
      | i + 1, h =>
        have h2 := ih (b + 1) i v (by simpa using h)
        rw [show b + (i + 1) = b + 1 + i by omega]
        exact List.mem_cons_of_mem _ h2
theorem ga_entry {As : List Value} {maxL j : Nat} {L0 : List (Option Value)} (hL0 : ga_L0 As ++ List.replicate j none = L0) (hlen : (lg_sl As).length ≤ maxL) : ga_l ((lg_sl As ++ List.replicate (maxL - (lg_sl As).length) Slot.unset).toArray) maxL L0 := by
  refine ga_lh (lv_entry As hlen) (fun i v hv => ?_)
  rw [← hL0] at hv
  have := ga_L0_mem As 0 i v
  rw [Nat.zero_add] at this
  refine this ?_
  by_cases hi : i < (ga_L0 As).length
  · rwa [List.getElem?_append_left hi] at hv
  · rw [List.getElem?_append_right (by omega), List.getElem?_replicate] at hv
    split at hv <;> cases hv
theorem ga_met {l : Launch} {D : ga_G} {y : MethodName} {rm : Room} {As : List Value} {post : Option Value → ga_H → Prop} {px : String → Addr → ga_H → Prop} {mc ms maxL : Nat} {ret : Option FieldType} (j : Nat) {L0 : List (Option Value)} (hy : plainName y.cls = true) (ho : y.cls = own) (hlen : (lg_sl As).length ≤ maxL) (hL0 : ga_L0 As ++ List.replicate j none = L0)
    (body : ∀ X : ga_X, ga_D X = D → ga_la X = l → ga_End X y ret [] h post px mc ms → G X rm own maxL cc h 0 0 0 L0 []) : ga_M l D y (ws_ y cc maxL ret) rm As h post px mc ms := by
  intro hst sz
  refine vx_ofW (cc := cc) (maxL := maxL) (ret := ret) hy rfl ?_
  intro p e s m args below meth c s₁ B hml htab hv
  obtain ⟨rfl, hsz, hw, hK, hZ⟩ := hv
  subst hsz
  have hts := atoms_spec (ws := ws_ y cc maxL ret) B.pre
  have hts : ∀ w ∈ lw_all, w.before _ s = true := fun w h => hts w (List.mem_cons_of_mem _ h)
  have hown : s.vm.findClass own = some m.cls := by rw [← ho]; exact findClass_of_methodNamed B.named
  rw [lg_entry_eq]
  have htab' : c.exceptionTable.toList = [] := List.eq_nil_iff_forall_not_mem.mpr fun x hx => htab x hx
  exact body (p, l, e, s, m, As.toArray, below, meth, c, D, ga_A h s.heap.size, vx_MQ below (ga_Q D h s.heap.size post) (ga_XC D h s.heap.size px) As.toArray s mc ms (ga_A h s.heap.size)) rfl rfl ⟨B.returns, rfl, rfl, (name_of_methodNamed B.named B.method).1, htab'⟩ s.heap [] _ ⟨B.exec, B.bytes, hml, hown, hts, hK, fun q hq => Or.inr hq, hZ, hst, B.notSynchronized⟩ ⟨hw, fun a ha => Or.inl ha, va_S.rf⟩ (ga_entry hL0 hlen)
theorem ga_metW {l : Launch} {D : ga_G} {y : MethodName} {rm : Room} {As : List Value} {post : Option Value → ga_H → Prop} {px : String → Addr → ga_H → Prop} {mc ms maxL : Nat} {ret : Option FieldType} {hh : List (Nat × Nat × Nat × Nat)} (j : Nat) {L0 : List (Option Value)} (hy : plainName y.cls = true) (ho : y.cls = own) (hlen : (lg_sl As).length ≤ maxL) (hL0 : ga_L0 As ++ List.replicate j none = L0)
    (body : ∀ X : ga_X, ga_D X = D → ga_la X = l → ga_End X y ret (tableOf hh) h post px mc ms → G X rm own maxL cc h 0 0 0 L0 []) : ga_M l D y (wsW_ y cc maxL ret hh) rm As h post px mc ms := by
  intro hst sz
  refine vx_ofWH (cc := cc) (maxL := maxL) (ret := ret) (hh := hh) hy rfl ?_
  intro p e s m args below meth c s₁ B hml hv
  obtain ⟨rfl, hsz, hw, hK, hZ⟩ := hv
  subst hsz
  have hts0 := atoms_spec (ws := wsW_ y cc maxL ret hh) B.pre
  have hts : ∀ w ∈ lw_all, w.before _ s = true := fun w h => hts0 w (List.mem_cons_of_mem _ h)
  have hown : s.vm.findClass own = some m.cls := by rw [← ho]; exact findClass_of_methodNamed B.named
  rw [lg_entry_eq]
  exact body (p, l, e, s, m, As.toArray, below, meth, c, D, ga_A h s.heap.size, vx_MQ below (ga_Q D h s.heap.size post) (ga_XC D h s.heap.size px) As.toArray s mc ms (ga_A h s.heap.size)) rfl rfl ⟨B.returns, rfl, rfl, (name_of_methodNamed B.named B.method).1, vx_table (x := y) B (hts0 _ List.mem_cons_self)⟩ s.heap [] _ ⟨B.exec, B.bytes, hml, hown, hts, hK, fun q hq => Or.inr hq, hZ, hst, B.notSynchronized⟩ ⟨hw, fun a ha => Or.inl ha, va_S.rf⟩ (ga_entry hL0 hlen)
section GAR
variable {y : MethodName} {et : List ExceptionTableEntry} {h0 : ga_H} {post : Option Value → ga_H → Prop} {px : String → Addr → ga_H → Prop} {mc ms : Nat}
theorem ga_fin {H : Heap} {locs : List Loc} {ret : Option FieldType} {v : Option Value} (hE : ga_End X y ret et h0 post px mc ms) (I : ga_I X h H locs) (hp : post v h) (t : State) (ht : t.heap = H) (hW : (ga_s X).WarmedH t.vm) : ga_Q (ga_D X) h0 (ga_s X).heap.size post (ga_args X) (ga_s X) (.returned v) t :=
  ⟨⟨v, h, rfl, hp, by rw [ht]; exact I.1.moved hW.alike, fun a ha => by rw [← hE.2.2.1]; exact I.2.1 a ha⟩, by rw [← hE.2.2.1]; exact I.2.2.F ht⟩
theorem ga_fr {H : Heap} {locs : List Loc} {ret : Option FieldType} (hE : ga_End X y ret et h0 post px mc ms) (I : ga_I X h H locs) : ∀ q ∈ locs, ga_A h0 (ga_s X).heap.size q.base := by rw [← hE.2.2.1]; exact I.2.2.2.2
theorem ga_iret {z : Int} (hE : ga_End X y (some .int) et h0 post px mc ms) (d : decode cc pc = .ok (.ireturn, 1)) (hk : k ≤ mc) (hn : n ≤ ms) (hp : post (some (.int (iI z))) h) : G X R own nL cc h k n pc L [.int (iI z)] := by
  intro H locs ls T I hl
  rw [hE.2.1]
  exact vx_ret (W.widen hk hn (W.iret T.1 T.2.1 hE.1 (fun t ht hW => ga_fin hE I hp t ht hW) (ga_fr hE I) d T.2.2.2.2.2.2.2.2.2))
theorem ga_zret {z : Int} (hE : ga_End X y (some .boolean) et h0 post px mc ms) (d : decode cc pc = .ok (.ireturn, 1)) (hk : k ≤ mc) (hn : n ≤ ms) (hz : z = 0 ∨ z = 1) (hp : post (some (.int (iI z))) h) : G X R own nL cc h k n pc L [.int (iI z)] := by
  intro H locs ls T I hl
  rw [hE.2.1]
  refine vx_ret (W.widen hk hn (W.zret T.1 T.2.1 hE.1 ?_ (fun t ht hW => ga_fin hE I hp t ht hW) (ga_fr hE I) d T.2.2.2.2.2.2.2.2.2))
  rcases hz with rfl | rfl <;> rfl
theorem ga_lret {z : Int} (hE : ga_End X y (some .long) et h0 post px mc ms) (d : decode cc pc = .ok (.lreturn, 1)) (hk : k ≤ mc) (hn : n ≤ ms) (hp : post (some (.long (lI z))) h) : G X R own nL cc h k n pc L [.long (lI z)] := by
  intro H locs ls T I hl
  rw [hE.2.1]
  exact vx_ret (W.widen hk hn (W.lret T.1 T.2.1 hE.1 (fun t ht hW => ga_fin hE I hp t ht hW) (ga_fr hE I) d T.2.2.2.2.2.2.2.2.2))
theorem ga_vret (hE : ga_End X y none et h0 post px mc ms) (d : decode cc pc = .ok (.return_, 1)) (hk : k ≤ mc) (hn : n ≤ ms) (hp : post none h) : G X R own nL cc h k n pc L [] := by
  intro H locs ls T I hl
  rw [hE.2.1]
  exact vx_ret (W.widen hk hn (W.vret T.1 T.2.1 hE.1 (fun t ht hW => ga_fin hE I hp t ht hW) (ga_fr hE I) d T.2.2.2.2.2.2.2.2.2))
theorem ga_aret {o : Option Nat} {rt : FieldType} (hE : ga_End X y (some rt) et h0 post px mc ms) (hrt : (∃ c, rt = .object c) ∨ ∃ t, rt = .array t) (d : decode cc pc = .ok (.areturn, 1)) (hk : k ≤ mc) (hn : n ≤ ms) (hp : post (some (va_rf o)) h) : G X R own nL cc h k n pc L [va_rf o] := by
  intro H locs ls T I hl
  rw [hE.2.1]
  refine vx_ret (W.widen hk hn (W.aret T.1 T.2.1 hE.1 hrt ?_ (fun t ht hW => ga_fin hE I hp t ht hW) (ga_fr hE I) d T.2.2.2.2.2.2.2.2.2))
  cases o with
  | none => exact Or.inl rfl
  | some a => exact Or.inr ⟨a, rfl⟩
/-- an exception that no handler here takes -/
theorem ga_out {ret : Option FieldType} {E : String} {q : Addr} (hE : ga_End X y ret et h0 post px mc ms) (hpass : ∀ z ∈ et, covers z pc = false ∨ (z.catchType ≠ 0 ∧ ∃ nm : String, Cond.classLink own z.catchType nm ∈ lw_all ∧ Cond.not (.castable E nm) ∈ ga_nw)) (hk : k ≤ mc) (hn : n ≤ ms) (hp : px E q h) : GX X R own nL cc h k n pc L E q := by
  intro H locs ls rest ce T I hl h1 h2 h3
  rw [hE.2.1]
  refine vx_outP T.2.2.2.1 T.2.2.2.2.2.2.2.2.2 (fun z hz => ?_) h1 h2 h3 (fun t ht hW => ⟨⟨h, hp, by rw [ht]; exact I.1.moved hW, fun a ha => by rw [← hE.2.2.1]; exact I.2.1 a ha⟩, by rw [← hE.2.2.1]; exact I.2.2.F ht⟩) (ga_fr hE I) hk hn
  rw [hE.2.2.2.2] at hz
  rcases hpass z hz with g | ⟨g1, nm, g2, g3⟩
  · exact Or.inl g
  · exact Or.inr ⟨g1, nm, T.2.2.2.2.1 _ g2, va_Nc.of (args := #[]) (T.2.2.2.2.2.1.2.1 _ g3)⟩
/-- .. and one that the handler x takes -/
theorem ga_catch {ret : Option FieldType} {E nm : String} {q : Addr} (hE : ga_End X y ret et h0 post px mc ms) (pre : List ExceptionTableEntry) (x : ExceptionTableEntry) (suf : List ExceptionTableEntry) (hsp : et = pre ++ x :: suf) (hpass : ∀ z ∈ pre, covers z pc = false ∨ (z.catchType ≠ 0 ∧ ∃ nm : String, Cond.classLink own z.catchType nm ∈ lw_all ∧ Cond.not (.castable E nm) ∈ ga_nw)) (hx : covers x pc = true) (h9 : x.catchType ≠ 0) (hq1 : Cond.classLink own x.catchType nm ∈ lw_all) (hq2 : Cond.castable E nm ∈ ga_nw)
    (kk : G X R own nL cc h k n x.handlerPc L [.ref q]) : GX X R own nL cc h k n pc L E q := by
  intro H locs ls rest ce T I hl h1 h2 h3
  refine vx_catch T.2.2.2.1 pre x suf (by rw [hE.2.2.2.2]; exact hsp) (fun z hz => ?_) hx h9 (T.2.2.2.2.1 _ hq1) (va_Nw.use rfl (T.2.2.2.2.2.1.2.1 _ hq2)) h1 h2 h3 (kk H locs ls T I hl)
  rcases hpass z hz with g | ⟨g1, nm, g2, g3⟩
  · exact Or.inl g
  · exact Or.inr ⟨g1, nm, T.2.2.2.2.1 _ g2, va_Nc.of (args := #[]) (T.2.2.2.2.2.1.2.1 _ g3)⟩
end GAR
end GAH
