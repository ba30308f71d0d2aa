/-! CELLS that are made, and what else is kept: O the cells that may be written -/
def fOn (h0 h : ga_H) (O : Nat → Prop) (V : List (Nat × ga_E)) : Prop := (∀ x e, h0 x = some e → ¬ O x → h x = some e) ∧ (∀ p ∈ V, h p.1 = some p.2) ∧ (V.map Prod.fst).Nodup ∧ (∀ p ∈ V, O p.1 ∨ h0 p.1 = none) ∧ ∀ x, O x → h x ≠ none
section FON
variable {h0 h h1 : ga_H} {O : Nat → Prop} {V : List (Nat × ga_E)}
theorem fOn.g (hf : fOn h0 h O V) (i : Nat) {p : Nat × ga_E} (hi : V[i]? = some p) : h p.1 = some p.2 := hf.2.1 p (List.mem_of_getElem? hi)
theorem fOn.n (hf : fOn h0 h O V) {b : Nat} {e : ga_E} (hb : h b = none) : fOn h0 (ga_u h b e) O ((b, e) :: V) := by
  have nb : ∀ x e', h x = some e' → x ≠ b := fun x e' hx z => by rw [z, hb] at hx; cases hx
  refine ⟨fun x e' hx ho => ?_, fun p hp => ?_, ?_, fun p hp => ?_, fun x ho => ?_⟩
  · have := hf.1 x e' hx ho
    rw [ga_un (nb _ _ this)]; exact this
  · rcases List.mem_cons.mp hp with z | z
    · rw [z]; exact ga_us _ _ _
    · rw [ga_un (nb _ _ (hf.2.1 p z))]; exact hf.2.1 p z
  · rw [List.map_cons]
    refine List.nodup_cons.mpr ⟨fun z => ?_, hf.2.2.1⟩
    obtain ⟨p, hp, e1⟩ := List.mem_map.mp z
    exact nb _ _ (hf.2.1 p hp) e1
  · rcases List.mem_cons.mp hp with z | z
    · rw [z]
      by_cases ho : O b
      · exact Or.inl ho
      · refine Or.inr ?_
        cases hx : h0 b with
        | none => rfl
        | some e' => exact absurd rfl (nb _ _ (hf.1 b e' hx ho))
    · exact hf.2.2.2.1 p z
  · by_cases z : x = b
    · rw [z, ga_us]; exact fun q => nomatch q
    · rw [ga_un z]; exact hf.2.2.2.2 x ho
theorem w_keyinj {V : List (Nat × ga_E)} (hn : (V.map Prod.fst).Nodup) : ∀ p ∈ V, ∀ q ∈ V, p.1 = q.1 → p = q := by
  induction V with
  | nil => intro p hp; cases hp
  | cons a V ih =>
    rw [List.map_cons] at hn
    obtain ⟨h1, h2⟩ := List.nodup_cons.mp hn
    intro p hp q hq e
    rcases List.mem_cons.mp hp with z | z <;> rcases List.mem_cons.mp hq with y | y
    · rw [z, y]
    · exact absurd (List.mem_map.mpr ⟨q, y, by rw [← e, z]⟩) h1
    · exact absurd (List.mem_map.mpr ⟨p, z, by rw [e, y]⟩) h1
    · exact ih h2 p z q y e
theorem w_keyset {a : Nat} {e e' : ga_E} : ∀ (V : List (Nat × ga_E)) (i : Nat), V[i]? = some (a, e) → (V.set i (a, e')).map Prod.fst = V.map Prod.fst := by
  intro V
  induction V with
  | nil => intro i h; cases i <;> cases h
  | cons v V ih =>
    intro i h
    cases i with
    | zero =>
      have : v = (a, e) := Option.some.inj h
      rw [this]; rfl
    | succ i =>
      show v.1 :: (V.set i (a, e')).map Prod.fst = v.1 :: V.map Prod.fst
      rw [ih i h]
theorem fOn.p (hf : fOn h0 h O V) (i : Nat) {a : Nat} {e e' : ga_E} (hi : V[i]? = some (a, e)) {V1 : List (Nat × ga_E)} (hV : V.set i (a, e') = V1) : fOn h0 (ga_u h a e') O V1 := by
  subst hV
  have ha := List.mem_of_getElem? hi
  have hk := w_keyset (e' := e') V i hi
  have hnd : ((V.set i (a, e')).map Prod.fst).Nodup := by rw [hk]; exact hf.2.2.1
  have hlt : i < V.length := (List.getElem?_eq_some_iff.mp hi).1
  have hmem : (a, e') ∈ V.set i (a, e') := List.mem_set hlt _
  refine ⟨fun x e1 hx ho => ?_, fun p hp => ?_, hnd, fun p hp => ?_, fun x ho => ?_⟩
  · have hne : x ≠ a := fun z => by
      rcases hf.2.2.2.1 _ ha with q | q
      · exact ho (z ▸ q)
      · rw [z, q] at hx; cases hx
    rw [ga_un hne]; exact hf.1 x e1 hx ho
  · by_cases z : p.1 = a
    · have := w_keyinj hnd p hp _ hmem z
      rw [this]; exact ga_us _ _ _
    · rw [ga_un z]
      rcases List.mem_or_eq_of_mem_set hp with q | q
      · exact hf.2.1 p q
      · exact absurd (by rw [q]) z
  · rcases List.mem_or_eq_of_mem_set hp with q | q
    · exact hf.2.2.2.1 p q
    · rw [q]; exact hf.2.2.2.1 (a, e) ha
  · by_cases z : x = a
    · rw [z, ga_us]; exact fun q => nomatch q
    · rw [ga_un z]; exact hf.2.2.2.2 x ho
/-- a call that writes one cell, and makes one -/
theorem fOn.c (hf : fOn h0 h O V) (i : Nat) {a c : Nat} {e e' ec : ga_E} (hi : V[i]? = some (a, e)) (hc : h c = none) {V1 : List (Nat × ga_E)} (hV : (c, ec) :: V.set i (a, e') = V1) : fOn h0 (ga_u (ga_u h c ec) a e') O V1 := by
  subst hV
  exact (hf.n hc).p (i + 1) (a := a) (e := e) hi rfl
theorem fOn.i (q : Nat) {e : ga_E} (hq : h q = some e) : fOn h h (fun x => x = q) [(q, e)] := by
  refine ⟨fun _ _ z _ => z, fun p hp => ?_, by simp, fun p hp => ?_, fun x hx => ?_⟩
  · rcases List.mem_cons.mp hp with z | z
    · rw [z]; exact hq
    · cases z
  · rcases List.mem_cons.mp hp with z | z
    · exact Or.inl (by rw [z])
    · cases z
  · rw [hx, hq]; exact fun z => nomatch z
end FON
