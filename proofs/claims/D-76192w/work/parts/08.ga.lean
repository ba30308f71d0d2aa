/-! THE HEAP AS A PARTIAL MAP, and the machine's frame over it: 'G .. h .. pc L st': the machine at pc, with locals L and operand stack st, where the cells that the method may touch are h, comes to its end. One row an instruction; a call gives back the callee's map. -/
abbrev ga_G : Type := va_G × (Nat → Nat) × (Nat → Nat)
def ga_Cl : List vw_C := [(RX0, TX0, 29), (RX1, TX1, 7), (RX2, TX2, 7), (RX3, TX3, 7), (RX4, TX4, 5), (RX5, TX5, 4), (RX6, TX6, 2), (RX7, TX7, 1), (RX8, TX8, 47), (RX9, TX9, 2), (RX10, TX10, 2), (RX11, TX11, 2), (RX12, TX12, 2), (RX13, TX13, 2), (RX14, TX14, 2), (RX15, TX15, 2), (RX16, TX16, 3), (RX17, TX17, 4), (RX18, TX18, 1)]
abbrev ga_E : Type := (FieldType × vp_A) ⊕ (Nat × List Value)
abbrev ga_H : Type := Nat → Option ga_E
def ga_u (h : ga_H) (a : Nat) (e : ga_E) : ga_H := fun x => if x = a then some e else h x
theorem ga_us (h : ga_H) (a : Nat) (e : ga_E) : ga_u h a e a = some e := if_pos rfl
theorem ga_un {h : ga_H} {a b : Nat} {e : ga_E} (hne : b ≠ a) : ga_u h a e b = h b := if_neg hne
theorem ga_uu (h : ga_H) (a : Nat) (e e' : ga_E) : ga_u (ga_u h a e) a e' = ga_u h a e' := by
  funext x
  unfold ga_u
  by_cases hx : x = a
  · rw [if_pos hx, if_pos hx]
  · rw [if_neg hx, if_neg hx, if_neg hx]
theorem ga_uc {h : ga_H} {a b : Nat} {e e' : ga_E} (hne : a ≠ b) : ga_u (ga_u h a e) b e' = ga_u (ga_u h b e') a e := by
  funext x
  unfold ga_u
  by_cases hx : x = a
  · subst hx
    rw [if_neg hne, if_pos rfl, if_pos rfl]
  · by_cases hy : x = b
    · subst hy
      rw [if_pos rfl, if_neg hx, if_pos rfl]
    · rw [if_neg hy, if_neg hx, if_neg hx, if_neg hy]
theorem ga_uI {h : ga_H} {a : Nat} {e : ga_E} (hh : h a = some e) : ga_u h a e = h := by
  funext x
  unfold ga_u
  by_cases hx : x = a
  · subst hx
    rw [if_pos rfl, hh]
  · rw [if_neg hx]
/-- two cells that hold different things are two -/
theorem ga_ne {h : ga_H} {a b : Nat} {e e' : ga_E} (ha : h a = some e) (hb : h b = some e') (hne : e ≠ e') : a ≠ b := fun q => hne (Option.some.inj (ha.symm.trans ((congrArg h q).trans hb)))
def ga_at (D : va_G) (U : State) (a : Nat) (e : ga_E) (H : Heap) : Prop := match e with
  | .inl x => ∃ cA : ClassId, H[a]? = some (vp_cell cA x.2) ∧ ArrOfT U cA x.1 ∧ va_RA U cA x.1
  | .inr o => va_at D ga_Cl (a, .inr o) H
def ga_w (D : va_G) (U : State) (h : ga_H) (H : Heap) : Prop := ∀ (a : Nat) (e : ga_E), h a = some e → ga_at D U a e H
theorem ga_at.lt {D : va_G} {U : State} {a : Nat} {e : ga_E} {H : Heap} (h : ga_at D U a e H) : a < H.size := by
  cases e with
  | inl x =>
    obtain ⟨cA, h1, -⟩ := h
    exact (Array.getElem?_eq_some_iff.mp h1).1
  | inr o => exact va_at.lt (q := (a, .inr o)) h
theorem ga_at.kept {D : va_G} {U : State} {a : Nat} {e : ga_E} {H H1 : Heap} (h : ga_at D U a e H) (hq : H1[a]? = H[a]?) : ga_at D U a e H1 := by
  cases e with
  | inl x =>
    obtain ⟨cA, h1, h2⟩ := h
    exact ⟨cA, hq.trans h1, h2⟩
  | inr o => exact va_at.kept (q := (a, .inr o)) h hq
theorem ga_at.moved {D : va_G} {u U : State} {a : Nat} {e : ga_E} {H : Heap} (hvm : u.vm.Alike U.vm) (h : ga_at D u a e H) : ga_at D U a e H := by
  cases e with
  | inl x =>
    obtain ⟨cA, h1, h2, h3⟩ := h
    exact ⟨cA, h1, arrOfT_moved hvm h2, h3.moved hvm⟩
  | inr o => exact h
theorem ga_w.moved {D : va_G} {u U : State} {h : ga_H} {H : Heap} (hvm : u.vm.Alike U.vm) (w : ga_w D u h H) : ga_w D U h H := fun a e he => (w a e he).moved hvm
theorem ga_w.upd {D : va_G} {U : State} {h : ga_H} {H H1 : Heap} {a : Nat} {e : ga_E} (w : ga_w D U h H) (he : ga_at D U a e H1) (oq : ∀ q : Nat, q ≠ a → H1[q]? = H[q]?) : ga_w D U (ga_u h a e) H1 := by
  intro b e' hb
  by_cases hba : b = a
  · subst hba
    rw [ga_us] at hb
    cases hb
    exact he
  · rw [ga_un hba] at hb
    exact (w b e' hb).kept (oq b hba)
theorem ga_w.new {D : va_G} {U : State} {h : ga_H} {H H1 : Heap} {a : Nat} {e : ga_E} (w : ga_w D U h H) (ha : a = H.size) (he : ga_at D U a e H1) (oq : ∀ q : Nat, q < a → H1[q]? = H[q]?) : ga_w D U (ga_u h a e) H1 := by
  intro b e' hb
  by_cases hba : b = a
  · subst hba
    rw [ga_us] at hb
    cases hb
    exact he
  · rw [ga_un hba] at hb
    exact (w b e' hb).kept (oq b (by rw [ha]; exact (w b e' hb).lt))
theorem ga_w.fresh {D : va_G} {U : State} {h : ga_H} {H : Heap} (w : ga_w D U h H) : h H.size = none := by
  cases hb : h H.size with
  | none => rfl
  | some e => exact absurd (w _ _ hb).lt (Nat.lt_irrefl _)
theorem ga_one {D : va_G} {a : Nat} {o : Nat × List Value} {H : Heap} (h : va_at D ga_Cl (a, .inr o) H) : va_P D ga_Cl [(a, .inr o)] H := by
  intro k q hk
  have hz : k < 1 := (List.getElem?_eq_some_iff.mp hk).1
  rw [show k = 0 by omega] at hk
  cases hk
  exact h
theorem ga_oneA {D : va_G} {a : Nat} {cA : ClassId} {x : vp_A} {H : Heap} (h : H[a]? = some (vp_cell cA x)) : va_P D ga_Cl [(a, .inl (cA, x))] H := by
  intro k q hk
  have hz : k < 1 := (List.getElem?_eq_some_iff.mp hk).1
  rw [show k = 0 by omega] at hk
  cases hk
  exact h
theorem ga_K1 {D : va_G} {U : State} {cA : ClassId} {ty : FieldType} (h : va_K D ga_Cl [] U) (h1 : ArrOfT U cA ty) (h2 : va_RA U cA ty) : va_K D ga_Cl [(cA, ty)] U := by
  refine ⟨h.1, fun k q hk => ?_⟩
  have hz : k < 1 := (List.getElem?_eq_some_iff.mp hk).1
  rw [show k = 0 by omega] at hk
  cases hk
  exact ⟨h1, h2⟩
/-- the words of the tables and of the start that hold all through a run, beside the list's -/
def ga_o1 : Cond → Bool
  | .fieldLinkNest .. => true
  | .methodLinkNest .. => true
  | .landsInDefault .. => true
  | .not (.castable ..) => true
  | .arrayOver (.object _) => true
  | _ => false
def ga_ok (w : Cond) : Bool := ga_o1 w || (w.faceAtom || (w.onTables && w.keeps))
def ga_nw : List Cond := (lw_tbl ++ flatC narrow_1).filter ga_ok
theorem ga_nt {w : Cond} (h : w ∈ lw_tbl) (g : ga_ok w = true) : w ∈ ga_nw := List.mem_filter.mpr ⟨List.mem_append_left _ h, g⟩
theorem ga_nn {w : Cond} (h : w ∈ flatC narrow_1) (g : ga_ok w = true) : w ∈ ga_nw := List.mem_filter.mpr ⟨List.mem_append_right _ h, g⟩
theorem ga_vm {c : Cond} (hc : c.faceAtom = true) {s U : State} (h : c.before #[] (s.setVm U.vm) = true) : c.before #[] U = true := by
  cases c with
  | declares x => exact va_tabs rfl (rfl : (s.setVm U.vm).vm = U.vm) h
  | publicMethod x => exact va_tabs rfl (rfl : (s.setVm U.vm).vm = U.vm) h
  | privateMethod x => exact va_tabs rfl (rfl : (s.setVm U.vm).vm = U.vm) h
  | unhidden a b d => exact va_tabs rfl (rfl : (s.setVm U.vm).vm = U.vm) h
  | castable a b => exact va_tabs rfl (rfl : (s.setVm U.vm).vm = U.vm) h
  | interfaceMethod r o n d => exact va_tabs rfl (rfl : (s.setVm U.vm).vm = U.vm) h
  | _ => simp [Cond.faceAtom] at hc
theorem ga_w1 {w : Cond} (g : (w.faceAtom || (w.onTables && w.keeps)) = true) {s U : State} (hW : s.WarmedH U.vm) (h : w.before #[] s = true) : w.before #[] U = true := by
  rcases (Bool.or_eq_true _ _).mp g with g | g
  · exact ga_vm g (Cond.faceAtom_setVm hW.alike w g h)
  · exact word_at hW (Or.inl g) h
theorem ga_mv {w : Cond} (g : ga_ok w = true) {s U : State} (hW : s.WarmedH U.vm) (h : w.before #[] s = true) : w.before #[] U = true := by
  rcases (Bool.or_eq_true _ _).mp g with g | g
  · match w, g, h with
    | .fieldLinkNest a i b n d h0, _, h => exact va_Nw.warmF hW h
    | .methodLinkNest a i x h0, _, h => exact va_Nw.warmM hW h
    | .landsInDefault C x y, _, h => exact (Cond.landsInDefault_setVm (args' := #[]) hW.alike (State.methodFound?_setVm hW.alike _ _ _)).trans h
    | .arrayOver (.object C), _, h => exact va_AO.moved hW.alike h
    | .not (.castable a b), _, h => exact Cond.castAtom_setVm hW.alike (.not (.castable a b)) rfl h
  · exact ga_w1 g hW h
theorem ga_cl {w : Cond} (g : ga_ok w = true) {U : State} {f : JFrame} {mk : MethodId} {a : Array Value} (h : w.before #[] U = true) : w.before #[] (U.calling f mk a) = true := by
  rcases (Bool.or_eq_true _ _).mp g with g | g
  · match w, g, h with
    | .fieldLinkNest b i c n d h0, _, h => exact va_tabs (A := #[]) (u := U) (U := U.calling f mk a) rfl rfl h
    | .methodLinkNest b i x h0, _, h => exact va_tabs (A := #[]) (u := U) (U := U.calling f mk a) rfl rfl h
    | .landsInDefault C x y, _, h => exact h
    | .arrayOver (.object C), _, h => exact va_AO.moved (u := U) (U := U.calling f mk a) (Vm.Alike.refl U.vm) h
    | .not (.castable b d), _, h => exact h
  · rcases (Bool.or_eq_true _ _).mp g with q | q
    · exact ga_vm (s := U) (U := U.calling f mk a) q (Cond.faceAtom_setVm (Vm.Alike.refl U.vm) w q h)
    · exact va_tabs (A := #[]) (u := U) (U := U.calling f mk a) ((Bool.and_eq_true _ _).mp q).1 rfl h
def ga_st : List (String × Nat × String) := [("TwoSidedTables", 85, "a"), ("TwoSidedTables", 87, "b"), ("TwoSidedTables", 89, "c"), ("TwoSidedTables", 255, ","), ("TwoSidedTables", 264, "-"), ("TwoSidedTables", 270, ";"), ("java/lang/Math", 116, "long overflow"), ("java/lang/Math", 111, "integer overflow")]
def ga_len : List Nat := [1, 1, 1, 1, 1, 1, 13, 16]
def ga_byt : List (List Int32) := [[97], [98], [99], [44], [45], [59], [108, 111, 110, 103, 32, 111, 118, 101, 114, 102, 108, 111, 119], [105, 110, 116, 101, 103, 101, 114, 32, 111, 118, 101, 114, 102, 108, 111, 119]]
/-- what the tables say -/
def ga_K (D : ga_G) (U : State) : Prop := va_K D.1 ga_Cl [] U ∧ (∀ w ∈ ga_nw, w.before #[] U = true) ∧ ∀ (i : Nat) (q : String × Nat × String), ga_st[i]? = some q → vk_R q.1 q.2.1 q.2.2 (D.2.1 i) U
theorem ga_K.moved {D : ga_G} {s U : State} (hW : s.WarmedH U.vm) (h : ga_K D s) : ga_K D U :=
  ⟨va_K.moved hW.alike h.1, fun w hw => ga_mv (List.mem_filter.mp hw).2 hW (h.2.1 w hw), fun i q hq => (h.2.2 i q hq).warm hW⟩
theorem ga_K.calling {D : ga_G} {U : State} {f : JFrame} {mk : MethodId} {a : Array Value} (h : ga_K D U) : ga_K D (U.calling f mk a) :=
  ⟨va_K.moved (u := U) (U := U.calling f mk a) (Vm.Alike.refl U.vm) h.1, fun w hw => ga_cl (List.mem_filter.mp hw).2 (h.2.1 w hw), fun i q hq => vk_R.same (u := U) (U := U.calling f mk a) rfl (h.2.2 i q hq)⟩
/-- cells that nobody writes: two statics of Throwable, the String constants, two statics of the JDK -/
def ga_Z (D : ga_G) (A : Nat → Prop) (U : State) (H : Heap) : Prop :=
  vx_Zq Bundle.tN "UNASSIGNED_STACK" Bundle.steD A U H ∧ vx_Zq Bundle.tN "SUPPRESSED_SENTINEL" Bundle.listD A U H ∧ vk_S 8 ga_len ga_byt D.2.1 D.2.2 A U H ∧ va_Z "java/lang/String" "COMPACT_STRINGS" "Z" (.int 1) A U H ∧ va_Zq "jdk/internal/util/Preconditions" "SIOOBE_FORMATTER" "Ljava/util/function/BiFunction;" A U H
theorem ga_Z.moved {D : ga_G} {A : Nat → Prop} {u U : State} {H : Heap} (hvm : u.vm.Alike U.vm) (h : ga_Z D A u H) : ga_Z D A U H := ⟨h.1.moved hvm, h.2.1.moved hvm, h.2.2.1.moved hvm, va_Z.moved hvm h.2.2.2.1, va_Zq.moved hvm h.2.2.2.2⟩
theorem ga_Z.kept {D : ga_G} {A : Nat → Prop} {U : State} {H H1 : Heap} (h : ga_Z D A U H) (hq : ∀ a : Nat, a < H.size → ¬ A a → H1[a]? = H[a]?) : ga_Z D A U H1 := ⟨h.1.kept hq, h.2.1.kept hq, h.2.2.1.kept hq, va_Z.kept h.2.2.2.1 hq, va_Zq.kept h.2.2.2.2 hq⟩
theorem ga_Z.narrow {D : ga_G} {A B : Nat → Prop} {U : State} {H : Heap} (h : ga_Z D A U H) (hAB : ∀ q, B q → A q) : ga_Z D B U H := ⟨h.1.narrow hAB, h.2.1.narrow hAB, h.2.2.1.narrow hAB, va_Z.narrow h.2.2.2.1 hAB, va_Zq.narrow h.2.2.2.2 hAB⟩
def ga_A (h : ga_H) (sz : Nat) : Nat → Prop := fun q => h q ≠ none ∨ sz ≤ q
def ga_P (D : ga_G) (h : ga_H) (sz : Nat) : State → Prop := fun U => U.heap.size = sz ∧ ga_w D.1 U h U.heap ∧ ga_K D U ∧ ga_Z D (ga_A h sz) U U.heap
def ga_Q (D : ga_G) (h : ga_H) (sz : Nat) (post : Option Value → ga_H → Prop) : Array Value → State → Outcome → State → Prop := fun _ st oc t =>
  (∃ (v : Option Value) (h1 : ga_H), oc = .returned v ∧ post v h1 ∧ ga_w D.1 t h1 t.heap ∧ ∀ a, h1 a ≠ none → ga_A h sz a) ∧ va_F (ga_A h sz) st t
def ga_XC (D : ga_G) (h : ga_H) (sz : Nat) (px : String → Addr → ga_H → Prop) : String → Addr → State → State → Prop := fun E q st t =>
  (∃ h1 : ga_H, px E q h1 ∧ ga_w D.1 t h1 t.heap ∧ ∀ a, h1 a ≠ none → ga_A h sz a) ∧ va_F (ga_A h sz) st t
/-- a method's contract over the map h: it returns v with the map h1 where 'post v h1', or throws the cell q of class E where 'px E q h1' -/
def ga_M (l : Launch) (D : ga_G) (y : MethodName) (ws : List Cond) (rm : Room) (As : List Value) (h : ga_H) (post : Option Value → ga_H → Prop) (px : String → Addr → ga_H → Prop) (mc ms : Nat) : Prop :=
  l.stackTraces = false → ∀ sz : Nat, vx_Met l y ws rm (va_Pc As (ga_P D h sz)) (ga_Q D h sz post) (ga_XC D h sz px) mc ms (ga_A h sz)
def pI (P : Int → ga_H → Prop) : Option Value → ga_H → Prop := fun v h1 => ∃ r : Int, v = some (.int (iI r)) ∧ P r h1
def pL (P : Int → ga_H → Prop) : Option Value → ga_H → Prop := fun v h1 => ∃ r : Int, v = some (.long (lI r)) ∧ P r h1
def pR (P : Option Nat → ga_H → Prop) : Option Value → ga_H → Prop := fun v h1 => ∃ r : Option Nat, v = some (va_rf r) ∧ P r h1
def pV (P : ga_H → Prop) : Option Value → ga_H → Prop := fun v h1 => v = none ∧ P h1
def pX0 : String → Addr → ga_H → Prop := fun _ _ _ => False
theorem ga_blind {D : ga_G} {As : List Value} {h : ga_H} {sz : Nat} : FrameBlind (va_Pc As (ga_P D h sz)) := fun a U f mk q =>
  ⟨q.1, q.2.1, ga_w.moved (u := U) (U := U.calling f mk a) (Vm.Alike.refl U.vm) q.2.2.1, q.2.2.2.1.calling, ga_Z.moved (u := U) (U := U.calling f mk a) (Vm.Alike.refl U.vm) q.2.2.2.2⟩
abbrev ga_X : Type := Program × Launch × Env × State × MethodId × Array Value × List Frame × Method × Code × ga_G × (Nat → Prop) × (State → Prop)
def ga_p (X : ga_X) : Program := X.1
def ga_la (X : ga_X) : Launch := X.2.1
def ga_e (X : ga_X) : Env := X.2.2.1
def ga_s (X : ga_X) : State := X.2.2.2.1
def ga_m (X : ga_X) : MethodId := X.2.2.2.2.1
def ga_args (X : ga_X) : Array Value := X.2.2.2.2.2.1
def ga_below (X : ga_X) : List Frame := X.2.2.2.2.2.2.1
def ga_meth (X : ga_X) : Method := X.2.2.2.2.2.2.2.1
def ga_c (X : ga_X) : Code := X.2.2.2.2.2.2.2.2.1
def ga_D (X : ga_X) : ga_G := X.2.2.2.2.2.2.2.2.2.1
def ga_AA (X : ga_X) : Nat → Prop := X.2.2.2.2.2.2.2.2.2.2.1
def ga_QQ (X : ga_X) : State → Prop := X.2.2.2.2.2.2.2.2.2.2.2
/-- what stays all through a method's walk -/
def ga_T (X : ga_X) (own : String) (nL : Nat) (cc : ByteArray) : Prop :=
  (ga_p X).tables.exec = Jvm.exec ∧ (ga_c X).code = cc ∧ (ga_c X).maxLocals = nL ∧ (ga_s X).vm.findClass own = some (ga_m X).cls ∧ (∀ w ∈ lw_all, w.before (ga_args X) (ga_s X) = true) ∧ ga_K (ga_D X) (ga_s X) ∧ (∀ q, (ga_s X).heap.size ≤ q → ga_AA X q) ∧ ga_Z (ga_D X) (ga_AA X) (ga_s X) (ga_s X).heap ∧ (ga_la X).stackTraces = false ∧ (ga_meth X).locks = false
def ga_l (ls : Array Slot) (nL : Nat) (L : List (Option Value)) : Prop := ls.size = nL ∧ lv_wf ls ∧ ∀ (i : Nat) (v : Value), L[i]? = some (some v) → ls[i]? = some (.val v)
/-- the cells of the map, in the heap, among those that may be touched -/
def ga_I (X : ga_X) (h : ga_H) (H : Heap) (locs : List Loc) : Prop := ga_w (ga_D X).1 (ga_s X) h H ∧ (∀ a, h a ≠ none → ga_AA X a) ∧ va_S (ga_AA X) (ga_s X).heap H locs
def G (X : ga_X) (R : Room) (own : String) (nL : Nat) (cc : ByteArray) (h : ga_H) (k n : Nat) (pc : Nat) (L : List (Option Value)) (st : List Value) : Prop :=
  ∀ (H : Heap) (locs : List Loc) (ls : Array Slot), ga_T X own nL cc → ga_I X h H locs → ga_l ls nL L → W (ga_p X) (ga_la X) (ga_e X) R (ga_s X) (ga_m X) (ga_args X) (ga_below X) (ga_meth X) (ga_c X) H locs k n (ga_QQ X) (F0 (ga_m X) pc ls st)
/-- the same frame, with the cell q of class E thrown -/
def GX (X : ga_X) (R : Room) (own : String) (nL : Nat) (cc : ByteArray) (h : ga_H) (k n : Nat) (pc : Nat) (L : List (Option Value)) (E : String) (q : Addr) : Prop :=
  ∀ (H : Heap) (locs : List Loc) (ls : Array Slot) (rest : List Value) (ce : Cell), ga_T X own nL cc → ga_I X h H locs → ga_l ls nL L → H[q]? = some ce → ce.vm = .none → (ga_s X).vm.findClass E = some ce.cls → vx_W (ga_p X) (ga_la X) (ga_e X) R (ga_s X) (ga_m X) (ga_args X) (ga_below X) (ga_meth X) (ga_c X) H locs k n (ga_QQ X) (F0 (ga_m X) pc ls rest) q
/-- what is owed at the method's end -/
def ga_End (X : ga_X) (y : MethodName) (ret : Option FieldType) (et : List ExceptionTableEntry) (h0 : ga_H) (post : Option Value → ga_H → Prop) (px : String → Addr → ga_H → Prop) (mc ms : Nat) : Prop :=
  (ga_meth X).sig.returnType = ret ∧ ga_QQ X = vx_MQ (ga_below X) (ga_Q (ga_D X) h0 (ga_s X).heap.size post) (ga_XC (ga_D X) h0 (ga_s X).heap.size px) (ga_args X) (ga_s X) mc ms (ga_A h0 (ga_s X).heap.size) ∧ ga_AA X = ga_A h0 (ga_s X).heap.size ∧ (ga_meth X).name = y.name ∧ (ga_c X).exceptionTable.toList = et
theorem ga_lh {ls : Array Slot} {nL : Nat} {L : List (Option Value)} {l : List (Nat × Value)} (h : lv_has ls nL l) (hl : ∀ (i : Nat) (v : Value), L[i]? = some (some v) → (i, v) ∈ l) : ga_l ls nL L := ⟨h.1, h.2.1, fun i v hv => h.2.2 (i, v) (hl i v hv)⟩
/-- the listed places of the locals, as pairs -/
def ga_pr : Nat → List (Option Value) → List (Nat × Value)
  | _, [] => []
  | i, none :: t => ga_pr (i + 1) t
  | i, some v :: t => (i, v) :: ga_pr (i + 1) t
theorem ga_pr_mem : ∀ (L : List (Option Value)) (b i : Nat) (v : Value), (i, v) ∈ ga_pr b L ↔ ∃ j, i = b + j ∧ L[j]? = some (some v) := by
  intro L
  induction L with
  | nil => intro b i v; simp [ga_pr]
  | cons o t ih =>
    intro b i v
    cases o with
    | none =>
      simp only [ga_pr, ih]
      constructor
      · rintro ⟨j, rfl, hj⟩
        exact ⟨j + 1, by omega, by simpa using hj⟩
      · rintro ⟨j, rfl, hj⟩
        cases j with
        | zero => simp at hj
        | succ j => exact ⟨j, by omega, by simpa using hj⟩
    | some w =>
      simp only [ga_pr, List.mem_cons, ih, Prod.mk.injEq]
      constructor
      · rintro (⟨rfl, rfl⟩ | ⟨j, rfl, hj⟩)
        · exact ⟨0, by omega, by simp⟩
        · exact ⟨j + 1, by omega, by simpa using hj⟩
      · rintro ⟨j, rfl, hj⟩
        cases j with
        | zero =>
          left
          have : w = v := by simpa using hj
          exact ⟨by omega, this.symm⟩
        | succ j => exact Or.inr ⟨j, by omega, by simpa using hj⟩
theorem ga_lv {ls : Array Slot} {nL : Nat} {L : List (Option Value)} (h : ga_l ls nL L) : lv_has ls nL (ga_pr 0 L) := ⟨h.1, h.2.1, fun q hq => by
  obtain ⟨j, e, hj⟩ := (ga_pr_mem L 0 q.1 q.2).mp hq
  rw [e, Nat.zero_add]
  exact h.2.2 j q.2 hj⟩
/-- no long lies right below the place -/
def ga_c1 (L : List (Option Value)) : Nat → Bool
  | 0 => true
  | j + 1 => match L[j]? with
    | some (some w) => w.category != 2
    | _ => true
theorem ga_sto1 {L L' : List (Option Value)} {i : Nat} {v : Value} (hL : L.set i (some v) = L') (hc : ga_c1 L i = true) (j : Nat) (w : Value) (hj : L'[j]? = some (some w)) : (j, w) ∈ (i, v) :: (ga_pr 0 L).filter (fun q => !(q.1 == i) && !(q.1 + 1 == i && q.2.category == 2)) := by
  subst hL
  by_cases hji : j = i
  · subst hji
    rw [List.getElem?_set] at hj
    split at hj
    · split at hj
      · cases hj; exact List.mem_cons_self
      · cases hj
    · rename_i h; exact absurd rfl h
  · rw [List.getElem?_set_ne (Ne.symm hji)] at hj
    refine List.mem_cons_of_mem _ (List.mem_filter.mpr ⟨(ga_pr_mem L 0 j w).mpr ⟨j, by omega, hj⟩, ?_⟩)
    simp only [Bool.and_eq_true, Bool.not_eq_true', beq_eq_false_iff_ne, ne_eq, Bool.and_eq_false_iff]
    refine ⟨hji, ?_⟩
    by_cases hq : j + 1 = i
    · right
      subst hq
      simp only [ga_c1, hj, bne_iff_ne, ne_eq] at hc
      exact hc
    · exact Or.inl hq
theorem ga_sto2 {L L' : List (Option Value)} {i : Nat} {v : Value} (hL : (L.set i (some v)).set (i + 1) none = L') (hc : ga_c1 L i = true) (j : Nat) (w : Value) (hj : L'[j]? = some (some w)) : (j, w) ∈ (i, v) :: (ga_pr 0 L).filter (fun q => !(q.1 == i) && (!(q.1 == i + 1) && !(q.1 + 1 == i && q.2.category == 2))) := by
  subst hL
  by_cases hj1 : j = i + 1
  · subst hj1
    rw [List.getElem?_set] at hj
    split at hj
    · split at hj
      · cases hj
      · cases hj
    · rename_i h; exact absurd rfl h
  rw [List.getElem?_set_ne (Ne.symm hj1)] at hj
  by_cases hji : j = i
  · subst hji
    rw [List.getElem?_set] at hj
    split at hj
    · split at hj
      · cases hj; exact List.mem_cons_self
      · cases hj
    · rename_i h; exact absurd rfl h
  · rw [List.getElem?_set_ne (Ne.symm hji)] at hj
    refine List.mem_cons_of_mem _ (List.mem_filter.mpr ⟨(ga_pr_mem L 0 j w).mpr ⟨j, by omega, hj⟩, ?_⟩)
    simp only [Bool.and_eq_true, Bool.not_eq_true', beq_eq_false_iff_ne, ne_eq, Bool.and_eq_false_iff]
    refine ⟨hji, hj1, ?_⟩
    by_cases hq : j + 1 = i
    · right
      subst hq
      simp only [ga_c1, hj, bne_iff_ne, ne_eq] at hc
      exact hc
    · exact Or.inl hq
