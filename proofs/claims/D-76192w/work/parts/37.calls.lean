/-! ROWS of calls between nest mates, of inherited, overriding and overridden methods, through an interface -/
section GAN
variable {X : ga_X} {R : Room} {own : String} {nL : Nat} {cc : ByteArray} {h : ga_H} {k n pc : Nat} {L : List (Option Value)} {y : MethodName} {bytes : ByteArray} {maxL : Nat} {ret : Option FieldType} {rm : Room} {As rest st0 : List Value} {post : Option Value → ga_H → Prop} {px : String → Addr → ga_H → Prop} {mc ms idx : Nat}
theorem ga_runVN {b ci : Nat} {fs : List Value} {C host : String} {T : u_T} {N : Nat} (hM : ga_M (ga_la X) (ga_D X) y (ws_ y bytes maxL ret) rm (.ref b :: As) h post px mc ms) (hl : Cond.methodLinkNest own idx y host ∈ ga_nw) (hi : Cond.instanceMethod y ∈ lw_all) (hse : Cond.selects C y y ∈ lw_all) (hini : Cond.initialized y.cls ∈ lw_all) (hco : Cond.code y bytes maxL ret ∈ lw_all) (hy : ga_nn' y As.length) (hrm : rm.cells = mc ∧ rm.slots = ms) (hR : rm.frames + 1 ≤ R.frames ∧ 8 + (maxL + 11) + rm.locals ≤ R.locals) (hf : k + mc ≤ R.cells ∧ n + ms ≤ R.slots) (hb : h b = some (oE ci fs)) (hc : ga_Cl[ci]? = some (C, T, N)) (hs : (rest.map fun v => v.category).sum ≤ 8) (d : decode cc pc = .ok (.invokevirtual idx, 3)) (hst : st0 = As.reverse ++ .ref b :: rest) :
    ga_Run X R own nL cc h k n pc L st0 rest post px mc ms := by
  intro H locs ls T0 I hl0
  exact vx_runVN (C := C) ⟨T0.1, T0.2.1, T0.2.2.1, T0.2.2.2.1, T0.2.2.2.2.1⟩ (hM T0.2.2.2.2.2.2.2.2.1 H.size) ⟨va_cnB As.length T0.2.2.2.2.1 (lw_meth hco) rfl hrm.1 hrm.2 (va_Nw.of rfl (T0.2.2.2.2.2.1.2.1 _ hl)) (T0.2.2.2.2.1 _ hini) hy hR, T0.2.2.2.2.1 _ hi, T0.2.2.2.2.1 _ hse⟩ ⟨ga_blind, ga_recv T0 I hb hc, fun U hU hW => ga_pre T0 I U hU hW⟩ rfl rfl hl0.1 hst (lv_room hs) d hf
theorem ga_runSN {host : String} (hM : ga_M (ga_la X) (ga_D X) y (ws_ y bytes maxL ret) rm As h post px mc ms) (hl : Cond.methodLinkNest own idx y host ∈ ga_nw) (hst9 : Cond.static y ∈ lw_all) (hini : Cond.initialized y.cls ∈ lw_all) (hco : Cond.code y bytes maxL ret ∈ lw_all) (hy : ga_nn' y As.length) (hrm : rm.cells = mc ∧ rm.slots = ms) (hR : rm.frames + 1 ≤ R.frames ∧ 8 + (maxL + 11) + rm.locals ≤ R.locals) (hf : k + mc ≤ R.cells ∧ n + ms ≤ R.slots) (hs : (rest.map fun v => v.category).sum ≤ 8) (d : decode cc pc = .ok (.invokestatic idx, 3)) (hst : st0 = As.reverse ++ rest) :
    ga_Run X R own nL cc h k n pc L st0 rest post px mc ms := by
  intro H locs ls T0 I hl0
  exact vx_runSN (As := As) ⟨T0.1, T0.2.1, T0.2.2.1, T0.2.2.2.1, T0.2.2.2.2.1⟩ (hM T0.2.2.2.2.2.2.2.2.1 H.size) ⟨va_cnB As.length T0.2.2.2.2.1 (lw_meth hco) rfl hrm.1 hrm.2 (va_Nw.of rfl (T0.2.2.2.2.2.1.2.1 _ hl)) (T0.2.2.2.2.1 _ hini) hy hR, T0.2.2.2.2.1 _ hst9, trivial⟩ ⟨ga_blind, fun U hU hW => ga_pre T0 I U hU hW⟩ rfl rfl hl0.1 hst (lv_room hs) d hf
theorem ga_runIN {b : Nat} {host : String} (hM : ga_M (ga_la X) (ga_D X) y (ws_ y bytes maxL none) rm (.ref b :: As) h post px mc ms) (hl : Cond.methodLinkNest own idx y host ∈ ga_nw) (hi : Cond.instanceMethod y ∈ lw_all) (hini : Cond.initialized y.cls ∈ lw_all) (hco : Cond.code y bytes maxL none ∈ lw_all) (hnm : y.name = "<init>") (hy : ga_nn' y As.length) (hrm : rm.cells = mc ∧ rm.slots = ms) (hR : rm.frames + 1 ≤ R.frames ∧ 8 + (maxL + 11) + rm.locals ≤ R.locals) (hf : k + mc ≤ R.cells ∧ n + ms ≤ R.slots) (hs : (rest.map fun v => v.category).sum ≤ 8) (d : decode cc pc = .ok (.invokespecial idx, 3)) (hst : st0 = As.reverse ++ .ref b :: rest) :
    ga_Run X R own nL cc h k n pc L st0 rest post px mc ms := by
  intro H locs ls T0 I hl0
  exact vx_runIN ⟨T0.1, T0.2.1, T0.2.2.1, T0.2.2.2.1, T0.2.2.2.2.1⟩ (hM T0.2.2.2.2.2.2.2.2.1 H.size) ⟨va_cnB As.length T0.2.2.2.2.1 (lw_meth hco) rfl hrm.1 hrm.2 (va_Nw.of rfl (T0.2.2.2.2.2.1.2.1 _ hl)) (T0.2.2.2.2.1 _ hini) hy hR, hnm, T0.2.2.2.2.1 _ hi⟩ ⟨ga_blind, fun U hU hW => ga_pre T0 I U hU hW⟩ rfl rfl hl0.1 hst (lv_room hs) d hf
/-- x: what the caller names; y: what runs; owner: where x is found (its code is in the tables) -/
theorem ga_runU {b ci : Nat} {fs : List Value} {C owner : String} {T : u_T} {N : Nat} {x : MethodName} {b0 : ByteArray} {m0 : Nat} {r0 : Option FieldType} (hM : ga_M (ga_la X) (ga_D X) y (ws_ y bytes maxL ret) rm (.ref b :: As) h post px mc ms) (hl : Cond.methodLink own idx x ∈ lw_all) (hsm : Cond.sameMethod x.cls owner x.name x.desc ∈ lw_all) (hi0 : Cond.instanceMethod ⟨owner, x.name, x.desc⟩ ∈ lw_all) (hc0 : Cond.code ⟨owner, x.name, x.desc⟩ b0 m0 r0 ∈ lw_all) (hse : Cond.selects C x y ∈ lw_all) (hi : Cond.instanceMethod y ∈ lw_all) (hini : Cond.initialized y.cls ∈ lw_all) (hco : Cond.code y bytes maxL ret ∈ lw_all) (hon : owner ≠ "java/lang/invoke/MethodHandle" ∧ owner ≠ "java/lang/invoke/VarHandle") (hy : ga_nn' x As.length) (hrm : rm.cells = mc ∧ rm.slots = ms) (hR : rm.frames + 1 ≤ R.frames ∧ 8 + (maxL + 11) + rm.locals ≤ R.locals) (hf : k + mc ≤ R.cells ∧ n + ms ≤ R.slots) (hb : h b = some (oE ci fs)) (hc : ga_Cl[ci]? = some (C, T, N)) (hs : (rest.map fun v => v.category).sum ≤ 8) (d : decode cc pc = .ok (.invokevirtual idx, 3)) (hst : st0 = As.reverse ++ .ref b :: rest) :
    ga_Run X R own nL cc h k n pc L st0 rest post px mc ms := by
  intro H locs ls T0 I hl0
  have hW0 := T0.2.2.2.2.1
  exact vx_runU (C := C) (owner := owner) (x := x) ⟨T0.1, T0.2.1, T0.2.2.1, T0.2.2.2.1, hW0⟩ (hM T0.2.2.2.2.2.2.2.2.1 H.size)
    (va_cwO As.length hW0 (lw_app (by
      intro w hw
      simp only [List.mem_cons, List.not_mem_nil, or_false] at hw
      rcases hw with e | e | e | e | e | e
      · rw [e]; exact hl
      · rw [e]; exact hsm
      · rw [e]; exact hi0
      · rw [e]; exact hse
      · rw [e]; exact hi
      · rw [e]; exact hini) (lw_meth hco)) rfl hrm.1 hrm.2 hc0 ⟨hon.1, hon.2, hy.2.2⟩ hR)
    ⟨ga_blind, ga_recv T0 I hb hc, fun U hU hW => ga_pre T0 I U hU hW⟩ rfl rfl hl0.1 hst (lv_room hs) d hf
theorem ga_runSU {b ci : Nat} {fs : List Value} {C : String} {T : u_T} {N : Nat} (hM : ga_M (ga_la X) (ga_D X) y (ws_ y bytes maxL ret) rm (.ref b :: As) h post px mc ms) (hl : Cond.methodLink own idx y ∈ lw_all) (hsm : Cond.sameMethod y.cls y.cls y.name y.desc ∈ lw_all) (hsu : Cond.superclass own y.cls ∈ lw_all) (hi : Cond.instanceMethod y ∈ lw_all) (hini : Cond.initialized y.cls ∈ lw_all) (hco : Cond.code y bytes maxL ret ∈ lw_all) (hnm : y.name ≠ "<init>") (hy : ga_nn' y As.length) (hrm : rm.cells = mc ∧ rm.slots = ms) (hR : rm.frames + 1 ≤ R.frames ∧ 8 + (maxL + 11) + rm.locals ≤ R.locals) (hf : k + mc ≤ R.cells ∧ n + ms ≤ R.slots) (hb : h b = some (oE ci fs)) (hc : ga_Cl[ci]? = some (C, T, N)) (hs : (rest.map fun v => v.category).sum ≤ 8) (d : decode cc pc = .ok (.invokespecial idx, 3)) (hst : st0 = As.reverse ++ .ref b :: rest) :
    ga_Run X R own nL cc h k n pc L st0 rest post px mc ms := by
  intro H locs ls T0 I hl0
  exact vx_runSU (C := C) (T0.2.2.2.2.2.1.1.1 ci _ hc).2 ⟨T0.1, T0.2.1, T0.2.2.1, T0.2.2.2.1, T0.2.2.2.2.1⟩ (hM T0.2.2.2.2.2.2.2.2.1 H.size)
    (va_cwSU As.length T0.2.2.2.2.1 (lw_app (by
      intro w hw
      simp only [List.mem_cons, List.not_mem_nil, or_false] at hw
      rcases hw with e | e | e | e | e
      · rw [e]; exact hl
      · rw [e]; exact hsm
      · rw [e]; exact hsu
      · rw [e]; exact hi
      · rw [e]; exact hini) (lw_meth hco)) rfl hrm.1 hrm.2 ⟨hnm, hy.2.2⟩ hR)
    ⟨ga_blind, ga_recv T0 I hb hc, fun U hU hW => ga_pre T0 I U hU hW⟩ rfl rfl hl0.1 hst (lv_room hs) d hf
/-- a call through an interface -/
def ga_Run5 (X : ga_X) (R : Room) (own : String) (nL : Nat) (cc : ByteArray) (h : ga_H) (k n : Nat) (pc : Nat) (L : List (Option Value)) (st0 rest : List Value) (post : Option Value → ga_H → Prop) (px : String → Addr → ga_H → Prop) (mc ms : Nat) : Prop :=
  ∀ (H : Heap) (locs : List Loc) (ls : Array Slot), ga_T X own nL cc → ga_I X h H locs → ga_l ls nL L → vx_Run5 (ga_p X) (ga_la X) (ga_e X) R (ga_s X) (ga_m X) (ga_args X) (ga_below X) (ga_meth X) (ga_c X) H locs k n mc ms (F0 (ga_m X) pc ls st0) rest (ga_Q (ga_D X) h H.size post #[]) (ga_XC (ga_D X) h H.size px) (ga_A h H.size)
theorem ga_go5 {st0 rest : List Value} {post : Option Value → ga_H → Prop} {px : String → Addr → ga_H → Prop} {mc ms : Nat} (hr : ga_Run5 X R own nL cc h k n pc L st0 rest post px mc ms) (kx : ∀ (E : String) (q : Addr) (h1 : ga_H), px E q h1 → GX X R own nL cc h1 (k + mc) (n + ms) pc L E q)
    (kk : ∀ (v : Option Value) (h1 : ga_H), post v h1 → G X R own nL cc h1 (k + mc) (n + ms) (pc + 5) L (v.toList ++ rest)) : G X R own nL cc h k n pc L st0 := by
  intro H locs ls T I hl Ts hT S
  have hA := ga_wide T I
  rcases hr H locs ls T I hl Ts hT S with ⟨v, st₀, t, T', Lc, h0, X', hL, e1, e2, ⟨⟨w, h1, hv, hp, hw, ha⟩, hF⟩, hgo⟩ | ⟨q, st₀, t, T', Lc, E, ce, h0, X', hL, e1, e2, ⟨⟨h1, hp, hw, ha⟩, hF⟩, hce, hcv, hcl, hgo⟩
  · cases hv
    obtain ⟨k1, k2, k3⟩ := vx_keep h0 e1 I.2.2 (fun q _ z => hA q z) hA hL hF
    have hal : t.vm.Alike (ga_s X).vm := by rw [← e2]; exact X'.warmed.alike.symm
    obtain ⟨t2, a1, b1⟩ := kk _ h1 hp T'.heap (locs ++ Lc) ls T ⟨by rw [e1]; exact hw.moved hal, fun a z => hA a (ha a z), k3⟩ hl T' rfl X'
    exact ⟨t2, hgo t2 a1, b1⟩
  · obtain ⟨k1, k2, k3⟩ := vx_keep h0 e1 I.2.2 (fun q _ z => hA q z) hA hL hF
    have hal : t.vm.Alike (ga_s X).vm := by rw [← e2]; exact X'.warmed.alike.symm
    obtain ⟨t2, a1, b1⟩ := kx E q h1 hp T'.heap (locs ++ Lc) ls rest ce T ⟨by rw [e1]; exact hw.moved hal, fun a z => hA a (ha a z), k3⟩ hl (by rw [e1]; exact hce) hcv hcl T' rfl X'
    exact ⟨t2, hgo.trans a1, b1⟩
theorem ga_runF {b ci count : Nat} {fs : List Value} {C : String} {T : u_T} {N : Nat} {x : MethodName} (hM : ga_M (ga_la X) (ga_D X) y (ws_ y bytes maxL ret) rm (.ref b :: As) h post px mc ms) (hl : Cond.methodLink own idx x ∈ lw_all) (hse : Cond.selects C x y ∈ lw_all) (hi : Cond.instanceMethod y ∈ lw_all) (hini : Cond.initialized y.cls ∈ lw_all) (hco : Cond.code y bytes maxL ret ∈ lw_all) (h1 : Cond.declares x ∈ ga_nw) (h2 : Cond.interfaceMethod x.cls x.cls x.name x.desc ∈ ga_nw) (h3 : Cond.publicMethod y ∈ ga_nw) (h4 : Cond.unhidden C x.name x.desc ∈ ga_nw) (h5 : Cond.castable C x.cls ∈ ga_nw) (hy : ga_nn' x As.length) (hrm : rm.cells = mc ∧ rm.slots = ms) (hR : rm.frames + 1 ≤ R.frames ∧ 8 + (maxL + 11) + rm.locals ≤ R.locals) (hf : k + mc ≤ R.cells ∧ n + ms ≤ R.slots) (hb : h b = some (oE ci fs)) (hc : ga_Cl[ci]? = some (C, T, N)) (hs : (rest.map fun v => v.category).sum ≤ 8) (d : decode cc pc = .ok (.invokeinterface idx count, 5)) (hst : st0 = As.reverse ++ .ref b :: rest) :
    ga_Run5 X R own nL cc h k n pc L st0 rest post px mc ms := by
  intro H locs ls T0 I hl0
  have hK := T0.2.2.2.2.2.1.2.1
  exact vx_runF (C := C) (x := x) (T0.2.2.2.2.2.1.1.1 ci _ hc).2 ⟨T0.1, T0.2.1, T0.2.2.1, T0.2.2.2.1, T0.2.2.2.2.1⟩ (hM T0.2.2.2.2.2.2.2.2.1 H.size)
    (va_cwF As.length T0.2.2.2.2.1 (lw_app (by
      intro w hw
      simp only [List.mem_cons, List.not_mem_nil, or_false] at hw
      rcases hw with e | e | e | e
      · rw [e]; exact hl
      · rw [e]; exact hse
      · rw [e]; exact hi
      · rw [e]; exact hini) (lw_meth hco)) rfl hrm.1 hrm.2 ⟨hK _ h1, hK _ h2, hK _ h3, hK _ h4, hK _ h5⟩ hy hR)
    ⟨ga_blind, ga_recv T0 I hb hc, fun U hU hW => ga_pre T0 I U hU hW⟩ rfl rfl hl0.1 hst (lv_room hs) d hf
end GAN
