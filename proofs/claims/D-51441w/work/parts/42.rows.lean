/-! MORE CALLS: on a receiver of a class below, inherited, abstract, private in a class above, through an interface, a super's, a default's; copies of arrays; arrays of arrays; exceptions made and caught -/
set_option maxRecDepth 100000
section CALLS2
variable {G : kx_G} {l : Launch} {p : Program} {e : Env} {R : Room} {s : State} {m : MethodId} {args : Array Value} {below : List Frame} {meth : Method} {c : Code} {cc : ByteArray} {own : String} {nL : Nat} {ret : Option FieldType} {nm : String} {hh : List (Nat × Nat × Nat × Nat)} {Q : State → Prop} {pc : Nat} {lv : List (Nat × Value)} {rest : List Value} {σ : kx_H} {k n : Nat}
variable {y : MethodName} {b : ByteArray} {L na f mc ms index a : Nat} {r : Option FieldType} {As st0 : List Value} {P : Option Value → kx_H → Prop} {X : String → Nat → kx_H → Prop} {hc : List (Nat × Nat × Nat × Nat)}
theorem kx_met {as : List Value} (h : kx_SP l G y (ws_ y b L r) f mc ms as σ P kx_nx) : Met l y (ws_ y b L r) (kx_rm f mc ms) (va_Pc as (kx_Wd G σ)) (kx_Qc G P) mc ms (kx_A G) := by
  refine MetFree.mono h (fun _ _ hp => hp) (fun _ _ _ _ _ _ => trivial) ?_
  intro a st o t _ hq
  rcases hq with hq | ⟨q, e, E, ce, L, ⟨⟨τ, h1, h2⟩, hF⟩, hr⟩
  · exact hq
  · exact h1.elim
theorem kx_gi : ∀ {a : List Cond} {c : List Cond}, (∀ w ∈ a, w ∈ lw_all) → GoodIn lw_all c → GoodIn lw_all (a ++ c) := fun ha hc => lw_app ha hc
/-- a method of a class above the receiver's -/
theorem ri_callVC (C : kx_C G l p e R s m args below meth c cc own nL ret nm hh) {Cn : String} (hm : kx_mi y b L r na) (hl : Cond.methodLink own index y ∈ lw_all) (hs : Cond.selects Cn y y ∈ lw_all) (d : decode cc pc = .ok (.invokevirtual index, 3))
    (hM : kx_SP l G y (ws_ y b L r) f mc ms (.ref a :: As) σ P X) (hst : st0 = As.reverse ++ .ref a :: rest) (hn : As.length = na) (hrc : kx_Rc G s σ a Cn) (hf : kx_fit R f L mc ms k n rest)
    (kn : ∀ v τ, P v τ → kx_V G l p e R s m args below meth c nL Q (pc + 3) lv (kx_vl v rest) τ (k + mc) (n + ms)) (kxx : ∀ E q τ, X E q τ → kx_X G l p e R s m args below meth c nL Q pc lv rest τ (k + mc) (n + ms) E q) : kx_V G l p e R s m args below meth c nL Q pc lv st0 σ k n := by
  subst hst
  obtain ⟨h1, h2, h3, h4, h5, h6⟩ := hm
  exact kx_ofRun (fun H locs ls hw hS hl' => vx_runV (C := Cn) (As := As) (rest := rest) ⟨C.hx, C.hb, C.ml, C.ow, C.ts⟩ hM ⟨callB_of na C.ts (lw_meth h3) rfl rfl rfl (C.ts _ h2) (C.ts _ hl) ⟨h4, h5, h6⟩ hf.1, C.ts _ h1, C.ts _ hs⟩
    ⟨kx_Wd.blind, hrc H locs hw hS, kx_Wd.to C hw hS _⟩ rfl hn hl'.1 rfl (lv_room hf.2.2.2) d ⟨hf.2.1, hf.2.2.1⟩) kn kxx
/-- a private method of a class above the receiver's: another one's word says that no interface is met -/
theorem kx_selP {Cn : String} {y y' : MethodName} {s : State} {args : Array Value} (hy : y.cls ≠ "java/lang/invoke/MethodHandle" ∧ y.cls ≠ "java/lang/invoke/VarHandle") (hs : (Cond.selects Cn y' y').before args s = true) (he : y'.cls = y.cls)
    (hpriv : (Cond.privateMethod y).before args s = true) (hinst : (Cond.instanceMethod y).before args s = true) : (Cond.selects Cn y y).before args s = true := by
  obtain ⟨c2, r2, m2, q1, q2, q3, q4, kP, hkP, hkPi⟩ := Cond.selects_spec hs
  obtain ⟨mk, methM, hnamed, hmethM, -, -⟩ := Cond.instanceMethod_spec hinst
  have hfound : s.methodFound? y.cls y.name y.desc = some mk := State.methodFound?_of_named hnamed hy
  have hcls : mk.cls = m2.cls := by
    have e1 := findClass_of_methodNamed hnamed
    have e2 := findClass_of_methodNamed q3
    rw [he] at e2
    exact Option.some.inj (e1.symm.trans e2)
  have hsel : selectMethod {} s.vm c2 mk = .method mk := selectMethod_private hmethM (Cond.privateMethod_at hpriv mk methM hnamed hmethM)
  simp only [Cond.before, Cond.holds, Cond.value, q1, hfound, hnamed, hsel, hcls, hkP]
  simp; exact hkPi
theorem ri_callVP (C : kx_C G l p e R s m args below meth c cc own nL ret nm hh) {Cn : String} {y' : MethodName} (hm : kx_mi y b L r na) (hl : Cond.methodLink own index y ∈ lw_all) (hs : Cond.selects Cn y' y' ∈ lw_all) (he : y'.cls = y.cls) (hpr : Cond.privateMethod y ∈ lw_tbl) (d : decode cc pc = .ok (.invokevirtual index, 3))
    (hM : kx_SP l G y (ws_ y b L r) f mc ms (.ref a :: As) σ P X) (hst : st0 = As.reverse ++ .ref a :: rest) (hn : As.length = na) (hrc : kx_Rc G s σ a Cn) (hf : kx_fit R f L mc ms k n rest)
    (kn : ∀ v τ, P v τ → kx_V G l p e R s m args below meth c nL Q (pc + 3) lv (kx_vl v rest) τ (k + mc) (n + ms)) (kxx : ∀ E q τ, X E q τ → kx_X G l p e R s m args below meth c nL Q pc lv rest τ (k + mc) (n + ms) E q) : kx_V G l p e R s m args below meth c nL Q pc lv st0 σ k n := by
  subst hst
  obtain ⟨h1, h2, h3, h4, h5, h6⟩ := hm
  exact kx_ofRun (fun H locs ls hw hS hl' => vx_runV (C := Cn) (As := As) (rest := rest) ⟨C.hx, C.hb, C.ml, C.ow, C.ts⟩ hM ⟨callB_of na C.ts (lw_meth h3) rfl rfl rfl (C.ts _ h2) (C.ts _ hl) ⟨h4, h5, h6⟩ hf.1, C.ts _ h1, kx_selP ⟨h4, h5⟩ (C.ts _ hs) he (va_Nw.use rfl (C.st.nw hpr rfl)) (C.ts _ h1)⟩
    ⟨kx_Wd.blind, hrc H locs hw hS, kx_Wd.to C hw hS _⟩ rfl hn hl'.1 rfl (lv_room hf.2.2.2) d ⟨hf.2.1, hf.2.2.1⟩) kn kxx
/-- inherited: the pool names a class below -/
theorem ri_callU (C : kx_C G l p e R s m args below meth c cc own nL ret nm hh) {x : MethodName} {owner Cn : String} (hm : kx_mi y b L r na) (hyx : y = ⟨owner, x.name, x.desc⟩) (how : owner ≠ "java/lang/invoke/MethodHandle" ∧ owner ≠ "java/lang/invoke/VarHandle" ∧ (parseMethodDescriptor x.desc).map (fun d => d.parameters.length) = some na)
    (hl : Cond.methodLink own index x ∈ lw_all) (hsm : Cond.sameMethod x.cls owner x.name x.desc ∈ lw_all) (hs : Cond.selects Cn x y ∈ lw_all) (d : decode cc pc = .ok (.invokevirtual index, 3))
    (hM : kx_SP l G y (ws_ y b L r) f mc ms (.ref a :: As) σ P X) (hst : st0 = As.reverse ++ .ref a :: rest) (hn : As.length = na) (hrc : kx_Rc G s σ a Cn) (hf : kx_fit R f L mc ms k n rest)
    (kn : ∀ v τ, P v τ → kx_V G l p e R s m args below meth c nL Q (pc + 3) lv (kx_vl v rest) τ (k + mc) (n + ms)) (kxx : ∀ E q τ, X E q τ → kx_X G l p e R s m args below meth c nL Q pc lv rest τ (k + mc) (n + ms) E q) : kx_V G l p e R s m args below meth c nL Q pc lv st0 σ k n := by
  subst hst
  obtain ⟨h1, h2, h3, h4, h5, h6⟩ := hm
  have hG : GoodIn lw_all (va_wsU own index Cn owner x y (ws_ y b L r)) := by
    unfold va_wsU
    exact kx_gi (List.forall_mem_cons.mpr ⟨hl, List.forall_mem_cons.mpr ⟨hsm, List.forall_mem_cons.mpr ⟨hs, List.forall_mem_cons.mpr ⟨h1, List.forall_mem_cons.mpr ⟨h2, fun _ h => absurd h List.not_mem_nil⟩⟩⟩⟩⟩) (lw_meth h3)
  exact kx_ofRun (fun H locs ls hw hS hl' => vx_runU (C := Cn) (owner := owner) (As := As) (rest := rest) ⟨C.hx, C.hb, C.ml, C.ow, C.ts⟩ hM (va_cwU na C.ts hG rfl rfl rfl hyx how hf.1)
    ⟨kx_Wd.blind, hrc H locs hw hS, kx_Wd.to C hw hS _⟩ rfl hn hl'.1 rfl (lv_room hf.2.2.2) d ⟨hf.2.1, hf.2.2.1⟩) kn kxx
/-- abstract where the pool names it -/
theorem ri_callA (C : kx_C G l p e R s m args below meth c cc own nL ret nm hh) {x : MethodName} {owner Cn : String} (hm : kx_mi y b L r na) (how : owner ≠ "java/lang/invoke/MethodHandle" ∧ owner ≠ "java/lang/invoke/VarHandle" ∧ (parseMethodDescriptor x.desc).map (fun d => d.parameters.length) = some na)
    (hl : Cond.methodLink own index x ∈ lw_all) (hsm : Cond.sameMethod x.cls owner x.name x.desc ∈ lw_all) (hdc : Cond.declares ⟨owner, x.name, x.desc⟩ ∈ lw_tbl) (hs : Cond.selects Cn x y ∈ lw_all) (d : decode cc pc = .ok (.invokevirtual index, 3))
    (hM : kx_SP l G y (ws_ y b L r) f mc ms (.ref a :: As) σ P X) (hst : st0 = As.reverse ++ .ref a :: rest) (hn : As.length = na) (hrc : kx_Rc G s σ a Cn) (hf : kx_fit R f L mc ms k n rest)
    (kn : ∀ v τ, P v τ → kx_V G l p e R s m args below meth c nL Q (pc + 3) lv (kx_vl v rest) τ (k + mc) (n + ms)) (kxx : ∀ E q τ, X E q τ → kx_X G l p e R s m args below meth c nL Q pc lv rest τ (k + mc) (n + ms) E q) : kx_V G l p e R s m args below meth c nL Q pc lv st0 σ k n := by
  subst hst
  obtain ⟨h1, h2, h3, h4, h5, h6⟩ := hm
  have hG : GoodIn lw_all (va_wsU own index Cn owner x y (ws_ y b L r)) := by
    unfold va_wsU
    exact kx_gi (List.forall_mem_cons.mpr ⟨hl, List.forall_mem_cons.mpr ⟨hsm, List.forall_mem_cons.mpr ⟨hs, List.forall_mem_cons.mpr ⟨h1, List.forall_mem_cons.mpr ⟨h2, fun _ h => absurd h List.not_mem_nil⟩⟩⟩⟩⟩) (lw_meth h3)
  exact kx_ofRun (fun H locs ls hw hS hl' => vx_runU (C := Cn) (owner := owner) (As := As) (rest := rest) ⟨C.hx, C.hb, C.ml, C.ow, C.ts⟩ hM (va_cwA na C.ts hG rfl rfl rfl (C.st.nw hdc rfl) how hf.1)
    ⟨kx_Wd.blind, hrc H locs hw hS, kx_Wd.to C hw hS _⟩ rfl hn hl'.1 rfl (lv_room hf.2.2.2) d ⟨hf.2.1, hf.2.2.1⟩) kn kxx
/-- super.m(..) -/
theorem ri_callSU (C : kx_C G l p e R s m args below meth c cc own nL ret nm hh) {Cn : String} {nn : Nat} (hm : kx_mi y b L r na) (hnm : y.name ≠ "<init>") (hin : Cond.instantiable Cn nn ∈ lw_all) (hl : Cond.methodLink own index y ∈ lw_all) (hsm : Cond.sameMethod y.cls y.cls y.name y.desc ∈ lw_all) (hsup : Cond.superclass own y.cls ∈ lw_all) (d : decode cc pc = .ok (.invokespecial index, 3))
    (hM : kx_SP l G y (ws_ y b L r) f mc ms (.ref a :: As) σ P X) (hst : st0 = As.reverse ++ .ref a :: rest) (hn : As.length = na) (hrc : kx_Rc G s σ a Cn) (hf : kx_fit R f L mc ms k n rest)
    (kn : ∀ v τ, P v τ → kx_V G l p e R s m args below meth c nL Q (pc + 3) lv (kx_vl v rest) τ (k + mc) (n + ms)) (kxx : ∀ E q τ, X E q τ → kx_X G l p e R s m args below meth c nL Q pc lv rest τ (k + mc) (n + ms) E q) : kx_V G l p e R s m args below meth c nL Q pc lv st0 σ k n := by
  subst hst
  obtain ⟨h1, h2, h3, h4, h5, h6⟩ := hm
  obtain ⟨cC, hat⟩ := classAt_of (C.ts _ hin)
  have hG : GoodIn lw_all (va_wsSU own index y (ws_ y b L r)) := by
    unfold va_wsSU
    exact kx_gi (List.forall_mem_cons.mpr ⟨hl, List.forall_mem_cons.mpr ⟨hsm, List.forall_mem_cons.mpr ⟨hsup, List.forall_mem_cons.mpr ⟨h1, List.forall_mem_cons.mpr ⟨h2, fun _ h => absurd h List.not_mem_nil⟩⟩⟩⟩⟩) (lw_meth h3)
  exact kx_ofRun (fun H locs ls hw hS hl' => vx_runSU (As := As) (rest := rest) hat ⟨C.hx, C.hb, C.ml, C.ow, C.ts⟩ hM (va_cwSU na C.ts hG rfl rfl rfl ⟨hnm, h6⟩ hf.1)
    ⟨kx_Wd.blind, hrc H locs hw hS, kx_Wd.to C hw hS _⟩ rfl hn hl'.1 rfl (lv_room hf.2.2.2) d ⟨hf.2.1, hf.2.2.1⟩) kn kxx
theorem kx_ofRun5 {st0 : List Value} {mc ms : Nat} {P : Option Value → kx_H → Prop} {X : String → Nat → kx_H → Prop} {av : Array Value}
    (hr : ∀ (H : Heap) (locs : List Loc) (ls : Array Slot), kx_wo G σ H → va_S (kx_A G) s.heap H locs → lv_has ls nL lv → vx_Run5 p l e R s m args below meth c H locs k n mc ms (F0 m pc ls st0) rest (kx_Qc G P av) (kx_XC G X) (kx_A G))
    (kn : ∀ v τ, P v τ → kx_V G l p e R s m args below meth c nL Q (pc + 5) lv (kx_vl v rest) τ (k + mc) (n + ms)) (kxx : ∀ E q τ, X E q τ → kx_X G l p e R s m args below meth c nL Q pc lv rest τ (k + mc) (n + ms) E q) : kx_V G l p e R s m args below meth c nL Q pc lv st0 σ k n := by
  intro H locs ls hw hS hl T hT Y
  rcases hr H locs ls hw hS hl T hT Y with ⟨v, st₀, t, T', L, h0, X', hL, e1, e2, ⟨⟨v', τ, hv, hp, hwo⟩, hF⟩, st⟩ | ⟨q, st₀, t, T', L, E, ce, h0, X', hL, e1, e2, ⟨⟨τ, hxp, hwo⟩, hF⟩, hce, hcv, hcl, st⟩
  · cases hv
    obtain ⟨-, -, k3⟩ := vx_keep h0 e1 hS (fun q _ h => h) (fun q h => h) hL hF
    obtain ⟨t2, a1, b1⟩ := kn v τ hp T'.heap (locs ++ L) ls (by rw [e1]; exact hwo) k3 hl T' rfl X'
    refine ⟨t2, st t2 ?_, b1⟩
    rw [kx_vl_eq]
    exact a1
  · obtain ⟨-, -, k3⟩ := vx_keep h0 e1 hS (fun q _ h => h) (fun q h => h) hL hF
    obtain ⟨t2, a1, b1⟩ := kxx E q τ hxp T'.heap (locs ++ L) ls ce (by rw [e1]; exact hwo) k3 hl (by rw [e1]; exact hce) hcv hcl T' rfl X'
    exact ⟨t2, st.trans a1, b1⟩
/-- through an interface -/
theorem ri_callF (C : kx_C G l p e R s m args below meth c cc own nL ret nm hh) {x : MethodName} {Cn : String} {count : Nat} (hm : kx_mi y b L r na) (hfw : kx_fwOk Cn x y) (hpd : (parseMethodDescriptor x.desc).map (fun d => d.parameters.length) = some na) (hl : Cond.methodLink own index x ∈ lw_all) (hs : Cond.selects Cn x y ∈ lw_all) (d : decode cc pc = .ok (.invokeinterface index count, 5))
    (hM : kx_SP l G y (ws_ y b L r) f mc ms (.ref a :: As) σ P X) (hst : st0 = As.reverse ++ .ref a :: rest) (hn : As.length = na) (hrc : kx_Rc G s σ a Cn) (hf : kx_fit R f L mc ms k n rest)
    (kn : ∀ v τ, P v τ → kx_V G l p e R s m args below meth c nL Q (pc + 5) lv (kx_vl v rest) τ (k + mc) (n + ms)) (kxx : ∀ E q τ, X E q τ → kx_X G l p e R s m args below meth c nL Q pc lv rest τ (k + mc) (n + ms) E q) : kx_V G l p e R s m args below meth c nL Q pc lv st0 σ k n := by
  subst hst
  obtain ⟨h1, h2, h3, h4, h5, h6⟩ := hm
  have hF : va_Fw Cn x y s := C.st.2.2.2.2.2.2.2.1 (Cn, x, y) hfw
  have hG : GoodIn lw_all (va_wsF own index Cn x y (ws_ y b L r)) := by
    unfold va_wsF
    exact kx_gi (List.forall_mem_cons.mpr ⟨hl, List.forall_mem_cons.mpr ⟨hs, List.forall_mem_cons.mpr ⟨h1, List.forall_mem_cons.mpr ⟨h2, fun _ h => absurd h List.not_mem_nil⟩⟩⟩⟩) (lw_meth h3)
  refine kx_ofRun5 (av := (Value.ref a :: As).toArray) (fun H locs ls hw hS hl' => ?_) kn kxx
  have cw := va_cwF (s := s) (args := args) (R := R) (mc := mc) (ms := ms) (rm := kx_rm f mc ms) na C.ts hG rfl rfl rfl hF ⟨hfw.2.2.2.2.2.1, hfw.2.2.2.2.2.2, hpd⟩ hf.1
  obtain ⟨hrcc, hrs, hfr, hlo, hws, hcw⟩ := cw.back
  have hini := cw.init
  have hK : vx_Back l R p e below s args y 5 8 (PreOf R mc ms (va_Pc (.ref a :: As) (kx_Wd G σ))) (PostOf (kx_Qc G P) mc ms (kx_A G)) (vx_Post (kx_XC G X) mc ms (kx_A G)) := vx_back (bytes := b) (maxL := L) (ret := r) hM kx_Wd.blind hrcc hrs hfr hlo hws hcw (fun a' U hW => word_at hW (Or.inl (by first | rfl | simp [Cond.onTables, Cond.keeps, Cond.steady])) hini)
  obtain ⟨cellB, hcB, hoB, hclB⟩ := hrc H locs hw hS
  obtain ⟨kB, hkB, -⟩ := Vm.findClass_spec hclB
  have hPc := kx_Wd.to C hw hS (.ref a :: As)
  intro T hT Y
  rcases vx_callIF Y C.hx (C := Cn) (bytes := b) (maxL := L) (ret := r) C.ow cw.link cw.decl cw.face cw.sel cw.inst cw.pub cw.unh cw.cast cw.code cw.notMH hK (by rw [hT]; exact hcB) hoB hclB hkB rfl (show ls.size = c.maxLocals by rw [C.ml]; exact hl'.1) (argsL := As) (rest := rest) (fun sig h => hn.trans (cw.len sig h)) rfl (lv_room hf.2.2.2) (by rw [C.hb]; exact d)
    (fun vm₁ hW₁ => ⟨hf.2.1, hf.2.2.1, hPc (T.setVm vm₁) hT hW₁⟩) with ⟨v, vm₁, ⟨U', l2, c2, s2⟩, hW₁, X', ⟨g', mk, t, L9, e1, e2, hq, g1, hL, g2, g3⟩, st⟩ | ⟨q, vm₁, ⟨U', l2, c2, s2⟩, hW₁, X', ⟨g', mk, t, L9, E, ce, e1, e2, hq, hce, hcv, hcl, g1, hL, g2, g3⟩, st⟩
  · dsimp only [Pt.U, Pt.locs, Pt.cells, Pt.slots] at X' e1 e2 g1 g2 g3 st
    subst g1; subst g2; subst g3
    exact Or.inl ⟨v, (T.setVm vm₁).calling g' mk (Value.ref a :: As).toArray, t, U', L9, hT, X', hL, e1, e2, hq, st⟩
  · dsimp only [Pt.U, Pt.locs, Pt.cells, Pt.slots] at X' e1 e2 g1 g2 g3 st hcl
    subst g1; subst g2; subst g3
    exact Or.inr ⟨q, (T.setVm vm₁).calling g' mk (Value.ref a :: As).toArray, t, U', L9, E, ce, hT, X', hL, e1, e2, hq, hce, hcv, vx_cls hW₁ hcl, st⟩
end CALLS2
section CALLD
variable {G : kx_G} {l : Launch} {p : Program} {e : Env} {R : Room} {s : State} {m : MethodId} {args : Array Value} {below : List Frame} {meth : Method} {c : Code} {cc : ByteArray} {own : String} {nL : Nat} {ret : Option FieldType} {nm : String} {hh : List (Nat × Nat × Nat × Nat)} {Q : State → Prop} {pc : Nat} {lv : List (Nat × Value)} {rest : List Value} {σ : kx_H} {k n : Nat}
variable {y : MethodName} {b : ByteArray} {L na f mc ms index a : Nat} {r : Option FieldType} {As st0 : List Value} {P : Option Value → kx_H → Prop}
/-- a default, called on a class below its interface -/
theorem ri_callD (C : kx_C G l p e R s m args below meth c cc own nL ret nm hh) {x : MethodName} {owner Cn : String} (hm : kx_mi y b L r na) (hld : (Cn, x, y) ∈ kx_ld) (hl : Cond.methodLink own index x ∈ kx_dw) (hsm : Cond.sameMethod x.cls owner x.name x.desc ∈ kx_dw) (hdc : Cond.declares ⟨owner, x.name, x.desc⟩ ∈ lw_tbl)
    (how : owner ≠ "java/lang/invoke/MethodHandle" ∧ owner ≠ "java/lang/invoke/VarHandle" ∧ (parseMethodDescriptor x.desc).map (fun d => d.parameters.length) = some na) (d : decode cc pc = .ok (.invokevirtual index, 3))
    (hM : kx_SP l G y (ws_ y b L r) f mc ms (.ref a :: As) σ P kx_nx) (hst : st0 = As.reverse ++ .ref a :: rest) (hn : As.length = na) (hrc : kx_Rc G s σ a Cn) (hf : kx_fit R f L mc ms k n rest)
    (kn : ∀ v τ, P v τ → kx_V G l p e R s m args below meth c nL Q (pc + 3) lv (kx_vl v rest) τ (k + mc) (n + ms)) : kx_V G l p e R s m args below meth c nL Q pc lv st0 σ k n := by
  subst hst
  obtain ⟨h1, h2, h3, h4, h5, h6⟩ := hm
  have hK : Back l R p e below s args y 3 8 (PreOf R mc ms (va_Pc (.ref a :: As) (kx_Wd G σ))) (PostOf (kx_Qc G P) mc ms (kx_A G)) :=
    back_of (bytes := b) (maxL := L) (ret := r) (kx_met hM) kx_Wd.blind rfl rfl hf.1.1 hf.1.2 (pay_in C.ts (lw_meth h3)) (by unfold ws_; exact List.mem_cons_self) (fun a' U hW => word_at hW (Or.inl (by first | rfl | simp [Cond.onTables, Cond.keeps, Cond.steady])) (C.ts _ h2))
  have hdw : ∀ w, w ∈ kx_dw → w.before args s = true := fun w hw => by
    have h := C.st.2.2.2.2.2.2.2.2.2.1 w hw
    have hg := good_of_word (List.mem_filter.mp hw).2
    exact word_at (State.WarmedH.refl s) hg h
  have hldb : (Cond.landsInDefault Cn x y).before args s = true := C.st.2.2.2.2.2.2.2.2.2.2.1.1 (Cn, x, y) hld
  have hdcb : (Cond.declares ⟨owner, x.name, x.desc⟩).before args s = true := va_Nw.use rfl (C.st.nw hdc rfl)
  refine kx_ofRun (X := kx_nx) (av := (Value.ref a :: As).toArray) (fun H locs ls hw hS hl' T hT Y => Or.inl ?_) kn (fun E q τ hx => hx.elim)
  obtain ⟨cellB, hcB, hoB, hclB⟩ := hrc H locs hw hS
  have hPc := kx_Wd.to C hw hS (.ref a :: As)
  have hlen : ∀ sig, parseMethodDescriptor x.desc = some sig → As.length = sig.parameters.length := fun sig h => by
    have h9 := how.2.2
    rw [h] at h9
    exact hn.trans (Option.some.inj h9).symm
  obtain ⟨v, vm₁, ⟨U', l2, c2, s2⟩, hW₁, X', ⟨g', mk, t, L9, e1, e2, hq, g1, hL, g2, g3⟩, st⟩ := Y.virtualBackUpD C.hx (owner := owner) C.ow (hdw _ hl) (hdw _ hsm) hdcb ⟨how.1, how.2.1⟩ hldb (C.ts _ h1) hK hclB ⟨cellB, by rw [hT]; exact hcB, rfl, hoB⟩
    (g := F0 m pc ls (As.reverse ++ .ref a :: rest)) rfl (show ls.size = c.maxLocals by rw [C.ml]; exact hl'.1) (Steps.refl _) (argsL := As) (rest := rest) hlen rfl (lv_room hf.2.2.2) (by rw [C.hb]; exact d) (fun vm₁ hW₁ => ⟨hf.2.1, hf.2.2.1, hPc (T.setVm vm₁) hT hW₁⟩)
  dsimp only [Pt.U, Pt.locs, Pt.cells, Pt.slots] at X' e1 e2 g1 g2 g3 st
  subst g1; subst g2; subst g3
  exact ⟨v, (T.setVm vm₁).calling g' mk (Value.ref a :: As).toArray, t, U', L9, hT, X', hL, e1, e2, hq, fun _ h => st.trans h⟩
/-- a default, called through its own interface -/
theorem ri_callFD (C : kx_C G l p e R s m args below meth c cc own nL ret nm hh) {x : MethodName} {Cn : String} {count : Nat} (hm : kx_mi y b L r na) (hld : (Cn, x, y) ∈ kx_ld) (hl : Cond.methodLink own index x ∈ lw_all) (hfw : kx_fwOk Cn x y)
    (how : (parseMethodDescriptor x.desc).map (fun d => d.parameters.length) = some na) (d : decode cc pc = .ok (.invokeinterface index count, 5))
    (hM : kx_SP l G y (ws_ y b L r) f mc ms (.ref a :: As) σ P kx_nx) (hst : st0 = As.reverse ++ .ref a :: rest) (hn : As.length = na) (hrc : kx_Rc G s σ a Cn) (hf : kx_fit R f L mc ms k n rest)
    (kn : ∀ v τ, P v τ → kx_V G l p e R s m args below meth c nL Q (pc + 5) lv (kx_vl v rest) τ (k + mc) (n + ms)) : kx_V G l p e R s m args below meth c nL Q pc lv st0 σ k n := by
  subst hst
  obtain ⟨h1, h2, h3, h4, h5, h6⟩ := hm
  have hK : Back l R p e below s args y 5 8 (PreOf R mc ms (va_Pc (.ref a :: As) (kx_Wd G σ))) (PostOf (kx_Qc G P) mc ms (kx_A G)) :=
    back_of (bytes := b) (maxL := L) (ret := r) (kx_met hM) kx_Wd.blind rfl rfl hf.1.1 hf.1.2 (pay_in C.ts (lw_meth h3)) (by unfold ws_; exact List.mem_cons_self) (fun a' U hW => word_at hW (Or.inl (by first | rfl | simp [Cond.onTables, Cond.keeps, Cond.steady])) (C.ts _ h2))
  have hldb : (Cond.landsInDefault Cn x y).before args s = true := C.st.2.2.2.2.2.2.2.2.2.2.1.1 (Cn, x, y) hld
  have hF : va_Fw Cn x y s := C.st.2.2.2.2.2.2.2.1 (Cn, x, y) hfw
  refine kx_ofRun5 (X := kx_nx) (av := (Value.ref a :: As).toArray) (fun H locs ls hw hS hl' T hT Y => Or.inl ?_) kn (fun E q τ hx => hx.elim)
  obtain ⟨cellB, hcB, hoB, hclB⟩ := hrc H locs hw hS
  obtain ⟨kB, hkB, -⟩ := Vm.findClass_spec hclB
  have hPc := kx_Wd.to C hw hS (.ref a :: As)
  have hlen : ∀ sig, parseMethodDescriptor x.desc = some sig → As.length = sig.parameters.length := fun sig h => by
    have h9 := how
    rw [h] at h9
    exact hn.trans (Option.some.inj h9).symm
  obtain ⟨v, vm₁, ⟨U', l2, c2, s2⟩, hW₁, X', ⟨g', mk, t, L9, e1, e2, hq, g1, hL, g2, g3⟩, st⟩ := Y.interfaceBackD C.hx C.ow (C.ts _ hl) (va_any rfl hF.1) (va_any rfl hF.2.1) hldb (C.ts _ h1) (va_any rfl hF.2.2.1) (va_any rfl hF.2.2.2.2) ⟨hfw.2.2.2.2.2.1, hfw.2.2.2.2.2.2⟩ hK hclB hkB ⟨cellB, by rw [hT]; exact hcB, rfl, hoB⟩
    (g := F0 m pc ls (As.reverse ++ .ref a :: rest)) rfl (show ls.size = c.maxLocals by rw [C.ml]; exact hl'.1) (Steps.refl _) (argsL := As) (rest := rest) hlen rfl (lv_room hf.2.2.2) (by rw [C.hb]; exact d) (fun vm₁ hW₁ => ⟨hf.2.1, hf.2.2.1, hPc (T.setVm vm₁) hT hW₁⟩)
  dsimp only [Pt.U, Pt.locs, Pt.cells, Pt.slots] at X' e1 e2 g1 g2 g3 st
  subst g1; subst g2; subst g3
  exact ⟨v, (T.setVm vm₁).calling g' mk (Value.ref a :: As).toArray, t, U', L9, hT, X', hL, e1, e2, hq, fun _ h => st.trans h⟩
end CALLD
