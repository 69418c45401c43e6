/-! the JDK: boxes of ints -/
set_option maxRecDepth 100000
/-- the Integer at a holds x: a made one, of the colour c, or one of the cache's -/
def kx_ig (G : kx_G) (σ : kx_H) (c a x : Nat) : Prop := σ (c, 100 + a) = some (a, .inr (17, [.int (nI x)])) ∨ ∃ k, k < 256 ∧ a = G.2.2.2 (100 + k) ∧ vb_c k = nI x
def kx_cmpN (x y : Nat) : Int32 := if x < y then -1 else if x = y then nI 0 else nI 1
section
variable {G : kx_G} {l : Launch} {p : Program} {e : Env} {R : Room} {s : State} {m : MethodId} {args : Array Value} {below : List Frame} {meth : Method} {c : Code} {cc : ByteArray} {own : String} {nL : Nat} {ret : Option FieldType} {nm : String} {hh : List (Nat × Nat × Nat × Nat)} {Q : State → Prop} {pc : Nat} {lv : List (Nat × Value)} {rest : List Value} {σ : kx_H} {k n : Nat}
theorem ri_ival (C : kx_C G l p e R s m args below meth c cc own nL ret nm hh) {index a x ct : Nat} {ty : FieldType} {ne : Bool} (d : decode cc pc = .ok (.getfield index, 3)) (hg : kx_ig G σ ct a x) (hF : kx_Fr' own index 17 0 ty ne) (hlink : Cond.fieldLink own index "java/lang/Integer" "value" "I" ∈ lw_all)
    (kk : kx_V G l p e R s m args below meth c nL Q (pc + 3) lv (.int (nI x) :: rest) σ k n) : kx_V G l p e R s m args below meth c nL Q pc lv (.ref a :: rest) σ k n := by
  rcases hg with h | ⟨i, h1, rfl, h2⟩
  · exact ri_getf C d hF h rfl kk
  · exact ri_getfO C d (C.st.2.2.2.2.1.2 i h1) hlink (by dsimp only; rw [h2]; exact kk)
theorem kx_rcI (C : kx_C G l p e R s m args below meth c cc own nL ret nm hh) {a x ct : Nat} (hg : kx_ig G σ ct a x) : kx_Rc G s σ a "java/lang/Integer" := by
  rcases hg with h | ⟨i, h1, rfl, h2⟩
  · exact kx_rcN C h rfl
  · exact kx_rcO (C.st.2.2.2.2.1.1 i h1)
theorem ri_tq (C : kx_C G l p e R s m args below meth c cc own nL ret nm hh) {a N j : Nat} {f : Nat → Value} {E : String} {i : Int32} (d : decode cc pc = .ok (.aaload, 1)) (hT : va_T (.object E) a N f (kx_A G) s s.heap) (hi : i = nI j) (hj : j < N ∧ N < 2147483648)
    (kk : kx_V G l p e R s m args below meth c nL Q (pc + 1) lv (f j :: rest) σ k n) : kx_V G l p e R s m args below meth c nL Q pc lv (.int i :: .ref a :: rest) σ k n := by
  intro H locs ls hw hS hl
  obtain ⟨h1, h2⟩ := kx_in hi hj
  exact vb_tq C.hx C.hb hT hS h1 (by rw [h2]) d (kk H locs ls hw hS hl)
/-- the new object's tag tells its address -/
theorem ri_newF (C : kx_C G l p e R s m args below meth c cc own nL ret nm hh) {index ci N : Nat} {fs : List Value} (t : Nat → kx_T) (d : decode cc pc = .ok (.new index, 3)) (hN : kx_Nk own index ci N fs) (hk : k + 1 ≤ R.cells) (hn : n + N ≤ R.slots)
    (kk : ∀ (q : Nat) (τ : kx_H), τ = kx_up σ (t q) (q, .inr (ci, fs)) → (∀ u x, σ u = some x → x.1 ≠ q) → kx_V G l p e R s m args below meth c nL Q (pc + 3) lv (.ref q :: rest) τ (k + 1) (n + N)) : kx_V G l p e R s m args below meth c nL Q pc lv rest σ k n := by
  intro H locs ls hw hS hl
  obtain ⟨Cn, T, ty0, hc, hin, hty, h1, h2, h3, h4⟩ := hN
  obtain ⟨⟨ws, hP, hD, hm⟩, hu⟩ := hw
  refine va_new C.hx C.hb C.ts hin ty0 hty C.ow (C.ts _ h1) (C.ts _ h2) (C.ts _ h3) C.hK hP hD hS C.hA hc h4 hk hn d fun q H1 hP1 hD1 hS1 => ?_
  obtain ⟨g1, g2⟩ := kx_wo.push (t := t q) hm hu hP1 hD1
  exact kk q _ rfl g2 H1 locs ls g1 hS1 hl
theorem ri_acmp_neR (C : kx_C G l p e R s m args below meth c cc own nL ret nm hh) {x y : Nat} {off : Int} (tgt : Nat) (d : decode cc pc = .ok (.if_acmp .ne off, 3)) (ht : (pc : Int) + off = (tgt : Int)) (kt : x ≠ y → kx_V G l p e R s m args below meth c nL Q tgt lv rest σ k n) (kf : x = y → kx_V G l p e R s m args below meth c nL Q (pc + 3) lv rest σ k n) : kx_V G l p e R s m args below meth c nL Q pc lv (.ref y :: .ref x :: rest) σ k n :=
  ri_acmp_neQ (rx := some x) (ry := some y) C tgt d ht (fun q => kt (fun e => q (by rw [e]))) (fun q => kf (Option.some.inj q))
theorem ri_acmp_eqR (C : kx_C G l p e R s m args below meth c cc own nL ret nm hh) {x y : Nat} {off : Int} (tgt : Nat) (d : decode cc pc = .ok (.if_acmp .eq off, 3)) (ht : (pc : Int) + off = (tgt : Int)) (kt : x = y → kx_V G l p e R s m args below meth c nL Q tgt lv rest σ k n) (kf : x ≠ y → kx_V G l p e R s m args below meth c nL Q (pc + 3) lv rest σ k n) : kx_V G l p e R s m args below meth c nL Q pc lv (.ref y :: .ref x :: rest) σ k n :=
  ri_acmp_eqQ (rx := some x) (ry := some y) C tgt d ht (fun q => kt (Option.some.inj q)) (fun q => kf (fun e => q (by rw [e])))
theorem ri_acmp_neL (C : kx_C G l p e R s m args below meth c cc own nL ret nm hh) {x : Option Nat} {y : Nat} {off : Int} (tgt : Nat) (d : decode cc pc = .ok (.if_acmp .ne off, 3)) (ht : (pc : Int) + off = (tgt : Int)) (kt : x ≠ some y → kx_V G l p e R s m args below meth c nL Q tgt lv rest σ k n) (kf : x = some y → kx_V G l p e R s m args below meth c nL Q (pc + 3) lv rest σ k n) : kx_V G l p e R s m args below meth c nL Q pc lv (.ref y :: va_rf x :: rest) σ k n :=
  ri_acmp_neQ (rx := x) (ry := some y) C tgt d ht kt kf
theorem ri_acmp_neS (C : kx_C G l p e R s m args below meth c cc own nL ret nm hh) {x : Nat} {y : Option Nat} {off : Int} (tgt : Nat) (d : decode cc pc = .ok (.if_acmp .ne off, 3)) (ht : (pc : Int) + off = (tgt : Int)) (kt : some x ≠ y → kx_V G l p e R s m args below meth c nL Q tgt lv rest σ k n) (kf : some x = y → kx_V G l p e R s m args below meth c nL Q (pc + 3) lv rest σ k n) : kx_V G l p e R s m args below meth c nL Q pc lv (va_rf y :: .ref x :: rest) σ k n :=
  ri_acmp_neQ (rx := some x) (ry := y) C tgt d ht kt kf
theorem ri_acmp_eqS (C : kx_C G l p e R s m args below meth c cc own nL ret nm hh) {x : Nat} {y : Option Nat} {off : Int} (tgt : Nat) (d : decode cc pc = .ok (.if_acmp .eq off, 3)) (ht : (pc : Int) + off = (tgt : Int)) (kt : some x = y → kx_V G l p e R s m args below meth c nL Q tgt lv rest σ k n) (kf : some x ≠ y → kx_V G l p e R s m args below meth c nL Q (pc + 3) lv rest σ k n) : kx_V G l p e R s m args below meth c nL Q pc lv (va_rf y :: .ref x :: rest) σ k n :=
  ri_acmp_eqQ (rx := some x) (ry := y) C tgt d ht kt kf
end
theorem kx_nrf {z : String} {x : Option Nat} : narrow (.object z) (va_rf x) = va_rf x := by cases x <;> rfl
theorem kx_frf {z : String} {x : Option Nat} : fits (.object z) (va_rf x) = true := by cases x <;> rfl
theorem kx_rvq {y : Option Nat} : va_rf y = .null ∨ ∃ a, va_rf y = .ref a := by
  cases y with
  | none => exact Or.inl rfl
  | some a => exact Or.inr ⟨a, rfl⟩
theorem vb_c_n {x : Nat} (h : x < 128) : vb_c (x + 128) = nI x := by
  unfold vb_c
  have e : Int32.ofNat (x + 128) = nI (x + 128) := rfl
  have g : (128 : Int32) = nI 128 := by decide
  rw [e, ← nI_add, g, Int32.add_sub_cancel]
set_option maxHeartbeats 1000000 in
theorem mt_J16_init {l : Launch} {G : kx_G} (htr : l.stackTraces = false) {σ : kx_H} {a : Nat} : kx_SP l G yJ16_init (ws_ yJ16_init cJ16_init 1 none) 1 0 0 [.ref a] σ (fun v τ => v = none ∧ τ = σ) kx_nx := by
  refine kx_body htr (by decide +kernel) (own := "java/lang/Number") (nm := "<init>") rfl rfl (Nat.le_of_ble_eq_true rfl) ?_
  intro p e s m args below meth c Q C hQ
  first | refine ri_aload_n C dJ16_init_0 rfl ?_ | refine ri_aload_nQ C dJ16_init_0 rfl ?_ | refine ri_aload_nN C dJ16_init_0 rfl ?_
  refine ri_objInit C dJ16_init_1 q842 q205 q206 ⟨(Nat.le_of_ble_eq_true rfl), (Nat.le_of_ble_eq_true rfl)⟩ ?_
  exact ri_vret C hQ dJ16_init_4 (Nat.le_of_ble_eq_true rfl) (Nat.le_of_ble_eq_true rfl) ⟨rfl, rfl⟩
set_option maxHeartbeats 1000000 in
theorem mt_J17_init {l : Launch} {G : kx_G} (htr : l.stackTraces = false) {σ : kx_H} {t : kx_T} {a x : Nat} (h : σ t = some (a, .inr (17, [.int 0]))) : kx_SP l G yJ17_init (ws_ yJ17_init cJ17_init 2 none) 2 0 0 [.ref a, .int (nI x)] σ (fun v τ => v = none ∧ τ = kx_up σ t (a, .inr (17, [.int (nI x)]))) kx_nx := by
  refine kx_body htr (by decide +kernel) (own := "java/lang/Integer") (nm := "<init>") rfl rfl (Nat.le_of_ble_eq_true rfl) ?_
  intro p e s m args below meth c Q C hQ
  first | refine ri_aload_n C dJ17_init_0 rfl ?_ | refine ri_aload_nQ C dJ17_init_0 rfl ?_ | refine ri_aload_nN C dJ17_init_0 rfl ?_
  refine ri_callI C km_J16_init q839 rfl dJ17_init_1 (mt_J16_init htr) rfl rfl ⟨⟨(Nat.le_of_ble_eq_true rfl), (Nat.le_of_ble_eq_true rfl)⟩, (Nat.le_of_ble_eq_true rfl), (Nat.le_of_ble_eq_true rfl), (Nat.le_of_ble_eq_true rfl)⟩ (fun v1 s1 h1 => ?_) (fun _ _ _ h => h.elim)
  obtain ⟨rfl, rfl⟩ := h1
  first | refine ri_aload_n C dJ17_init_4 rfl ?_ | refine ri_aload_nQ C dJ17_init_4 rfl ?_ | refine ri_aload_nN C dJ17_init_4 rfl ?_
  refine ri_iload_n C dJ17_init_5 rfl ?_
  refine ri_putf C dJ17_init_6 fd_q843_17 (fun _ => ⟨rfl, rfl⟩) (by first | assumption | (repeat (first | assumption | exact kx_rs (by assumption) | exact kx_ne2 (by omega) | exact kx_ne1 (by omega) | refine kx_ro (by assumption) ?_ ?_ | exact kx_rs rfl | refine kx_ro rfl ?_ ?_))) (Nat.le_of_ble_eq_true rfl) (by rfl) (by rfl) (by dsimp only [List.set] <;> rfl) (fun s6 e6 => ?_)
  exact ri_vret C hQ dJ17_init_9 (Nat.le_of_ble_eq_true rfl) (Nat.le_of_ble_eq_true rfl) ⟨rfl, e6⟩
set_option maxHeartbeats 1000000 in
theorem mt_J17_valueOf {l : Launch} {G : kx_G} (htr : l.stackTraces = false) {σ : kx_H} {x : Nat} (ct : Nat) (hx : x < 1000000) : kx_SP l G yJ17_valueOf (ws_ yJ17_valueOf cJ17_valueOf 1 (some (.object "java/lang/Integer"))) 3 1 1 [.int (nI x)] σ (fun v τ => ∃ q, v = some (.ref q) ∧ ((τ = σ ∧ ∃ k, k < 256 ∧ q = G.2.2.2 (100 + k) ∧ vb_c k = nI x) ∨ (τ = kx_up σ (ct, 100 + q) (q, .inr (17, [.int (nI x)])) ∧ ∀ u y, σ u = some y → y.1 ≠ q))) kx_nx := by
  refine kx_body htr (by decide +kernel) (own := "java/lang/Integer") (nm := "valueOf") rfl rfl (Nat.le_of_ble_eq_true rfl) ?_
  intro p e s m args below meth c Q C hQ
  refine ri_iload_n C dJ17_valueOf_0 rfl ?_
  refine ri_bipush C dJ17_valueOf_1 kc_bm128 ?_
  refine ri_icmp_lt C 23 dJ17_valueOf_3 rfl (fun h3 => ?_) (fun h3 => ?_)
  · exact absurd h3 (by have := nI_nn (k := x) (by omega); intro q; exact this (Int32.lt_trans q (by decide))) --dead
  · refine ri_iload_n C dJ17_valueOf_6 rfl ?_
    refine ri_gets C dJ17_valueOf_7 (List.mem_of_getElem? (i := 1) rfl) q830 ?_
    refine ri_icmp_gt C 23 dJ17_valueOf_10 rfl (fun h10 => ?_) (fun h10 => ?_)
    · refine ri_newF C (fun q => (ct, 100 + q)) dJ17_valueOf_23 kn_q834 (Nat.le_of_ble_eq_true rfl) (Nat.le_of_ble_eq_true rfl) (fun q23 s23 e23 f23 => ?_)
      refine ri_dup C dJ17_valueOf_26 rfl ?_
      refine ri_iload_n C dJ17_valueOf_27 rfl ?_
      refine ri_callI C km_J17_init q836 rfl dJ17_valueOf_28 (mt_J17_init htr (kx_rs e23)) rfl rfl ⟨⟨(Nat.le_of_ble_eq_true rfl), (Nat.le_of_ble_eq_true rfl)⟩, (Nat.le_of_ble_eq_true rfl), (Nat.le_of_ble_eq_true rfl), (Nat.le_of_ble_eq_true rfl)⟩ (fun v28 s28 h28 => ?_) (fun _ _ _ h => h.elim)
      obtain ⟨rfl, e28⟩ := h28
      exact ri_aret C hQ dJ17_valueOf_31 (Or.inl ⟨_, rfl⟩) (Or.inr ⟨_, rfl⟩) (Nat.le_of_ble_eq_true rfl) (Nat.le_of_ble_eq_true rfl) ⟨_, rfl, Or.inr ⟨by rw [e28, e23, kx_up_u], f23⟩⟩
    · have hx8 : x < 128 := (by have h9 : nI x ≤ 127 := Int32.not_lt.mp h10; have h8 := Int32.le_iff_toInt_le.mp h9; rw [nI_toInt (by omega)] at h8; have e : (127 : Int32).toInt = 127 := (by decide); omega)
      refine ri_gets C dJ17_valueOf_13 (List.mem_of_getElem? (i := 2) rfl) q832 ?_
      refine ri_iload_n C dJ17_valueOf_16 rfl ?_
      refine ri_sipush (v := nI 128) C dJ17_valueOf_17 (by decide) ?_
      first | refine ri_iaddN C dJ17_valueOf_20 ?_ | refine ri_iadd C dJ17_valueOf_20 ?_
      refine ri_tq C dJ17_valueOf_21 (C.st.2.2.1 _ (List.mem_of_getElem? (i := 3) rfl)) (j := x + 128) rfl ⟨show x + 128 < 256 by omega, show (256 : Nat) < 2147483648 by decide⟩ ?_
      exact ri_aret C hQ dJ17_valueOf_22 (Or.inl ⟨_, rfl⟩) (Or.inr ⟨_, rfl⟩) (Nat.le_of_ble_eq_true rfl) (Nat.le_of_ble_eq_true rfl) ⟨_, rfl, Or.inl ⟨rfl, x + 128, by omega, rfl, vb_c_n hx8⟩⟩
set_option maxHeartbeats 1000000 in
theorem mt_J17_compare {l : Launch} {G : kx_G} (htr : l.stackTraces = false) {σ : kx_H} {x y : Nat} (h : x < 2147483648 ∧ y < 2147483648) : kx_SP l G yJ17_compare (ws_ yJ17_compare cJ17_compare 2 (some .int)) 1 0 0 [.int (nI x), .int (nI y)] σ (fun v τ => v = some (.int (kx_cmpN x y)) ∧ τ = σ) kx_nx := by
  refine kx_body htr (by decide +kernel) (own := "java/lang/Integer") (nm := "compare") rfl rfl (Nat.le_of_ble_eq_true rfl) ?_
  intro p e s m args below meth c Q C hQ
  refine ri_iload_n C dJ17_compare_0 rfl ?_
  refine ri_iload_n C dJ17_compare_1 rfl ?_
  first | refine ri_icmp_geN C 9 dJ17_compare_2 rfl (by omega) (by omega) (fun h2 => ?_) (fun h2 => ?_) | refine ri_icmp_ge C 9 dJ17_compare_2 rfl (fun h2 => ?_) (fun h2 => ?_)
  · refine ri_iload_n C dJ17_compare_9 rfl ?_
    refine ri_iload_n C dJ17_compare_10 rfl ?_
    first | refine ri_icmp_neN C 18 dJ17_compare_11 rfl (by omega) (by omega) (fun h11 => ?_) (fun h11 => ?_) | refine ri_icmp_ne C 18 dJ17_compare_11 rfl (fun h11 => ?_) (fun h11 => ?_)
    · refine ri_iconst C dJ17_compare_18 kc_i1 ?_
      exact ri_iret C hQ dJ17_compare_19 rfl (Nat.le_of_ble_eq_true rfl) (Nat.le_of_ble_eq_true rfl) (by refine ⟨congrArg (fun z => some (Value.int z)) ?_, rfl⟩; unfold kx_cmpN; first | rw [if_pos (show x < y by omega)] | rw [if_neg (show ¬ x < y by omega), if_pos (show x = y by omega)] | rw [if_neg (show ¬ x < y by omega), if_neg (show ¬ x = y by omega)])
    · refine ri_iconst C dJ17_compare_14 kc_i0 ?_
      refine ri_goto C 19 dJ17_compare_15 rfl ?_
      exact ri_iret C hQ dJ17_compare_19 rfl (Nat.le_of_ble_eq_true rfl) (Nat.le_of_ble_eq_true rfl) (by refine ⟨congrArg (fun z => some (Value.int z)) ?_, rfl⟩; unfold kx_cmpN; first | rw [if_pos (show x < y by omega)] | rw [if_neg (show ¬ x < y by omega), if_pos (show x = y by omega)] | rw [if_neg (show ¬ x < y by omega), if_neg (show ¬ x = y by omega)])
  · refine ri_iconst C dJ17_compare_5 kc_im1 ?_
    refine ri_goto C 19 dJ17_compare_6 rfl ?_
    exact ri_iret C hQ dJ17_compare_19 rfl (Nat.le_of_ble_eq_true rfl) (Nat.le_of_ble_eq_true rfl) (by refine ⟨congrArg (fun z => some (Value.int z)) ?_, rfl⟩; unfold kx_cmpN; first | rw [if_pos (show x < y by omega)] | rw [if_neg (show ¬ x < y by omega), if_pos (show x = y by omega)] | rw [if_neg (show ¬ x < y by omega), if_neg (show ¬ x = y by omega)])
set_option maxHeartbeats 1000000 in
theorem mt_J17_compareTo_2 {l : Launch} {G : kx_G} (htr : l.stackTraces = false) {σ : kx_H} {a b x y ct ct2 : Nat} (ha : kx_ig G σ ct a x) (hb : kx_ig G σ ct2 b y) (h : x < 2147483648 ∧ y < 2147483648) : kx_SP l G yJ17_compareTo_2 (ws_ yJ17_compareTo_2 cJ17_compareTo_2 2 (some .int)) 2 0 0 [.ref a, .ref b] σ (fun v τ => v = some (.int (kx_cmpN x y)) ∧ τ = σ) kx_nx := by
  refine kx_body htr (by decide +kernel) (own := "java/lang/Integer") (nm := "compareTo") rfl rfl (Nat.le_of_ble_eq_true rfl) ?_
  intro p e s m args below meth c Q C hQ
  first | refine ri_aload_n C dJ17_compareTo_2_0 rfl ?_ | refine ri_aload_nQ C dJ17_compareTo_2_0 rfl ?_ | refine ri_aload_nN C dJ17_compareTo_2_0 rfl ?_
  refine ri_ival C dJ17_compareTo_2_1 ha fr_q843_17 q843 ?_
  first | refine ri_aload_n C dJ17_compareTo_2_4 rfl ?_ | refine ri_aload_nQ C dJ17_compareTo_2_4 rfl ?_ | refine ri_aload_nN C dJ17_compareTo_2_4 rfl ?_
  refine ri_ival C dJ17_compareTo_2_5 hb fr_q843_17 q843 ?_
  refine ri_callS C km_J17_compare q878 dJ17_compareTo_2_8 (mt_J17_compare htr h) rfl rfl ⟨⟨(Nat.le_of_ble_eq_true rfl), (Nat.le_of_ble_eq_true rfl)⟩, (Nat.le_of_ble_eq_true rfl), (Nat.le_of_ble_eq_true rfl), (Nat.le_of_ble_eq_true rfl)⟩ (fun v8 s8 h8 => ?_) (fun _ _ _ h => h.elim)
  obtain ⟨rfl, rfl⟩ := h8
  exact ri_iret C hQ dJ17_compareTo_2_11 rfl (Nat.le_of_ble_eq_true rfl) (Nat.le_of_ble_eq_true rfl) ⟨rfl, rfl⟩
set_option maxHeartbeats 1000000 in
theorem mt_J17_compareTo {l : Launch} {G : kx_G} (htr : l.stackTraces = false) {σ : kx_H} {a b x y ct ct2 : Nat} (ha : kx_ig G σ ct a x) (hb : kx_ig G σ ct2 b y) (h : x < 2147483648 ∧ y < 2147483648) : kx_SP l G yJ17_compareTo (ws_ yJ17_compareTo cJ17_compareTo 2 (some .int)) 3 0 0 [.ref a, .ref b] σ (fun v τ => v = some (.int (kx_cmpN x y)) ∧ τ = σ) kx_nx := by
  refine kx_body htr (by decide +kernel) (own := "java/lang/Integer") (nm := "compareTo") rfl rfl (Nat.le_of_ble_eq_true rfl) ?_
  intro p e s m args below meth c Q C hQ
  first | refine ri_aload_n C dJ17_compareTo_0 rfl ?_ | refine ri_aload_nQ C dJ17_compareTo_0 rfl ?_ | refine ri_aload_nN C dJ17_compareTo_0 rfl ?_
  first | refine ri_aload_n C dJ17_compareTo_1 rfl ?_ | refine ri_aload_nQ C dJ17_compareTo_1 rfl ?_ | refine ri_aload_nN C dJ17_compareTo_1 rfl ?_
  refine ri_castE C dJ17_compareTo_2 q834 (kx_rcI C hb) ?_
  refine ri_callV C km_J17_compareTo_2 q874 q876 dJ17_compareTo_5 (mt_J17_compareTo_2 htr ha hb h) rfl rfl (kx_rcI C ha) ⟨⟨(Nat.le_of_ble_eq_true rfl), (Nat.le_of_ble_eq_true rfl)⟩, (Nat.le_of_ble_eq_true rfl), (Nat.le_of_ble_eq_true rfl), (Nat.le_of_ble_eq_true rfl)⟩ (fun v5 s5 h5 => ?_) (fun _ _ _ h => h.elim)
  obtain ⟨rfl, rfl⟩ := h5
  exact ri_iret C hQ dJ17_compareTo_8 rfl (Nat.le_of_ble_eq_true rfl) (Nat.le_of_ble_eq_true rfl) ⟨rfl, rfl⟩
