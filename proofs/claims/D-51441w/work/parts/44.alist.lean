/-! the JDK: lists in arrays -/
set_option maxRecDepth 100000
theorem kx_up_c2 {σ : kx_H} {t te : kx_T} {x y z : Nat × va_E} (h : te ≠ t) : kx_up (kx_up (kx_up σ t x) te y) t z = kx_up (kx_up σ te y) t z := by
  funext u
  by_cases c : u = t
  · subst c; rw [kx_up_s, kx_up_s]
  · rw [kx_up_o c, kx_up_o c]
    by_cases d : u = te
    · subst d; rw [kx_up_s, kx_up_s]
    · rw [kx_up_o d, kx_up_o d, kx_up_o c]
set_option maxHeartbeats 1000000 in
theorem mt_J0_init {l : Launch} {G : kx_G} (htr : l.stackTraces = false) {σ : kx_H} {a : Nat} : kx_SP l G yJ0_init (ws_ yJ0_init cJ0_init 1 none) 1 0 0 [.ref a] σ (fun v τ => v = none ∧ τ = σ) kx_nx := by
  refine kx_body htr (by decide +kernel) (own := "java/util/AbstractCollection") (nm := "<init>") rfl rfl (Nat.le_of_ble_eq_true rfl) ?_
  intro p e s m args below meth c Q C hQ
  first | refine ri_aload_n C dJ0_init_0 rfl ?_ | refine ri_aload_nQ C dJ0_init_0 rfl ?_ | refine ri_aload_nN C dJ0_init_0 rfl ?_
  refine ri_objInit C dJ0_init_1 q227 q205 q206 ⟨(Nat.le_of_ble_eq_true rfl), (Nat.le_of_ble_eq_true rfl)⟩ ?_
  exact ri_vret C hQ dJ0_init_4 (Nat.le_of_ble_eq_true rfl) (Nat.le_of_ble_eq_true rfl) ⟨rfl, rfl⟩
set_option maxHeartbeats 1000000 in
theorem mt_J1_init {l : Launch} {G : kx_G} (htr : l.stackTraces = false) {σ : kx_H} {t : kx_T} {a : Nat} {x y : Value} (h : σ t = some (a, .inr (14, [.int 0, x, y]))) : kx_SP l G yJ1_init (ws_ yJ1_init cJ1_init 1 none) 2 0 0 [.ref a] σ (fun v τ => v = none ∧ τ = σ) kx_nx := by
  refine kx_body htr (by decide +kernel) (own := "java/util/AbstractList") (nm := "<init>") rfl rfl (Nat.le_of_ble_eq_true rfl) ?_
  intro p e s m args below meth c Q C hQ
  first | refine ri_aload_n C dJ1_init_0 rfl ?_ | refine ri_aload_nQ C dJ1_init_0 rfl ?_ | refine ri_aload_nN C dJ1_init_0 rfl ?_
  refine ri_callI C km_J0_init q224 rfl dJ1_init_1 (mt_J0_init htr) rfl rfl ⟨⟨(Nat.le_of_ble_eq_true rfl), (Nat.le_of_ble_eq_true rfl)⟩, (Nat.le_of_ble_eq_true rfl), (Nat.le_of_ble_eq_true rfl), (Nat.le_of_ble_eq_true rfl)⟩ (fun v1 s1 h1 => ?_) (fun _ _ _ h => h.elim)
  obtain ⟨rfl, rfl⟩ := h1
  first | refine ri_aload_n C dJ1_init_4 rfl ?_ | refine ri_aload_nQ C dJ1_init_4 rfl ?_ | refine ri_aload_nN C dJ1_init_4 rfl ?_
  refine ri_iconst C dJ1_init_5 kc_i0 ?_
  refine ri_putf C dJ1_init_6 fd_q556_14 (fun h => nomatch h) (by first | assumption | (repeat (first | assumption | exact kx_rs (by assumption) | exact kx_ne2 (by omega) | exact kx_ne1 (by omega) | refine kx_ro (by assumption) ?_ ?_ | exact kx_rs rfl | refine kx_ro rfl ?_ ?_))) (Nat.le_of_ble_eq_true rfl) (by rfl) (by rfl) (by dsimp only [List.set] <;> rfl) (fun s6 e6 => ?_)
  exact ri_vret C hQ dJ1_init_9 (Nat.le_of_ble_eq_true rfl) (Nat.le_of_ble_eq_true rfl) ⟨rfl, by rw [e6]; exact kx_up_i h⟩
set_option maxHeartbeats 1000000 in
theorem mt_J2_init24 {l : Launch} {G : kx_G} (htr : l.stackTraces = false) {σ : kx_H} {t te : kx_T} {a : Nat} (hne : te ≠ t) (h : σ t = some (a, .inr (14, [.int 0, .null, .int 0]))) : kx_SP l G yJ2_init (ws_ yJ2_init cJ2_init 2 none) 3 1 24 [.ref a, .int (nI 24)] σ (fun v τ => v = none ∧ ∃ e, τ = kx_up (kx_up σ te (e, kx_aq G 24 (fun _ => none))) t (a, .inr (14, [.int 0, .ref e, .int 0])) ∧ ∀ u x, σ u = some x → x.1 ≠ e) kx_nx := by
  refine kx_body htr (by decide +kernel) (own := "java/util/ArrayList") (nm := "<init>") rfl rfl (Nat.le_of_ble_eq_true rfl) ?_
  intro p e s m args below meth c Q C hQ
  first | refine ri_aload_n C dJ2_init_0 rfl ?_ | refine ri_aload_nQ C dJ2_init_0 rfl ?_ | refine ri_aload_nN C dJ2_init_0 rfl ?_
  refine ri_callI C km_J1_init q221 rfl dJ2_init_1 (mt_J1_init htr h) rfl rfl ⟨⟨(Nat.le_of_ble_eq_true rfl), (Nat.le_of_ble_eq_true rfl)⟩, (Nat.le_of_ble_eq_true rfl), (Nat.le_of_ble_eq_true rfl), (Nat.le_of_ble_eq_true rfl)⟩ (fun v1 s1 h1 => ?_) (fun _ _ _ h => h.elim)
  obtain ⟨rfl, rfl⟩ := h1
  refine ri_iload_n C dJ2_init_4 rfl ?_
  refine ri_if_le C 19 dJ2_init_5 rfl (fun h5 => ?_) (fun h5 => ?_)
  · exact absurd h5 (by decide) --dead
  · first | refine ri_aload_n C dJ2_init_8 rfl ?_ | refine ri_aload_nQ C dJ2_init_8 rfl ?_ | refine ri_aload_nN C dJ2_init_8 rfl ?_
    refine ri_iload_n C dJ2_init_9 rfl ?_
    refine ri_newq C te (24) dJ2_init_10 q228 rfl (by decide) (Nat.le_of_ble_eq_true rfl) (Nat.le_of_ble_eq_true rfl) (fun q10 s10 e10 f10 => ?_)
    refine ri_putf C dJ2_init_13 fd_q552_14 (fun h => nomatch h) (kx_ro e10 h (fun q => hne q.symm)) (Nat.le_of_ble_eq_true rfl) (by rfl) (by rfl) (by dsimp only [List.set] <;> rfl) (fun s13 e13 => ?_)
    refine ri_goto C 60 dJ2_init_16 rfl ?_
    exact ri_vret C hQ dJ2_init_60 (Nat.le_of_ble_eq_true rfl) (Nat.le_of_ble_eq_true rfl) ⟨rfl, q10, by rw [e13, e10], f10⟩
set_option maxHeartbeats 1000000 in
theorem mt_J2_init30 {l : Launch} {G : kx_G} (htr : l.stackTraces = false) {σ : kx_H} {t te : kx_T} {a : Nat} (hne : te ≠ t) (h : σ t = some (a, .inr (14, [.int 0, .null, .int 0]))) : kx_SP l G yJ2_init (ws_ yJ2_init cJ2_init 2 none) 3 1 30 [.ref a, .int (nI 30)] σ (fun v τ => v = none ∧ ∃ e, τ = kx_up (kx_up σ te (e, kx_aq G 30 (fun _ => none))) t (a, .inr (14, [.int 0, .ref e, .int 0])) ∧ ∀ u x, σ u = some x → x.1 ≠ e) kx_nx := by
  refine kx_body htr (by decide +kernel) (own := "java/util/ArrayList") (nm := "<init>") rfl rfl (Nat.le_of_ble_eq_true rfl) ?_
  intro p e s m args below meth c Q C hQ
  first | refine ri_aload_n C dJ2_init_0 rfl ?_ | refine ri_aload_nQ C dJ2_init_0 rfl ?_ | refine ri_aload_nN C dJ2_init_0 rfl ?_
  refine ri_callI C km_J1_init q221 rfl dJ2_init_1 (mt_J1_init htr h) rfl rfl ⟨⟨(Nat.le_of_ble_eq_true rfl), (Nat.le_of_ble_eq_true rfl)⟩, (Nat.le_of_ble_eq_true rfl), (Nat.le_of_ble_eq_true rfl), (Nat.le_of_ble_eq_true rfl)⟩ (fun v1 s1 h1 => ?_) (fun _ _ _ h => h.elim)
  obtain ⟨rfl, rfl⟩ := h1
  refine ri_iload_n C dJ2_init_4 rfl ?_
  refine ri_if_le C 19 dJ2_init_5 rfl (fun h5 => ?_) (fun h5 => ?_)
  · exact absurd h5 (by decide) --dead
  · first | refine ri_aload_n C dJ2_init_8 rfl ?_ | refine ri_aload_nQ C dJ2_init_8 rfl ?_ | refine ri_aload_nN C dJ2_init_8 rfl ?_
    refine ri_iload_n C dJ2_init_9 rfl ?_
    refine ri_newq C te (30) dJ2_init_10 q228 rfl (by decide) (Nat.le_of_ble_eq_true rfl) (Nat.le_of_ble_eq_true rfl) (fun q10 s10 e10 f10 => ?_)
    refine ri_putf C dJ2_init_13 fd_q552_14 (fun h => nomatch h) (kx_ro e10 h (fun q => hne q.symm)) (Nat.le_of_ble_eq_true rfl) (by rfl) (by rfl) (by dsimp only [List.set] <;> rfl) (fun s13 e13 => ?_)
    refine ri_goto C 60 dJ2_init_16 rfl ?_
    exact ri_vret C hQ dJ2_init_60 (Nat.le_of_ble_eq_true rfl) (Nat.le_of_ble_eq_true rfl) ⟨rfl, q10, by rw [e13, e10], f10⟩
set_option maxHeartbeats 1000000 in
theorem mt_J2_size {l : Launch} {G : kx_G} (htr : l.stackTraces = false) {σ : kx_H} {t : kx_T} {a e n : Nat} {md : Int32} (h : σ t = some (a, .inr (14, [.int md, .ref e, .int (nI n)]))) : kx_SP l G yJ2_size (ws_ yJ2_size cJ2_size 1 (some .int)) 1 0 0 [.ref a] σ (fun v τ => v = some (.int (nI n)) ∧ τ = σ) kx_nx := by
  refine kx_body htr (by decide +kernel) (own := "java/util/ArrayList") (nm := "size") rfl rfl (Nat.le_of_ble_eq_true rfl) ?_
  intro p e s m args below meth c Q C hQ
  first | refine ri_aload_n C dJ2_size_0 rfl ?_ | refine ri_aload_nQ C dJ2_size_0 rfl ?_ | refine ri_aload_nN C dJ2_size_0 rfl ?_
  refine ri_getf C dJ2_size_1 fr_q555_14 (by first | assumption | (repeat (first | assumption | exact kx_rs (by assumption) | exact kx_ne2 (by omega) | exact kx_ne1 (by omega) | refine kx_ro (by assumption) ?_ ?_ | exact kx_rs rfl | refine kx_ro rfl ?_ ?_))) (by rfl) ?_
  exact ri_iret C hQ dJ2_size_4 rfl (Nat.le_of_ble_eq_true rfl) (Nat.le_of_ble_eq_true rfl) ⟨rfl, rfl⟩
set_option maxHeartbeats 1000000 in
theorem mt_J2_elementData {l : Launch} {G : kx_G} (htr : l.stackTraces = false) {σ : kx_H} {t : kx_T} {a e n : Nat} {md : Int32} (h : σ t = some (a, .inr (14, [.int md, .ref e, .int (nI n)]))) {te : kx_T} {cap : Nat} {f : Nat → Option Nat} (he : σ te = some (e, kx_aq G cap f)) {i x : Nat} (hi : i < cap ∧ cap < 2147483648) (hx : f i = some x) : kx_SP l G yJ2_elementData (ws_ yJ2_elementData cJ2_elementData 2 (some (.object "java/lang/Object"))) 1 0 0 [.ref a, .int (nI i)] σ (fun v τ => v = some (.ref x) ∧ τ = σ) kx_nx := by
  refine kx_body htr (by decide +kernel) (own := "java/util/ArrayList") (nm := "elementData") rfl rfl (Nat.le_of_ble_eq_true rfl) ?_
  intro p e s m args below meth c Q C hQ
  first | refine ri_aload_n C dJ2_elementData_0 rfl ?_ | refine ri_aload_nQ C dJ2_elementData_0 rfl ?_ | refine ri_aload_nN C dJ2_elementData_0 rfl ?_
  refine ri_getf C dJ2_elementData_1 fr_q552_14 (by first | assumption | (repeat (first | assumption | exact kx_rs (by assumption) | exact kx_ne2 (by omega) | exact kx_ne1 (by omega) | refine kx_ro (by assumption) ?_ ?_ | exact kx_rs rfl | refine kx_ro rfl ?_ ?_))) (by rfl) ?_
  refine ri_iload_n C dJ2_elementData_4 rfl ?_
  refine ri_aaload C dJ2_elementData_5 he rfl hi ?_
  rw [hx]
  exact ri_aret C hQ dJ2_elementData_6 (Or.inl ⟨_, rfl⟩) (Or.inr ⟨_, rfl⟩) (Nat.le_of_ble_eq_true rfl) (Nat.le_of_ble_eq_true rfl) ⟨rfl, rfl⟩
set_option maxHeartbeats 1000000 in
theorem mt_J23_checkIndex {l : Launch} {G : kx_G} (htr : l.stackTraces = false) {σ : kx_H} {i n : Nat} (hi : i < n ∧ n < 2147483648) : kx_SP l G yJ23_checkIndex (ws_ yJ23_checkIndex cJ23_checkIndex 2 (some .int)) 2 0 0 [.int (nI i), .int (nI n)] σ (fun v τ => v = some (.int (nI i)) ∧ τ = σ) kx_nx := by
  refine kx_body htr (by decide +kernel) (own := "java/util/Objects") (nm := "checkIndex") rfl rfl (Nat.le_of_ble_eq_true rfl) ?_
  intro p e s m args below meth c Q C hQ
  refine ri_iload_n C dJ23_checkIndex_0 rfl ?_
  refine ri_iload_n C dJ23_checkIndex_1 rfl ?_
  refine ri_aconst_null C dJ23_checkIndex_2 ?_
  refine ri_callS C km_J14_checkIndex q1161 dJ23_checkIndex_3 (mt_J14_checkIndex (f := none) htr hi) rfl rfl ⟨⟨(Nat.le_of_ble_eq_true rfl), (Nat.le_of_ble_eq_true rfl)⟩, (Nat.le_of_ble_eq_true rfl), (Nat.le_of_ble_eq_true rfl), (Nat.le_of_ble_eq_true rfl)⟩ (fun v3 s3 h3 => ?_) (fun _ _ _ h => h.elim)
  obtain ⟨rfl, rfl⟩ := h3
  exact ri_iret C hQ dJ23_checkIndex_6 rfl (Nat.le_of_ble_eq_true rfl) (Nat.le_of_ble_eq_true rfl) ⟨rfl, rfl⟩
set_option maxHeartbeats 1000000 in
theorem mt_J23_requireNonNull {l : Launch} {G : kx_G} (htr : l.stackTraces = false) {σ : kx_H} {x : Nat} : kx_SP l G yJ23_requireNonNull (ws_ yJ23_requireNonNull cJ23_requireNonNull 1 (some (.object "java/lang/Object"))) 1 0 0 [.ref x] σ (fun v τ => v = some (.ref x) ∧ τ = σ) kx_nx := by
  refine kx_body htr (by decide +kernel) (own := "java/util/Objects") (nm := "requireNonNull") rfl rfl (Nat.le_of_ble_eq_true rfl) ?_
  intro p e s m args below meth c Q C hQ
  first | refine ri_aload_n C dJ23_requireNonNull_0 rfl ?_ | refine ri_aload_nQ C dJ23_requireNonNull_0 rfl ?_ | refine ri_aload_nN C dJ23_requireNonNull_0 rfl ?_
  refine ri_ifnonnull C 12 dJ23_requireNonNull_1 rfl ?_
  first | refine ri_aload_n C dJ23_requireNonNull_12 rfl ?_ | refine ri_aload_nQ C dJ23_requireNonNull_12 rfl ?_ | refine ri_aload_nN C dJ23_requireNonNull_12 rfl ?_
  exact ri_aret C hQ dJ23_requireNonNull_13 (Or.inl ⟨_, rfl⟩) (Or.inr ⟨_, rfl⟩) (Nat.le_of_ble_eq_true rfl) (Nat.le_of_ble_eq_true rfl) ⟨rfl, rfl⟩
set_option maxHeartbeats 1000000 in
theorem mt_J2_get {l : Launch} {G : kx_G} (htr : l.stackTraces = false) {σ : kx_H} {t : kx_T} {a e n : Nat} {md : Int32} (h : σ t = some (a, .inr (14, [.int md, .ref e, .int (nI n)]))) {te : kx_T} {cap : Nat} {f : Nat → Option Nat} (he : σ te = some (e, kx_aq G cap f)) {i x : Nat} (hi : i < n ∧ n ≤ cap ∧ cap < 2147483648) (hx : f i = some x) : kx_SP l G yJ2_get (ws_ yJ2_get cJ2_get 2 (some (.object "java/lang/Object"))) 3 0 0 [.ref a, .int (nI i)] σ (fun v τ => v = some (.ref x) ∧ τ = σ) kx_nx := by
  refine kx_body htr (by decide +kernel) (own := "java/util/ArrayList") (nm := "get") rfl rfl (Nat.le_of_ble_eq_true rfl) ?_
  intro p e s m args below meth c Q C hQ
  refine ri_iload_n C dJ2_get_0 rfl ?_
  first | refine ri_aload_n C dJ2_get_1 rfl ?_ | refine ri_aload_nQ C dJ2_get_1 rfl ?_ | refine ri_aload_nN C dJ2_get_1 rfl ?_
  refine ri_getf C dJ2_get_2 fr_q555_14 (by first | assumption | (repeat (first | assumption | exact kx_rs (by assumption) | exact kx_ne2 (by omega) | exact kx_ne1 (by omega) | refine kx_ro (by assumption) ?_ ?_ | exact kx_rs rfl | refine kx_ro rfl ?_ ?_))) (by rfl) ?_
  refine ri_callS C km_J23_checkIndex q1158 dJ2_get_5 (mt_J23_checkIndex htr ⟨hi.1, by omega⟩) rfl rfl ⟨⟨(Nat.le_of_ble_eq_true rfl), (Nat.le_of_ble_eq_true rfl)⟩, (Nat.le_of_ble_eq_true rfl), (Nat.le_of_ble_eq_true rfl), (Nat.le_of_ble_eq_true rfl)⟩ (fun v5 s5 h5 => ?_) (fun _ _ _ h => h.elim)
  obtain ⟨rfl, rfl⟩ := h5
  refine ri_pop C dJ2_get_8 rfl ?_
  first | refine ri_aload_n C dJ2_get_9 rfl ?_ | refine ri_aload_nQ C dJ2_get_9 rfl ?_ | refine ri_aload_nN C dJ2_get_9 rfl ?_
  refine ri_iload_n C dJ2_get_10 rfl ?_
  refine ri_callV C km_J2_elementData q1164 q1166 dJ2_get_11 (mt_J2_elementData htr h he ⟨by omega, hi.2.2⟩ hx) rfl rfl (kx_rcN C (by first | assumption | (repeat (first | assumption | exact kx_rs (by assumption) | exact kx_ne2 (by omega) | exact kx_ne1 (by omega) | refine kx_ro (by assumption) ?_ ?_ | exact kx_rs rfl | refine kx_ro rfl ?_ ?_))) rfl) ⟨⟨(Nat.le_of_ble_eq_true rfl), (Nat.le_of_ble_eq_true rfl)⟩, (Nat.le_of_ble_eq_true rfl), (Nat.le_of_ble_eq_true rfl), (Nat.le_of_ble_eq_true rfl)⟩ (fun v11 s11 h11 => ?_) (fun _ _ _ h => h.elim)
  obtain ⟨rfl, rfl⟩ := h11
  exact ri_aret C hQ dJ2_get_14 (Or.inl ⟨_, rfl⟩) (Or.inr ⟨_, rfl⟩) (Nat.le_of_ble_eq_true rfl) (Nat.le_of_ble_eq_true rfl) ⟨rfl, rfl⟩
set_option maxHeartbeats 1000000 in
theorem mt_J2_add_2 {l : Launch} {G : kx_G} (htr : l.stackTraces = false) {σ : kx_H} {t : kx_T} {a e n : Nat} {md : Int32} (h : σ t = some (a, .inr (14, [.int md, .ref e, .int (nI n)]))) {te : kx_T} {cap : Nat} {f : Nat → Option Nat} (he : σ te = some (e, kx_aq G cap f)) {x ci : Nat} {r : vw_C} {u : kx_T} {fs : List Value} (hx : σ u = some (x, .inr (ci, fs))) (hcl : kx_cl[ci]? = some r) (hca : Cond.castable r.1 "java/lang/Object" ∈ lw_tbl) (hne : te ≠ t) (hn : n < cap ∧ cap < 2147483648) : kx_SP l G yJ2_add_2 (ws_ yJ2_add_2 cJ2_add_2 4 none) 2 0 0 [.ref a, .ref x, .ref e, .int (nI n)] σ (fun v τ => v = none ∧ τ = kx_up (kx_up σ te (e, kx_aq G cap (va_up f n (some x)))) t (a, .inr (14, [.int md, .ref e, .int (nI (n + 1))]))) kx_nx := by
  refine kx_body htr (by decide +kernel) (own := "java/util/ArrayList") (nm := "add") rfl rfl (Nat.le_of_ble_eq_true rfl) ?_
  intro p e s m args below meth c Q C hQ
  refine ri_iload_n C dJ2_add_2_0 rfl ?_
  first | refine ri_aload_n C dJ2_add_2_1 rfl ?_ | refine ri_aload_nQ C dJ2_add_2_1 rfl ?_ | refine ri_aload_nN C dJ2_add_2_1 rfl ?_
  refine ri_alen C (i := 3) dJ2_add_2_2 rfl he ?_
  first | refine ri_icmp_neN C 11 dJ2_add_2_3 rfl (by omega) (by omega) (fun h3 => ?_) (fun h3 => ?_) | refine ri_icmp_ne C 11 dJ2_add_2_3 rfl (fun h3 => ?_) (fun h3 => ?_)
  · first | refine ri_aload_n C dJ2_add_2_11 rfl ?_ | refine ri_aload_nQ C dJ2_add_2_11 rfl ?_ | refine ri_aload_nN C dJ2_add_2_11 rfl ?_
    refine ri_iload_n C dJ2_add_2_12 rfl ?_
    first | refine ri_aload_n C dJ2_add_2_13 rfl ?_ | refine ri_aload_nQ C dJ2_add_2_13 rfl ?_ | refine ri_aload_nN C dJ2_add_2_13 rfl ?_
    refine ri_aastore C dJ2_add_2_14 he hx hcl hca rfl ⟨hn.1, hn.2⟩ (fun s14 e14 => ?_)
    have h2 := kx_ro e14 h (fun q => hne q.symm)
    first | refine ri_aload_n C dJ2_add_2_15 rfl ?_ | refine ri_aload_nQ C dJ2_add_2_15 rfl ?_ | refine ri_aload_nN C dJ2_add_2_15 rfl ?_
    refine ri_iload_n C dJ2_add_2_16 rfl ?_
    refine ri_iconst C dJ2_add_2_17 kc_i1 ?_
    first | refine ri_iaddN C dJ2_add_2_18 ?_ | refine ri_iadd C dJ2_add_2_18 ?_
    refine ri_putf C dJ2_add_2_19 fd_q555_14 (fun h => nomatch h) h2 (Nat.le_of_ble_eq_true rfl) (by rfl) (by rfl) (by dsimp only [List.set] <;> rfl) (fun s19 e19 => ?_)
    exact ri_vret C hQ dJ2_add_2_22 (Nat.le_of_ble_eq_true rfl) (Nat.le_of_ble_eq_true rfl) ⟨rfl, by rw [e19, e14]⟩
  · exact absurd h3 (by show ¬ n = cap; omega) --dead
set_option maxHeartbeats 1000000 in
theorem mt_J2_add {l : Launch} {G : kx_G} (htr : l.stackTraces = false) {σ : kx_H} {t : kx_T} {a e n : Nat} {md : Int32} (h : σ t = some (a, .inr (14, [.int md, .ref e, .int (nI n)]))) {te : kx_T} {cap : Nat} {f : Nat → Option Nat} (he : σ te = some (e, kx_aq G cap f)) {x ci : Nat} {r : vw_C} {u : kx_T} {fs : List Value} (hx : σ u = some (x, .inr (ci, fs))) (hcl : kx_cl[ci]? = some r) (hca : Cond.castable r.1 "java/lang/Object" ∈ lw_tbl) (hne : te ≠ t) (hnu : u ≠ t) (hn : n < cap ∧ cap < 2147483648) : kx_SP l G yJ2_add (ws_ yJ2_add cJ2_add 2 (some .boolean)) 3 0 0 [.ref a, .ref x] σ (fun v τ => v = some (.int (nI 1)) ∧ τ = kx_up (kx_up σ te (e, kx_aq G cap (va_up f n (some x)))) t (a, .inr (14, [.int (md + nI 1), .ref e, .int (nI (n + 1))]))) kx_nx := by
  refine kx_body htr (by decide +kernel) (own := "java/util/ArrayList") (nm := "add") rfl rfl (Nat.le_of_ble_eq_true rfl) ?_
  intro p e s m args below meth c Q C hQ
  first | refine ri_aload_n C dJ2_add_0 rfl ?_ | refine ri_aload_nQ C dJ2_add_0 rfl ?_ | refine ri_aload_nN C dJ2_add_0 rfl ?_
  refine ri_dup C dJ2_add_1 rfl ?_
  refine ri_getf C dJ2_add_2 fr_q559_14 (by first | assumption | (repeat (first | assumption | exact kx_rs (by assumption) | exact kx_ne2 (by omega) | exact kx_ne1 (by omega) | refine kx_ro (by assumption) ?_ ?_ | exact kx_rs rfl | refine kx_ro rfl ?_ ?_))) (by rfl) ?_
  refine ri_iconst C dJ2_add_5 kc_i1 ?_
  first | refine ri_iaddN C dJ2_add_6 ?_ | refine ri_iadd C dJ2_add_6 ?_
  refine ri_putf C dJ2_add_7 fd_q559_14 (fun h => nomatch h) (by first | assumption | (repeat (first | assumption | exact kx_rs (by assumption) | exact kx_ne2 (by omega) | exact kx_ne1 (by omega) | refine kx_ro (by assumption) ?_ ?_ | exact kx_rs rfl | refine kx_ro rfl ?_ ?_))) (Nat.le_of_ble_eq_true rfl) (by rfl) (by rfl) (by dsimp only [List.set] <;> rfl) (fun s7 e7 => ?_)
  have h2 := kx_rs e7
  have he2 := kx_ro e7 he hne
  have hx2 := kx_ro e7 hx hnu
  first | refine ri_aload_n C dJ2_add_10 rfl ?_ | refine ri_aload_nQ C dJ2_add_10 rfl ?_ | refine ri_aload_nN C dJ2_add_10 rfl ?_
  first | refine ri_aload_n C dJ2_add_11 rfl ?_ | refine ri_aload_nQ C dJ2_add_11 rfl ?_ | refine ri_aload_nN C dJ2_add_11 rfl ?_
  first | refine ri_aload_n C dJ2_add_12 rfl ?_ | refine ri_aload_nQ C dJ2_add_12 rfl ?_ | refine ri_aload_nN C dJ2_add_12 rfl ?_
  refine ri_getf C dJ2_add_13 fr_q552_14 h2 (by rfl) ?_
  first | refine ri_aload_n C dJ2_add_16 rfl ?_ | refine ri_aload_nQ C dJ2_add_16 rfl ?_ | refine ri_aload_nN C dJ2_add_16 rfl ?_
  refine ri_getf C dJ2_add_17 fr_q555_14 h2 (by rfl) ?_
  refine ri_callV C km_J2_add_2 q754 qs2 dJ2_add_20 (mt_J2_add_2 htr h2 he2 hx2 hcl hca hne hn) rfl rfl (kx_rcN C h2 rfl) ⟨⟨(Nat.le_of_ble_eq_true rfl), (Nat.le_of_ble_eq_true rfl)⟩, (Nat.le_of_ble_eq_true rfl), (Nat.le_of_ble_eq_true rfl), (Nat.le_of_ble_eq_true rfl)⟩ (fun v20 s20 h20 => ?_) (fun _ _ _ h => h.elim)
  obtain ⟨rfl, e20⟩ := h20
  refine ri_iconst C dJ2_add_23 kc_i1 ?_
  exact ri_iret C hQ dJ2_add_24 rfl (Nat.le_of_ble_eq_true rfl) (Nat.le_of_ble_eq_true rfl) ⟨rfl, by rw [e20, e7]; exact kx_up_c2 hne⟩
set_option maxHeartbeats 1000000 in
theorem mt_J31_init {l : Launch} {G : kx_G} (htr : l.stackTraces = false) {σ : kx_H} {t : kx_T} {a e n : Nat} {md : Int32} (h : σ t = some (a, .inr (14, [.int md, .ref e, .int (nI n)]))) {ti : kx_T} {q : Nat} (hne : ti ≠ t) (hq : σ ti = some (q, .inr (21, [.int 0, .int 0, .int 0, .null]))) : kx_SP l G yJ31_init (ws_ yJ31_init cJ31_init 2 none) 1 0 0 [.ref q, .ref a] σ (fun v τ => v = none ∧ τ = kx_up σ ti (q, .inr (21, [.int 0, .int (-1), .int md, .ref a]))) kx_nx := by
  refine kx_body htr (by decide +kernel) (own := "java/util/ArrayList$Itr") (nm := "<init>") rfl rfl (Nat.le_of_ble_eq_true rfl) ?_
  intro p e s m args below meth c Q C hQ
  first | refine ri_aload_n C dJ31_init_0 rfl ?_ | refine ri_aload_nQ C dJ31_init_0 rfl ?_ | refine ri_aload_nN C dJ31_init_0 rfl ?_
  first | refine ri_aload_n C dJ31_init_1 rfl ?_ | refine ri_aload_nQ C dJ31_init_1 rfl ?_ | refine ri_aload_nN C dJ31_init_1 rfl ?_
  refine ri_putf C dJ31_init_2 fd_q2136_21 (fun _ => ⟨rfl, rfl⟩) (by first | assumption | (repeat (first | assumption | exact kx_rs (by assumption) | exact kx_ne2 (by omega) | exact kx_ne1 (by omega) | refine kx_ro (by assumption) ?_ ?_ | exact kx_rs rfl | refine kx_ro rfl ?_ ?_))) (Nat.le_of_ble_eq_true rfl) (by rfl) (by rfl) (by dsimp only [List.set] <;> rfl) (fun s2 e2 => ?_)
  have q2 := kx_rs e2
  first | refine ri_aload_n C dJ31_init_5 rfl ?_ | refine ri_aload_nQ C dJ31_init_5 rfl ?_ | refine ri_aload_nN C dJ31_init_5 rfl ?_
  refine ri_objInit C dJ31_init_6 q2132 q205 q206 ⟨(Nat.le_of_ble_eq_true rfl), (Nat.le_of_ble_eq_true rfl)⟩ ?_
  first | refine ri_aload_n C dJ31_init_9 rfl ?_ | refine ri_aload_nQ C dJ31_init_9 rfl ?_ | refine ri_aload_nN C dJ31_init_9 rfl ?_
  refine ri_iconst C dJ31_init_10 kc_im1 ?_
  refine ri_putf C dJ31_init_11 fd_q2134_21 (fun h => nomatch h) q2 (Nat.le_of_ble_eq_true rfl) (by rfl) (by rfl) (by dsimp only [List.set] <;> rfl) (fun s11 e11 => ?_)
  have q3 := kx_rs e11
  have h3 : s11 t = _ := kx_ro e11 (kx_ro e2 h (fun z => hne z.symm)) (fun z => hne z.symm)
  first | refine ri_aload_n C dJ31_init_14 rfl ?_ | refine ri_aload_nQ C dJ31_init_14 rfl ?_ | refine ri_aload_nN C dJ31_init_14 rfl ?_
  first | refine ri_aload_n C dJ31_init_15 rfl ?_ | refine ri_aload_nQ C dJ31_init_15 rfl ?_ | refine ri_aload_nN C dJ31_init_15 rfl ?_
  refine ri_getf C dJ31_init_16 fr_q2136_21 q3 (by rfl) ?_
  refine ri_getf C dJ31_init_19 fr_q557_14 h3 (by rfl) ?_
  refine ri_putf C dJ31_init_22 fd_q2135_21 (fun h => nomatch h) q3 (Nat.le_of_ble_eq_true rfl) (by rfl) (by rfl) (by dsimp only [List.set] <;> rfl) (fun s22 e22 => ?_)
  exact ri_vret C hQ dJ31_init_25 (Nat.le_of_ble_eq_true rfl) (Nat.le_of_ble_eq_true rfl) ⟨rfl, by rw [e22, e11, e2, kx_up_u, kx_up_u]⟩
set_option maxHeartbeats 1000000 in
theorem mt_J2_iterator {l : Launch} {G : kx_G} (htr : l.stackTraces = false) {σ : kx_H} {t : kx_T} {a e n : Nat} {md : Int32} (h : σ t = some (a, .inr (14, [.int md, .ref e, .int (nI n)]))) {ti : kx_T} (hne : ti ≠ t) : kx_SP l G yJ2_iterator (ws_ yJ2_iterator cJ2_iterator 1 (some (.object "java/util/Iterator"))) 2 1 4 [.ref a] σ (fun v τ => ∃ q, v = some (.ref q) ∧ τ = kx_up σ ti (q, .inr (21, [.int 0, .int (-1), .int md, .ref a])) ∧ ∀ u x, σ u = some x → x.1 ≠ q) kx_nx := by
  refine kx_body htr (by decide +kernel) (own := "java/util/ArrayList") (nm := "iterator") rfl rfl (Nat.le_of_ble_eq_true rfl) ?_
  intro p e s m args below meth c Q C hQ
  refine ri_new C ti dJ2_iterator_0 kn_q2127 (Nat.le_of_ble_eq_true rfl) (Nat.le_of_ble_eq_true rfl) (fun q0 s0 e0 f0 => ?_)
  refine ri_dup C dJ2_iterator_3 rfl ?_
  first | refine ri_aload_n C dJ2_iterator_4 rfl ?_ | refine ri_aload_nQ C dJ2_iterator_4 rfl ?_ | refine ri_aload_nN C dJ2_iterator_4 rfl ?_
  refine ri_callI C km_J31_init q2129 rfl dJ2_iterator_5 (mt_J31_init htr (kx_ro e0 h (fun z => hne z.symm)) hne (kx_rs e0)) rfl rfl ⟨⟨(Nat.le_of_ble_eq_true rfl), (Nat.le_of_ble_eq_true rfl)⟩, (Nat.le_of_ble_eq_true rfl), (Nat.le_of_ble_eq_true rfl), (Nat.le_of_ble_eq_true rfl)⟩ (fun v5 s5 h5 => ?_) (fun _ _ _ h => h.elim)
  obtain ⟨rfl, e5⟩ := h5
  exact ri_aret C hQ dJ2_iterator_8 (Or.inl ⟨_, rfl⟩) (Or.inr ⟨_, rfl⟩) (Nat.le_of_ble_eq_true rfl) (Nat.le_of_ble_eq_true rfl) ⟨q0, rfl, by rw [e5, e0, kx_up_u], f0⟩
set_option maxHeartbeats 1000000 in
theorem mt_J31_hasNext {l : Launch} {G : kx_G} (htr : l.stackTraces = false) {σ : kx_H} {t : kx_T} {a e n : Nat} {md : Int32} (h : σ t = some (a, .inr (14, [.int md, .ref e, .int (nI n)]))) {ti : kx_T} {q c_ : Nat} {lr : Int32} (hq : σ ti = some (q, .inr (21, [.int (nI c_), .int lr, .int md, .ref a]))) (hn : n < 2147483648 ∧ c_ < 2147483648) : kx_SP l G yJ31_hasNext (ws_ yJ31_hasNext cJ31_hasNext 1 (some .boolean)) 1 0 0 [.ref q] σ (fun v τ => v = some (.int (kx_b (!decide (c_ = n)))) ∧ τ = σ) kx_nx := by
  refine kx_body htr (by decide +kernel) (own := "java/util/ArrayList$Itr") (nm := "hasNext") rfl rfl (Nat.le_of_ble_eq_true rfl) ?_
  intro p e s m args below meth c Q C hQ
  first | refine ri_aload_n C dJ31_hasNext_0 rfl ?_ | refine ri_aload_nQ C dJ31_hasNext_0 rfl ?_ | refine ri_aload_nN C dJ31_hasNext_0 rfl ?_
  refine ri_getf C dJ31_hasNext_1 fr_q2133_21 hq (by rfl) ?_
  first | refine ri_aload_n C dJ31_hasNext_4 rfl ?_ | refine ri_aload_nQ C dJ31_hasNext_4 rfl ?_ | refine ri_aload_nN C dJ31_hasNext_4 rfl ?_
  refine ri_getf C dJ31_hasNext_5 fr_q2136_21 hq (by rfl) ?_
  refine ri_getf C dJ31_hasNext_8 fr_q554_14 h (by rfl) ?_
  first | refine ri_icmp_eqN C 18 dJ31_hasNext_11 rfl (by omega) (by omega) (fun h11 => ?_) (fun h11 => ?_) | refine ri_icmp_eq C 18 dJ31_hasNext_11 rfl (fun h11 => ?_) (fun h11 => ?_)
  · refine ri_iconst C dJ31_hasNext_18 kc_i0 ?_
    exact ri_iret C hQ dJ31_hasNext_19 rfl (Nat.le_of_ble_eq_true rfl) (Nat.le_of_ble_eq_true rfl) (by refine ⟨congrArg (fun z => some (Value.int z)) ?_, rfl⟩; first | exact kx_b_t (by first | (rw [decide_eq_true h11]; rfl) | (rw [decide_eq_false h11]; rfl)) | exact kx_b_f (by first | (rw [decide_eq_true h11]; rfl) | (rw [decide_eq_false h11]; rfl)))
  · refine ri_iconst C dJ31_hasNext_14 kc_i1 ?_
    refine ri_goto C 19 dJ31_hasNext_15 rfl ?_
    exact ri_iret C hQ dJ31_hasNext_19 rfl (Nat.le_of_ble_eq_true rfl) (Nat.le_of_ble_eq_true rfl) (by refine ⟨congrArg (fun z => some (Value.int z)) ?_, rfl⟩; first | exact kx_b_t (by first | (rw [decide_eq_true h11]; rfl) | (rw [decide_eq_false h11]; rfl)) | exact kx_b_f (by first | (rw [decide_eq_true h11]; rfl) | (rw [decide_eq_false h11]; rfl)))
set_option maxHeartbeats 1000000 in
theorem mt_J31_checkForComodification {l : Launch} {G : kx_G} (htr : l.stackTraces = false) {σ : kx_H} {t : kx_T} {a e n : Nat} {md : Int32} (h : σ t = some (a, .inr (14, [.int md, .ref e, .int (nI n)]))) {ti : kx_T} {q c_ : Nat} {lr : Int32} (hq : σ ti = some (q, .inr (21, [.int (nI c_), .int lr, .int md, .ref a]))) : kx_SP l G yJ31_checkForComodification (ws_ yJ31_checkForComodification cJ31_checkForComodification 1 none) 1 0 0 [.ref q] σ (fun v τ => v = none ∧ τ = σ) kx_nx := by
  refine kx_body htr (by decide +kernel) (own := "java/util/ArrayList$Itr") (nm := "checkForComodification") rfl rfl (Nat.le_of_ble_eq_true rfl) ?_
  intro p e s m args below meth c Q C hQ
  first | refine ri_aload_n C dJ31_checkForComodification_0 rfl ?_ | refine ri_aload_nQ C dJ31_checkForComodification_0 rfl ?_ | refine ri_aload_nN C dJ31_checkForComodification_0 rfl ?_
  refine ri_getf C dJ31_checkForComodification_1 fr_q2136_21 hq (by rfl) ?_
  refine ri_getf C dJ31_checkForComodification_4 fr_q557_14 h (by rfl) ?_
  first | refine ri_aload_n C dJ31_checkForComodification_7 rfl ?_ | refine ri_aload_nQ C dJ31_checkForComodification_7 rfl ?_ | refine ri_aload_nN C dJ31_checkForComodification_7 rfl ?_
  refine ri_getf C dJ31_checkForComodification_8 fr_q2135_21 hq (by rfl) ?_
  refine ri_icmp_eq C 22 dJ31_checkForComodification_11 rfl (fun h11 => ?_) (fun h11 => ?_)
  · exact ri_vret C hQ dJ31_checkForComodification_22 (Nat.le_of_ble_eq_true rfl) (Nat.le_of_ble_eq_true rfl) ⟨rfl, rfl⟩
  · exact absurd rfl h11 --dead
set_option maxHeartbeats 1000000 in
theorem mt_J31_next {l : Launch} {G : kx_G} (htr : l.stackTraces = false) {σ : kx_H} {t : kx_T} {a e n : Nat} {md : Int32} (h : σ t = some (a, .inr (14, [.int md, .ref e, .int (nI n)]))) {te : kx_T} {cap : Nat} {f : Nat → Option Nat} (he : σ te = some (e, kx_aq G cap f)) {ti : kx_T} {q c_ : Nat} {lr : Int32} (hq : σ ti = some (q, .inr (21, [.int (nI c_), .int lr, .int md, .ref a]))) {x : Nat} (hni : ti ≠ te) (hc : c_ < n ∧ n ≤ cap ∧ cap < 2147483648) (hx : f c_ = some x) : kx_SP l G yJ31_next (ws_ yJ31_next cJ31_next 3 (some (.object "java/lang/Object"))) 3 0 0 [.ref q] σ (fun v τ => v = some (.ref x) ∧ τ = kx_up σ ti (q, .inr (21, [.int (nI (c_ + 1)), .int (nI c_), .int md, .ref a]))) kx_nx := by
  refine kx_body htr (by decide +kernel) (own := "java/util/ArrayList$Itr") (nm := "next") rfl rfl (Nat.le_of_ble_eq_true rfl) ?_
  intro p e s m args below meth c Q C hQ
  first | refine ri_aload_n C dJ31_next_0 rfl ?_ | refine ri_aload_nQ C dJ31_next_0 rfl ?_ | refine ri_aload_nN C dJ31_next_0 rfl ?_
  refine ri_callV C km_J31_checkForComodification q2312 q2314 dJ31_next_1 (mt_J31_checkForComodification htr h hq) rfl rfl (kx_rcN C hq rfl) ⟨⟨(Nat.le_of_ble_eq_true rfl), (Nat.le_of_ble_eq_true rfl)⟩, (Nat.le_of_ble_eq_true rfl), (Nat.le_of_ble_eq_true rfl), (Nat.le_of_ble_eq_true rfl)⟩ (fun v1 s1 h1 => ?_) (fun _ _ _ h => h.elim)
  obtain ⟨rfl, rfl⟩ := h1
  first | refine ri_aload_n C dJ31_next_4 rfl ?_ | refine ri_aload_nQ C dJ31_next_4 rfl ?_ | refine ri_aload_nN C dJ31_next_4 rfl ?_
  refine ri_getf C dJ31_next_5 fr_q2133_21 hq (by rfl) ?_
  refine ri_istore_n C dJ31_next_8 rfl (by decide) ?_
  refine ri_iload_n C dJ31_next_9 rfl ?_
  first | refine ri_aload_n C dJ31_next_10 rfl ?_ | refine ri_aload_nQ C dJ31_next_10 rfl ?_ | refine ri_aload_nN C dJ31_next_10 rfl ?_
  refine ri_getf C dJ31_next_11 fr_q2136_21 hq (by rfl) ?_
  refine ri_getf C dJ31_next_14 fr_q554_14 h (by rfl) ?_
  first | refine ri_icmp_ltN C 28 dJ31_next_17 rfl (by omega) (by omega) (fun h17 => ?_) (fun h17 => ?_) | refine ri_icmp_lt C 28 dJ31_next_17 rfl (fun h17 => ?_) (fun h17 => ?_)
  · first | refine ri_aload_n C dJ31_next_28 rfl ?_ | refine ri_aload_nQ C dJ31_next_28 rfl ?_ | refine ri_aload_nN C dJ31_next_28 rfl ?_
    refine ri_getf C dJ31_next_29 fr_q2136_21 hq (by rfl) ?_
    refine ri_getf C dJ31_next_32 fr_q553_14 h (by rfl) ?_
    first | refine ri_astore_n C dJ31_next_35 rfl (by decide) ?_ | refine ri_astore_nQ C dJ31_next_35 rfl (by decide) ?_ | refine ri_astore_nN C dJ31_next_35 rfl (by decide) ?_
    refine ri_iload_n C dJ31_next_36 rfl ?_
    first | refine ri_aload_n C dJ31_next_37 rfl ?_ | refine ri_aload_nQ C dJ31_next_37 rfl ?_ | refine ri_aload_nN C dJ31_next_37 rfl ?_
    refine ri_alen C (i := 3) dJ31_next_38 rfl he ?_
    first | refine ri_icmp_ltN C 50 dJ31_next_39 rfl (by omega) (by omega) (fun h39 => ?_) (fun h39 => ?_) | refine ri_icmp_lt C 50 dJ31_next_39 rfl (fun h39 => ?_) (fun h39 => ?_)
    · first | refine ri_aload_n C dJ31_next_50 rfl ?_ | refine ri_aload_nQ C dJ31_next_50 rfl ?_ | refine ri_aload_nN C dJ31_next_50 rfl ?_
      refine ri_iload_n C dJ31_next_51 rfl ?_
      refine ri_iconst C dJ31_next_52 kc_i1 ?_
      first | refine ri_iaddN C dJ31_next_53 ?_ | refine ri_iadd C dJ31_next_53 ?_
      refine ri_putf C dJ31_next_54 fd_q2133_21 (fun h => nomatch h) hq (Nat.le_of_ble_eq_true rfl) (by rfl) (by rfl) (by dsimp only [List.set] <;> rfl) (fun s54 e54 => ?_)
      have q4 := kx_rs e54
      first | refine ri_aload_n C dJ31_next_57 rfl ?_ | refine ri_aload_nQ C dJ31_next_57 rfl ?_ | refine ri_aload_nN C dJ31_next_57 rfl ?_
      first | refine ri_aload_n C dJ31_next_58 rfl ?_ | refine ri_aload_nQ C dJ31_next_58 rfl ?_ | refine ri_aload_nN C dJ31_next_58 rfl ?_
      refine ri_iload_n C dJ31_next_59 rfl ?_
      refine ri_dup_x1 C dJ31_next_60 rfl rfl ?_
      refine ri_putf C dJ31_next_61 fd_q2134_21 (fun h => nomatch h) q4 (Nat.le_of_ble_eq_true rfl) (by rfl) (by rfl) (by dsimp only [List.set] <;> rfl) (fun s61 e61 => ?_)
      refine ri_aaload C dJ31_next_64 (kx_ro e61 (kx_ro e54 he (fun z => hni z.symm)) (fun z => hni z.symm)) rfl ⟨by omega, by omega⟩ ?_
      rw [hx]
      exact ri_aret C hQ dJ31_next_65 (Or.inl ⟨_, rfl⟩) (Or.inr ⟨_, rfl⟩) (Nat.le_of_ble_eq_true rfl) (Nat.le_of_ble_eq_true rfl) ⟨rfl, by rw [e61, e54, kx_up_u]⟩
    · exact absurd (show c_ < cap by omega) h39 --dead
  · exact absurd hc.1 h17 --dead
