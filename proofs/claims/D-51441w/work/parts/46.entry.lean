/-! the JDK: a TreeMap's entries; turning the tree -/
set_option maxRecDepth 100000
/-- the entry a of the colour c: its key's and value's addresses, its neighbours, its colour -/
abbrev tm_e (K V : Nat → Nat) (D : Nat → Int32) (a : Nat) (l r p : Option Nat) : va_E := .inr (19, [.ref (K a), .ref (V a), va_rf l, va_rf r, va_rf p, .int (D a)])
abbrev tm_M (σ : kx_H) (c : Nat) (K V : Nat → Nat) (D : Nat → Int32) : tt_M := fun a l r p => σ (c, 100 + a) = some (a, tm_e K V D a l r p)
abbrev tm_o (vals root : Option Nat) (sz : Nat) (md : Int32) : List Value := [.null, va_rf vals, .null, va_rf root, .int (nI sz), .int md, .null, .null, .null]
/-- the map at m of the colour c has the tree t -/
def tm_H (σ : kx_H) (c m : Nat) (t : tt_T) (K V : Nat → Nat) (D : Nat → Int32) (vals : Option Nat) (sz : Nat) (md : Int32) : Prop :=
  σ (c, 3) = some (m, .inr (18, tm_o vals (tt_r t) sz md)) ∧ tt_H (tm_M σ c K V D) t none ∧ (tt_i t).Nodup ∧ ∀ a, D a = nI 0 ∨ D a = nI 1
/-- what belongs to the map with the entries L -/
def tm_T (c : Nat) (L : List Nat) : kx_T → Prop := fun u => u = (c, 3) ∨ ∃ x, x ∈ L ∧ u = (c, 100 + x)
theorem tm_T_e {c x : Nat} {L : List Nat} (h : x ∈ L) : tm_T c L (c, 100 + x) := Or.inr ⟨x, h, rfl⟩
theorem tm_T_m {c : Nat} {L : List Nat} : tm_T c L (c, 3) := Or.inl rfl
theorem kx_Fr.up2 {T : kx_T → Prop} {σ τ ρ : kx_H} {t : kx_T} {x : Nat × va_E} (h : kx_Fr T σ τ) (e : ρ = kx_up τ t x) (ht : T t) : kx_Fr T σ ρ := by rw [e]; exact h.tr (kx_Fr.up ht)
theorem tm_x {c a b : Nat} (h : a ≠ b) : ((c, 100 + a) : kx_T) ≠ (c, 100 + b) := kx_ne2 (by omega)
/-- colours of all but one stay -/
def tm_c (D : Nat → Int32) (a : Nat) (z : Int32) : Nat → Int32 := fun b => if b = a then z else D b
theorem tm_c_i {D : Nat → Int32} {a : Nat} : tm_c D a (D a) = D := by
  funext b; unfold tm_c; split
  · rename_i h; rw [h]
  · rfl
theorem tm_c_01 {D : Nat → Int32} {a : Nat} {z : Int32} (h : ∀ a, D a = nI 0 ∨ D a = nI 1) (hz : z = nI 0 ∨ z = nI 1) : ∀ b, tm_c D a z b = nI 0 ∨ tm_c D a z b = nI 1 := fun b => by
  unfold tm_c; split
  · exact hz
  · exact h b
set_option maxHeartbeats 1000000 in
theorem mt_J18_init {l : Launch} {G : kx_G} (htr : l.stackTraces = false) {σ : kx_H} {a : Nat} : kx_SP l G yJ18_init (ws_ yJ18_init cJ18_init 1 none) 1 0 0 [.ref a] σ (fun v τ => v = none ∧ τ = σ) kx_nx := by
  refine kx_body htr (by decide +kernel) (own := "java/util/AbstractMap") (nm := "<init>") rfl rfl (Nat.le_of_ble_eq_true rfl) ?_
  intro p e s m args below meth c Q C hQ
  first | refine ri_aload_n C dJ18_init_0 rfl ?_ | refine ri_aload_nQ C dJ18_init_0 rfl ?_ | refine ri_aload_nN C dJ18_init_0 rfl ?_
  refine ri_objInit C dJ18_init_1 q575 q205 q206 ⟨(Nat.le_of_ble_eq_true rfl), (Nat.le_of_ble_eq_true rfl)⟩ ?_
  exact ri_vret C hQ dJ18_init_4 (Nat.le_of_ble_eq_true rfl) (Nat.le_of_ble_eq_true rfl) ⟨rfl, rfl⟩
set_option maxHeartbeats 1000000 in
theorem mt_J19_init {l : Launch} {G : kx_G} (htr : l.stackTraces = false) {σ : kx_H} {t : kx_T} {a : Nat} (h : σ t = some (a, .inr (18, [.null, .null, .null, .null, .int 0, .int 0, .null, .null, .null]))) : kx_SP l G yJ19_init (ws_ yJ19_init cJ19_init 1 none) 2 0 0 [.ref a] σ (fun v τ => v = none ∧ τ = σ) kx_nx := by
  refine kx_body htr (by decide +kernel) (own := "java/util/TreeMap") (nm := "<init>") rfl rfl (Nat.le_of_ble_eq_true rfl) ?_
  intro p e s m args below meth c Q C hQ
  first | refine ri_aload_n C dJ19_init_0 rfl ?_ | refine ri_aload_nQ C dJ19_init_0 rfl ?_ | refine ri_aload_nN C dJ19_init_0 rfl ?_
  refine ri_callI C km_J18_init q572 rfl dJ19_init_1 (mt_J18_init htr) rfl rfl ⟨⟨(Nat.le_of_ble_eq_true rfl), (Nat.le_of_ble_eq_true rfl)⟩, (Nat.le_of_ble_eq_true rfl), (Nat.le_of_ble_eq_true rfl), (Nat.le_of_ble_eq_true rfl)⟩ (fun v1 s1 h1 => ?_) (fun _ _ _ h => h.elim)
  obtain ⟨rfl, rfl⟩ := h1
  first | refine ri_aload_n C dJ19_init_4 rfl ?_ | refine ri_aload_nQ C dJ19_init_4 rfl ?_ | refine ri_aload_nN C dJ19_init_4 rfl ?_
  refine ri_iconst C dJ19_init_5 kc_i0 ?_
  refine ri_putf C dJ19_init_6 fd_q578_18 (fun h => nomatch h) (by first | assumption | (repeat (first | assumption | exact kx_rs (by assumption) | exact kx_ne2 (by omega) | exact kx_ne1 (by omega) | refine kx_ro (by assumption) ?_ ?_ | exact kx_rs rfl | refine kx_ro rfl ?_ ?_))) (Nat.le_of_ble_eq_true rfl) (by rfl) (by rfl) (by dsimp only [List.set] <;> rfl) (fun s6 e6 => ?_)
  have h2 := kx_rs e6
  first | refine ri_aload_n C dJ19_init_9 rfl ?_ | refine ri_aload_nQ C dJ19_init_9 rfl ?_ | refine ri_aload_nN C dJ19_init_9 rfl ?_
  refine ri_iconst C dJ19_init_10 kc_i0 ?_
  refine ri_putf C dJ19_init_11 fd_q579_18 (fun h => nomatch h) h2 (Nat.le_of_ble_eq_true rfl) (by rfl) (by rfl) (by dsimp only [List.set] <;> rfl) (fun s11 e11 => ?_)
  have h3 := kx_rs e11
  first | refine ri_aload_n C dJ19_init_14 rfl ?_ | refine ri_aload_nQ C dJ19_init_14 rfl ?_ | refine ri_aload_nN C dJ19_init_14 rfl ?_
  refine ri_aconst_null C dJ19_init_15 ?_
  refine ri_putf C dJ19_init_16 fd_q576_18 (fun _ => ⟨rfl, rfl⟩) h3 (Nat.le_of_ble_eq_true rfl) (by rfl) (by rfl) (by dsimp only [List.set] <;> rfl) (fun s16 e16 => ?_)
  exact ri_vret C hQ dJ19_init_19 (Nat.le_of_ble_eq_true rfl) (Nat.le_of_ble_eq_true rfl) ⟨rfl, by rw [e16, e11, e6, kx_up_u, kx_up_u]; exact kx_up_i h⟩
set_option maxHeartbeats 1000000 in
theorem mt_J19_parentOfN {l : Launch} {G : kx_G} (htr : l.stackTraces = false) {σ : kx_H}  : kx_SP l G yJ19_parentOf (ws_ yJ19_parentOf cJ19_parentOf 1 (some (.object "java/util/TreeMap$Entry"))) 1 0 0 [.null] σ (fun v τ => v = some .null ∧ τ = σ) kx_nx := by
  refine kx_body htr (by decide +kernel) (own := "java/util/TreeMap") (nm := "parentOf") rfl rfl (Nat.le_of_ble_eq_true rfl) ?_
  intro p e s m args below meth c Q C hQ
  first | refine ri_aload_n C dJ19_parentOf_0 rfl ?_ | refine ri_aload_nQ C dJ19_parentOf_0 rfl ?_ | refine ri_aload_nN C dJ19_parentOf_0 rfl ?_
  refine ri_ifnonnullN C dJ19_parentOf_1 ?_
  refine ri_aconst_null C dJ19_parentOf_4 ?_
  refine ri_goto C 12 dJ19_parentOf_5 rfl ?_
  exact ri_aret C hQ dJ19_parentOf_12 (Or.inl ⟨_, rfl⟩) (Or.inl rfl) (Nat.le_of_ble_eq_true rfl) (Nat.le_of_ble_eq_true rfl) ⟨rfl, rfl⟩
set_option maxHeartbeats 1000000 in
theorem mt_J19_parentOfR {l : Launch} {G : kx_G} (htr : l.stackTraces = false) {σ : kx_H} {a : Nat} {y : Option Nat} {t : kx_T} {k_ v_ l_ r_ c_ : Value} (h : σ t = some (a, .inr (19, [k_, v_, l_, r_, va_rf y, c_]))) : kx_SP l G yJ19_parentOf (ws_ yJ19_parentOf cJ19_parentOf 1 (some (.object "java/util/TreeMap$Entry"))) 1 0 0 [.ref a] σ (fun v τ => v = some (va_rf y) ∧ τ = σ) kx_nx := by
  refine kx_body htr (by decide +kernel) (own := "java/util/TreeMap") (nm := "parentOf") rfl rfl (Nat.le_of_ble_eq_true rfl) ?_
  intro p e s m args below meth c Q C hQ
  first | refine ri_aload_n C dJ19_parentOf_0 rfl ?_ | refine ri_aload_nQ C dJ19_parentOf_0 rfl ?_ | refine ri_aload_nN C dJ19_parentOf_0 rfl ?_
  refine ri_ifnonnull C 8 dJ19_parentOf_1 rfl ?_
  first | refine ri_aload_n C dJ19_parentOf_8 rfl ?_ | refine ri_aload_nQ C dJ19_parentOf_8 rfl ?_ | refine ri_aload_nN C dJ19_parentOf_8 rfl ?_
  refine ri_getf C dJ19_parentOf_9 fr_q1089_19 h (by rfl) ?_
  exact ri_aret C hQ dJ19_parentOf_12 (Or.inl ⟨_, rfl⟩) kx_rvq (Nat.le_of_ble_eq_true rfl) (Nat.le_of_ble_eq_true rfl) ⟨rfl, rfl⟩
theorem mt_J19_parentOf {l : Launch} {G : kx_G} (htr : l.stackTraces = false) {σ : kx_H} {x y : Option Nat} (hx : ∀ a, x = some a → ∃ t k_ v_ l_ r_ c_, σ t = some (a, .inr (19, [k_, v_, l_, r_, va_rf y, c_]))) (hn : x = none → y = none) : kx_SP l G yJ19_parentOf (ws_ yJ19_parentOf cJ19_parentOf 1 (some (.object "java/util/TreeMap$Entry"))) 1 0 0 [va_rf x] σ (fun v τ => v = some (va_rf y) ∧ τ = σ) kx_nx := by
  cases x with
  | none => rw [hn rfl]; exact mt_J19_parentOfN htr
  | some a =>
    obtain ⟨t, k_, v_, l_, r_, c_, h⟩ := hx a rfl
    exact mt_J19_parentOfR htr h
set_option maxHeartbeats 1000000 in
theorem mt_J19_leftOfN {l : Launch} {G : kx_G} (htr : l.stackTraces = false) {σ : kx_H}  : kx_SP l G yJ19_leftOf (ws_ yJ19_leftOf cJ19_leftOf 1 (some (.object "java/util/TreeMap$Entry"))) 1 0 0 [.null] σ (fun v τ => v = some .null ∧ τ = σ) kx_nx := by
  refine kx_body htr (by decide +kernel) (own := "java/util/TreeMap") (nm := "leftOf") rfl rfl (Nat.le_of_ble_eq_true rfl) ?_
  intro p e s m args below meth c Q C hQ
  first | refine ri_aload_n C dJ19_leftOf_0 rfl ?_ | refine ri_aload_nQ C dJ19_leftOf_0 rfl ?_ | refine ri_aload_nN C dJ19_leftOf_0 rfl ?_
  refine ri_ifnonnullN C dJ19_leftOf_1 ?_
  refine ri_aconst_null C dJ19_leftOf_4 ?_
  refine ri_goto C 12 dJ19_leftOf_5 rfl ?_
  exact ri_aret C hQ dJ19_leftOf_12 (Or.inl ⟨_, rfl⟩) (Or.inl rfl) (Nat.le_of_ble_eq_true rfl) (Nat.le_of_ble_eq_true rfl) ⟨rfl, rfl⟩
set_option maxHeartbeats 1000000 in
theorem mt_J19_leftOfR {l : Launch} {G : kx_G} (htr : l.stackTraces = false) {σ : kx_H} {a : Nat} {y : Option Nat} {t : kx_T} {k_ v_ r_ p_ c_ : Value} (h : σ t = some (a, .inr (19, [k_, v_, va_rf y, r_, p_, c_]))) : kx_SP l G yJ19_leftOf (ws_ yJ19_leftOf cJ19_leftOf 1 (some (.object "java/util/TreeMap$Entry"))) 1 0 0 [.ref a] σ (fun v τ => v = some (va_rf y) ∧ τ = σ) kx_nx := by
  refine kx_body htr (by decide +kernel) (own := "java/util/TreeMap") (nm := "leftOf") rfl rfl (Nat.le_of_ble_eq_true rfl) ?_
  intro p e s m args below meth c Q C hQ
  first | refine ri_aload_n C dJ19_leftOf_0 rfl ?_ | refine ri_aload_nQ C dJ19_leftOf_0 rfl ?_ | refine ri_aload_nN C dJ19_leftOf_0 rfl ?_
  refine ri_ifnonnull C 8 dJ19_leftOf_1 rfl ?_
  first | refine ri_aload_n C dJ19_leftOf_8 rfl ?_ | refine ri_aload_nQ C dJ19_leftOf_8 rfl ?_ | refine ri_aload_nN C dJ19_leftOf_8 rfl ?_
  refine ri_getf C dJ19_leftOf_9 fr_q1086_19 h (by rfl) ?_
  exact ri_aret C hQ dJ19_leftOf_12 (Or.inl ⟨_, rfl⟩) kx_rvq (Nat.le_of_ble_eq_true rfl) (Nat.le_of_ble_eq_true rfl) ⟨rfl, rfl⟩
theorem mt_J19_leftOf {l : Launch} {G : kx_G} (htr : l.stackTraces = false) {σ : kx_H} {x y : Option Nat} (hx : ∀ a, x = some a → ∃ t k_ v_ r_ p_ c_, σ t = some (a, .inr (19, [k_, v_, va_rf y, r_, p_, c_]))) (hn : x = none → y = none) : kx_SP l G yJ19_leftOf (ws_ yJ19_leftOf cJ19_leftOf 1 (some (.object "java/util/TreeMap$Entry"))) 1 0 0 [va_rf x] σ (fun v τ => v = some (va_rf y) ∧ τ = σ) kx_nx := by
  cases x with
  | none => rw [hn rfl]; exact mt_J19_leftOfN htr
  | some a =>
    obtain ⟨t, k_, v_, r_, p_, c_, h⟩ := hx a rfl
    exact mt_J19_leftOfR htr h
set_option maxHeartbeats 1000000 in
theorem mt_J19_rightOfN {l : Launch} {G : kx_G} (htr : l.stackTraces = false) {σ : kx_H}  : kx_SP l G yJ19_rightOf (ws_ yJ19_rightOf cJ19_rightOf 1 (some (.object "java/util/TreeMap$Entry"))) 1 0 0 [.null] σ (fun v τ => v = some .null ∧ τ = σ) kx_nx := by
  refine kx_body htr (by decide +kernel) (own := "java/util/TreeMap") (nm := "rightOf") rfl rfl (Nat.le_of_ble_eq_true rfl) ?_
  intro p e s m args below meth c Q C hQ
  first | refine ri_aload_n C dJ19_rightOf_0 rfl ?_ | refine ri_aload_nQ C dJ19_rightOf_0 rfl ?_ | refine ri_aload_nN C dJ19_rightOf_0 rfl ?_
  refine ri_ifnonnullN C dJ19_rightOf_1 ?_
  refine ri_aconst_null C dJ19_rightOf_4 ?_
  refine ri_goto C 12 dJ19_rightOf_5 rfl ?_
  exact ri_aret C hQ dJ19_rightOf_12 (Or.inl ⟨_, rfl⟩) (Or.inl rfl) (Nat.le_of_ble_eq_true rfl) (Nat.le_of_ble_eq_true rfl) ⟨rfl, rfl⟩
set_option maxHeartbeats 1000000 in
theorem mt_J19_rightOfR {l : Launch} {G : kx_G} (htr : l.stackTraces = false) {σ : kx_H} {a : Nat} {y : Option Nat} {t : kx_T} {k_ v_ l_ p_ c_ : Value} (h : σ t = some (a, .inr (19, [k_, v_, l_, va_rf y, p_, c_]))) : kx_SP l G yJ19_rightOf (ws_ yJ19_rightOf cJ19_rightOf 1 (some (.object "java/util/TreeMap$Entry"))) 1 0 0 [.ref a] σ (fun v τ => v = some (va_rf y) ∧ τ = σ) kx_nx := by
  refine kx_body htr (by decide +kernel) (own := "java/util/TreeMap") (nm := "rightOf") rfl rfl (Nat.le_of_ble_eq_true rfl) ?_
  intro p e s m args below meth c Q C hQ
  first | refine ri_aload_n C dJ19_rightOf_0 rfl ?_ | refine ri_aload_nQ C dJ19_rightOf_0 rfl ?_ | refine ri_aload_nN C dJ19_rightOf_0 rfl ?_
  refine ri_ifnonnull C 8 dJ19_rightOf_1 rfl ?_
  first | refine ri_aload_n C dJ19_rightOf_8 rfl ?_ | refine ri_aload_nQ C dJ19_rightOf_8 rfl ?_ | refine ri_aload_nN C dJ19_rightOf_8 rfl ?_
  refine ri_getf C dJ19_rightOf_9 fr_q1087_19 h (by rfl) ?_
  exact ri_aret C hQ dJ19_rightOf_12 (Or.inl ⟨_, rfl⟩) kx_rvq (Nat.le_of_ble_eq_true rfl) (Nat.le_of_ble_eq_true rfl) ⟨rfl, rfl⟩
theorem mt_J19_rightOf {l : Launch} {G : kx_G} (htr : l.stackTraces = false) {σ : kx_H} {x y : Option Nat} (hx : ∀ a, x = some a → ∃ t k_ v_ l_ p_ c_, σ t = some (a, .inr (19, [k_, v_, l_, va_rf y, p_, c_]))) (hn : x = none → y = none) : kx_SP l G yJ19_rightOf (ws_ yJ19_rightOf cJ19_rightOf 1 (some (.object "java/util/TreeMap$Entry"))) 1 0 0 [va_rf x] σ (fun v τ => v = some (va_rf y) ∧ τ = σ) kx_nx := by
  cases x with
  | none => rw [hn rfl]; exact mt_J19_rightOfN htr
  | some a =>
    obtain ⟨t, k_, v_, l_, p_, c_, h⟩ := hx a rfl
    exact mt_J19_rightOfR htr h
set_option maxHeartbeats 1000000 in
theorem mt_J19_colorOfN {l : Launch} {G : kx_G} (htr : l.stackTraces = false) {σ : kx_H}  : kx_SP l G yJ19_colorOf (ws_ yJ19_colorOf cJ19_colorOf 1 (some .boolean)) 1 0 0 [.null] σ (fun v τ => v = some (.int (nI 1)) ∧ τ = σ) kx_nx := by
  refine kx_body htr (by decide +kernel) (own := "java/util/TreeMap") (nm := "colorOf") rfl rfl (Nat.le_of_ble_eq_true rfl) ?_
  intro p e s m args below meth c Q C hQ
  first | refine ri_aload_n C dJ19_colorOf_0 rfl ?_ | refine ri_aload_nQ C dJ19_colorOf_0 rfl ?_ | refine ri_aload_nN C dJ19_colorOf_0 rfl ?_
  refine ri_ifnonnullN C dJ19_colorOf_1 ?_
  refine ri_iconst C dJ19_colorOf_4 kc_i1 ?_
  refine ri_goto C 12 dJ19_colorOf_5 rfl ?_
  exact ri_iret C hQ dJ19_colorOf_12 rfl (Nat.le_of_ble_eq_true rfl) (Nat.le_of_ble_eq_true rfl) ⟨rfl, rfl⟩
set_option maxHeartbeats 1000000 in
theorem mt_J19_colorOfR {l : Launch} {G : kx_G} (htr : l.stackTraces = false) {σ : kx_H} {a : Nat} {t : kx_T} {k_ v_ l_ r_ p_ : Value} {z : Int32} (h : σ t = some (a, .inr (19, [k_, v_, l_, r_, p_, .int z]))) (hz : z = nI 0 ∨ z = nI 1) : kx_SP l G yJ19_colorOf (ws_ yJ19_colorOf cJ19_colorOf 1 (some .boolean)) 1 0 0 [.ref a] σ (fun v τ => v = some (.int (z)) ∧ τ = σ) kx_nx := by
  refine kx_body htr (by decide +kernel) (own := "java/util/TreeMap") (nm := "colorOf") rfl rfl (Nat.le_of_ble_eq_true rfl) ?_
  intro p e s m args below meth c Q C hQ
  first | refine ri_aload_n C dJ19_colorOf_0 rfl ?_ | refine ri_aload_nQ C dJ19_colorOf_0 rfl ?_ | refine ri_aload_nN C dJ19_colorOf_0 rfl ?_
  refine ri_ifnonnull C 8 dJ19_colorOf_1 rfl ?_
  first | refine ri_aload_n C dJ19_colorOf_8 rfl ?_ | refine ri_aload_nQ C dJ19_colorOf_8 rfl ?_ | refine ri_aload_nN C dJ19_colorOf_8 rfl ?_
  refine ri_getf C dJ19_colorOf_9 fr_q1091_19 h (by rfl) ?_
  exact ri_iret C hQ dJ19_colorOf_12 (by rcases hz with rfl | rfl <;> rfl) (Nat.le_of_ble_eq_true rfl) (Nat.le_of_ble_eq_true rfl) ⟨rfl, rfl⟩
theorem mt_J19_colorOf {l : Launch} {G : kx_G} (htr : l.stackTraces = false) {σ : kx_H} {x : Option Nat} {z : Int32} (hx : ∀ a, x = some a → ∃ t k_ v_ l_ r_ p_, σ t = some (a, .inr (19, [k_, v_, l_, r_, p_, .int z]))) (hz : z = nI 0 ∨ z = nI 1) (hn : x = none → z = nI 1) : kx_SP l G yJ19_colorOf (ws_ yJ19_colorOf cJ19_colorOf 1 (some .boolean)) 1 0 0 [va_rf x] σ (fun v τ => v = some (.int z) ∧ τ = σ) kx_nx := by
  cases x with
  | none => rw [hn rfl]; exact mt_J19_colorOfN htr
  | some a =>
    obtain ⟨t, k_, v_, l_, r_, p_, h⟩ := hx a rfl
    exact mt_J19_colorOfR htr h hz
set_option maxHeartbeats 1000000 in
theorem mt_J19_setColorN {l : Launch} {G : kx_G} (htr : l.stackTraces = false) {σ : kx_H} {z : Int32} : kx_SP l G yJ19_setColor (ws_ yJ19_setColor cJ19_setColor 2 none) 1 0 0 [.null, .int z] σ (fun v τ => v = none ∧ τ = σ) kx_nx := by
  refine kx_body htr (by decide +kernel) (own := "java/util/TreeMap") (nm := "setColor") rfl rfl (Nat.le_of_ble_eq_true rfl) ?_
  intro p e s m args below meth c Q C hQ
  first | refine ri_aload_n C dJ19_setColor_0 rfl ?_ | refine ri_aload_nQ C dJ19_setColor_0 rfl ?_ | refine ri_aload_nN C dJ19_setColor_0 rfl ?_
  refine ri_ifnullN C 9 dJ19_setColor_1 rfl ?_
  exact ri_vret C hQ dJ19_setColor_9 (Nat.le_of_ble_eq_true rfl) (Nat.le_of_ble_eq_true rfl) ⟨rfl, rfl⟩
set_option maxHeartbeats 1000000 in
theorem mt_J19_setColorR {l : Launch} {G : kx_G} (htr : l.stackTraces = false) {σ : kx_H} {a : Nat} {t : kx_T} {k_ v_ l_ r_ p_ : Value} {z w : Int32} (h : σ t = some (a, .inr (19, [k_, v_, l_, r_, p_, .int z]))) (hw : w = nI 0 ∨ w = nI 1) : kx_SP l G yJ19_setColor (ws_ yJ19_setColor cJ19_setColor 2 none) 1 0 0 [.ref a, .int w] σ (fun v τ => v = none ∧ τ = kx_up σ t (a, .inr (19, [k_, v_, l_, r_, p_, .int w]))) kx_nx := by
  refine kx_body htr (by decide +kernel) (own := "java/util/TreeMap") (nm := "setColor") rfl rfl (Nat.le_of_ble_eq_true rfl) ?_
  intro p e s m args below meth c Q C hQ
  first | refine ri_aload_n C dJ19_setColor_0 rfl ?_ | refine ri_aload_nQ C dJ19_setColor_0 rfl ?_ | refine ri_aload_nN C dJ19_setColor_0 rfl ?_
  refine ri_ifnull C dJ19_setColor_1 ?_
  first | refine ri_aload_n C dJ19_setColor_4 rfl ?_ | refine ri_aload_nQ C dJ19_setColor_4 rfl ?_ | refine ri_aload_nN C dJ19_setColor_4 rfl ?_
  refine ri_iload_n C dJ19_setColor_5 rfl ?_
  refine ri_putf C dJ19_setColor_6 fd_q1091_19 (fun h => nomatch h) h (Nat.le_of_ble_eq_true rfl) (by rcases hw with rfl | rfl <;> rfl) (by rcases hw with rfl | rfl <;> rfl) (by dsimp only [List.set] <;> rfl) (fun s6 e6 => ?_)
  exact ri_vret C hQ dJ19_setColor_9 (Nat.le_of_ble_eq_true rfl) (Nat.le_of_ble_eq_true rfl) ⟨rfl, e6⟩
set_option maxHeartbeats 1000000 in
theorem mt_J22_init {l : Launch} {G : kx_G} (htr : l.stackTraces = false) {σ : kx_H} {t : kx_T} {a k_ v_ : Nat} {p_ : Option Nat} (h : σ t = some (a, .inr (19, [.null, .null, .null, .null, .null, .int 0]))) : kx_SP l G yJ22_init (ws_ yJ22_init cJ22_init 4 none) 1 0 0 [.ref a, .ref k_, .ref v_, va_rf p_] σ (fun v τ => v = none ∧ τ = kx_up σ t (a, .inr (19, [.ref k_, .ref v_, .null, .null, va_rf p_, .int (nI 1)]))) kx_nx := by
  refine kx_body htr (by decide +kernel) (own := "java/util/TreeMap$Entry") (nm := "<init>") rfl rfl (by cases p_ <;> exact Nat.le_of_ble_eq_true rfl) ?_
  intro p e s m args below meth c Q C hQ
  first | refine ri_aload_n C dJ22_init_0 rfl ?_ | refine ri_aload_nQ C dJ22_init_0 rfl ?_ | refine ri_aload_nN C dJ22_init_0 rfl ?_
  refine ri_objInit C dJ22_init_1 q1080 q205 q206 ⟨(Nat.le_of_ble_eq_true rfl), (Nat.le_of_ble_eq_true rfl)⟩ ?_
  first | refine ri_aload_n C dJ22_init_4 rfl ?_ | refine ri_aload_nQ C dJ22_init_4 rfl ?_ | refine ri_aload_nN C dJ22_init_4 rfl ?_
  refine ri_iconst C dJ22_init_5 kc_i1 ?_
  refine ri_putf C dJ22_init_6 fd_q1090_19 (fun h => nomatch h) (by first | assumption | (repeat (first | assumption | exact kx_rs (by assumption) | exact kx_ne2 (by omega) | exact kx_ne1 (by omega) | refine kx_ro (by assumption) ?_ ?_ | exact kx_rs rfl | refine kx_ro rfl ?_ ?_))) (Nat.le_of_ble_eq_true rfl) (by rfl) (by rfl) (by dsimp only [List.set] <;> rfl) (fun s6 e6 => ?_)
  have h2 := kx_rs e6
  first | refine ri_aload_n C dJ22_init_9 rfl ?_ | refine ri_aload_nQ C dJ22_init_9 rfl ?_ | refine ri_aload_nN C dJ22_init_9 rfl ?_
  first | refine ri_aload_n C dJ22_init_10 rfl ?_ | refine ri_aload_nQ C dJ22_init_10 rfl ?_ | refine ri_aload_nN C dJ22_init_10 rfl ?_
  refine ri_putf C dJ22_init_11 fd_q1081_19 (fun h => nomatch h) h2 (Nat.le_of_ble_eq_true rfl) (by rfl) (by rfl) (by dsimp only [List.set] <;> rfl) (fun s11 e11 => ?_)
  have h3 := kx_rs e11
  first | refine ri_aload_n C dJ22_init_14 rfl ?_ | refine ri_aload_nQ C dJ22_init_14 rfl ?_ | refine ri_aload_nN C dJ22_init_14 rfl ?_
  first | refine ri_aload_n C dJ22_init_15 rfl ?_ | refine ri_aload_nQ C dJ22_init_15 rfl ?_ | refine ri_aload_nN C dJ22_init_15 rfl ?_
  refine ri_putf C dJ22_init_16 fd_q1083_19 (fun h => nomatch h) h3 (Nat.le_of_ble_eq_true rfl) (by rfl) (by rfl) (by dsimp only [List.set] <;> rfl) (fun s16 e16 => ?_)
  have h4 := kx_rs e16
  first | refine ri_aload_n C dJ22_init_19 rfl ?_ | refine ri_aload_nQ C dJ22_init_19 rfl ?_ | refine ri_aload_nN C dJ22_init_19 rfl ?_
  first | refine ri_aload_n C dJ22_init_20 rfl ?_ | refine ri_aload_nQ C dJ22_init_20 rfl ?_ | refine ri_aload_nN C dJ22_init_20 rfl ?_
  refine ri_putf C dJ22_init_21 fd_q1088_19 (fun h => nomatch h) h4 (Nat.le_of_ble_eq_true rfl) kx_nrf kx_frf (by dsimp only [List.set] <;> rfl) (fun s21 e21 => ?_)
  exact ri_vret C hQ dJ22_init_24 (Nat.le_of_ble_eq_true rfl) (Nat.le_of_ble_eq_true rfl) ⟨rfl, by rw [e21, e16, e11, e6, kx_up_u, kx_up_u, kx_up_u]⟩
