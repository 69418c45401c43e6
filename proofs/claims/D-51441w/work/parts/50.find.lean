/-! the JDK: looking in a TreeMap -/
set_option maxRecDepth 100000
theorem kx_cmpN_lt {x y : Nat} (h : kx_cmpN x y < 0) : x < y := by
  unfold kx_cmpN at h
  split at h
  · assumption
  · split at h <;> exact absurd h (by decide)
theorem kx_cmpN_gt {x y : Nat} (h : 0 < kx_cmpN x y) : y < x := by
  unfold kx_cmpN at h
  split at h
  · exact absurd h (by decide)
  · split at h
    · exact absurd h (by decide)
    · omega
theorem kx_cmpN_eq {x y : Nat} (h1 : ¬ kx_cmpN x y < 0) (h2 : ¬ 0 < kx_cmpN x y) : x = y := by
  unfold kx_cmpN at h1 h2
  split at h1
  · exact absurd (by decide) h1
  · rw [if_neg (by assumption)] at h2
    split at h2
    · assumption
    · exact absurd (by decide) h2
abbrev tm_k (key : Nat → Nat) : Nat → Int := fun a => (key a : Int)
/-- the keys are boxes that hold key, in order -/
def tm_K (G : kx_G) (σ : kx_H) (c : Nat) (L : List Nat) (K key : Nat → Nat) : Prop := (∀ a, a ∈ L → kx_ig G σ c (K a) (key a) ∧ key a < 2147483648) ∧ tt_S (tm_k key) L
set_option maxHeartbeats 1000000 in
theorem mt_J19_getEntry {l : Launch} {G : kx_G} (htr : l.stackTraces = false) {σ : kx_H} {ct mp : Nat} {t : tt_T} {K V : Nat → Nat} {D : Nat → Int32} {vals : Option Nat} {sz : Nat} {md : Int32} (h : tm_H σ ct mp t K V D vals sz md) {key : Nat → Nat} (hk : tm_K G σ ct (tt_i t) K key) {x kv : Nat} (hx : kx_ig G σ ct x kv) (hkv : kv < 2147483648) : kx_SP l G yJ19_getEntry (ws_ yJ19_getEntry cJ19_getEntry 5 (some (.object "java/util/TreeMap$Entry"))) 5 0 0 [.ref mp, .ref x] σ (fun v τ => τ = σ ∧ ((∃ a, v = some (.ref a) ∧ a ∈ tt_i t ∧ key a = kv) ∨ (v = some .null ∧ ∀ a, a ∈ tt_i t → key a ≠ kv))) kx_nx := by
  refine kx_body htr (by decide +kernel) (own := "java/util/TreeMap") (nm := "getEntry") rfl rfl (Nat.le_of_ble_eq_true rfl) ?_
  intro p e s m args below meth c Q C hQ
  first | refine ri_aload_n C dJ19_getEntry_0 rfl ?_ | refine ri_aload_nQ C dJ19_getEntry_0 rfl ?_ | refine ri_aload_nN C dJ19_getEntry_0 rfl ?_
  refine ri_getf C dJ19_getEntry_1 fr_q576_18 h.1 (by rfl) ?_
  refine ri_ifnullN C 13 dJ19_getEntry_4 rfl ?_
  first | refine ri_aload_n C dJ19_getEntry_13 rfl ?_ | refine ri_aload_nQ C dJ19_getEntry_13 rfl ?_ | refine ri_aload_nN C dJ19_getEntry_13 rfl ?_
  refine ri_callS C km_J23_requireNonNull q1105 dJ19_getEntry_14 (mt_J23_requireNonNull htr) rfl rfl ⟨⟨(Nat.le_of_ble_eq_true rfl), (Nat.le_of_ble_eq_true rfl)⟩, (Nat.le_of_ble_eq_true rfl), (Nat.le_of_ble_eq_true rfl), (Nat.le_of_ble_eq_true rfl)⟩ (fun v14 s14 h14 => ?_) (fun _ _ _ h => h.elim)
  obtain ⟨rfl, rfl⟩ := h14
  refine ri_pop C dJ19_getEntry_17 rfl ?_
  first | refine ri_aload_n C dJ19_getEntry_18 rfl ?_ | refine ri_aload_nQ C dJ19_getEntry_18 rfl ?_ | refine ri_aload_nN C dJ19_getEntry_18 rfl ?_
  refine ri_cast C dJ19_getEntry_19 q863 (kx_rcI C hx) q868 ?_
  first | refine ri_astore_n C dJ19_getEntry_22 rfl (by decide) ?_ | refine ri_astore_nQ C dJ19_getEntry_22 rfl (by decide) ?_ | refine ri_astore_nN C dJ19_getEntry_22 rfl (by decide) ?_
  first | refine ri_aload_n C dJ19_getEntry_23 rfl ?_ | refine ri_aload_nQ C dJ19_getEntry_23 rfl ?_ | refine ri_aload_nN C dJ19_getEntry_23 rfl ?_
  refine ri_getf C dJ19_getEntry_24 fr_q577_18 h.1 (by rfl) ?_
  first | refine ri_astore_n C dJ19_getEntry_27 rfl (by decide) ?_ | refine ri_astore_nQ C dJ19_getEntry_27 rfl (by decide) ?_ | refine ri_astore_nN C dJ19_getEntry_27 rfl (by decide) ?_
  have LP : ∀ (wk i : Nat) (Bx : tt_C) (sub : tt_T), i ≤ (tt_i t).length → (tt_i t).length < i + wk → (t = tt_p Bx sub ∧ tt_F (tm_k key) kv Bx ∧ (tt_i sub).length + i ≤ (tt_i t).length) → kx_V G l p e (kx_rm 5 0 0) s m args below meth c 5 Q 28 [(0, .ref mp), (1, .ref x), (2, .ref x), (3, va_rf (tt_r sub))] [] s14 0 0 := by
    intro wk
    induction wk with
    | zero => intro i Bx sub h1 h2; exact absurd h2 (by omega)
    | succ wk ih =>
      intro i Bx sub hi hwk hJ
      obtain ⟨hts, hF, hln⟩ := hJ
      first | refine ri_aload_n C dJ19_getEntry_28 rfl ?_ | refine ri_aload_nQ C dJ19_getEntry_28 rfl ?_ | refine ri_aload_nN C dJ19_getEntry_28 rfl ?_
      rcases sub with ⟨_⟩ | ⟨an, tl, tr⟩
      · refine ri_ifnullN C 75 dJ19_getEntry_29 rfl ?_
        refine ri_aconst_null C dJ19_getEntry_75 ?_
        exact ri_aret C hQ dJ19_getEntry_76 (Or.inl ⟨_, rfl⟩) (Or.inl rfl) (Nat.le_of_ble_eq_true rfl) (Nat.le_of_ble_eq_true rfl) ⟨rfl, Or.inr ⟨rfl, fun a ha => fun q => tt_F_n (B := Bx) hF a (by rw [hts] at ha; exact ha) (by show (key a : Int) = kv; rw [q])⟩⟩
      · have hT := (tt_H_p Bx _).mp (hts ▸ h.2.1)
        obtain ⟨⟨hc, -, -⟩, -⟩ := hT
        have ha : an ∈ tt_i t := (by rw [hts, tt_i_p]; simp [tt_i])
        have hS : tt_S (tm_k key) (tt_i (tt_p Bx (.branch an tl tr))) := hts ▸ hk.2
        have hln2 : (tt_i tl).length + (tt_i tr).length + 1 + i ≤ (tt_i t).length := (by simp only [tt_i, List.length_append, List.length_cons] at hln; omega)
        refine ri_ifnull C dJ19_getEntry_29 ?_
        first | refine ri_aload_n C dJ19_getEntry_32 rfl ?_ | refine ri_aload_nQ C dJ19_getEntry_32 rfl ?_ | refine ri_aload_nN C dJ19_getEntry_32 rfl ?_
        first | refine ri_aload_n C dJ19_getEntry_33 rfl ?_ | refine ri_aload_nQ C dJ19_getEntry_33 rfl ?_ | refine ri_aload_nN C dJ19_getEntry_33 rfl ?_
        refine ri_getf C dJ19_getEntry_34 fr_q1082_19 hc (by rfl) ?_
        refine ri_callF C (x := ⟨"java/lang/Comparable", "compareTo", "(Ljava/lang/Object;)I"⟩) (Cn := "java/lang/Integer") km_J17_compareTo ⟨q867, q866, q872, q870, q868, by decide, by decide⟩ (by decide +kernel) q865 q869 dJ19_getEntry_37 (mt_J17_compareTo htr hx (hk.1 an ha).1 ⟨hkv, (hk.1 an ha).2⟩) rfl rfl (kx_rcI C hx) ⟨⟨(Nat.le_of_ble_eq_true rfl), (Nat.le_of_ble_eq_true rfl)⟩, (Nat.le_of_ble_eq_true rfl), (Nat.le_of_ble_eq_true rfl), (Nat.le_of_ble_eq_true rfl)⟩ (fun v37 s37 h37 => ?_) (fun _ _ _ h => h.elim)
        obtain ⟨rfl, rfl⟩ := h37
        refine ri_istore C dJ19_getEntry_42 rfl (by decide) ?_
        refine ri_iload C dJ19_getEntry_44 rfl ?_
        refine ri_if_ge C 57 dJ19_getEntry_46 rfl (fun h46 => ?_) (fun h46 => ?_)
        · refine ri_iload C dJ19_getEntry_57 rfl ?_
          refine ri_if_le C 70 dJ19_getEntry_59 rfl (fun h59 => ?_) (fun h59 => ?_)
          · first | refine ri_aload_n C dJ19_getEntry_70 rfl ?_ | refine ri_aload_nQ C dJ19_getEntry_70 rfl ?_ | refine ri_aload_nN C dJ19_getEntry_70 rfl ?_
            exact ri_aret C hQ dJ19_getEntry_71 (Or.inl ⟨_, rfl⟩) (Or.inr ⟨_, rfl⟩) (Nat.le_of_ble_eq_true rfl) (Nat.le_of_ble_eq_true rfl) ⟨rfl, Or.inl ⟨an, rfl, ha, (kx_cmpN_eq (fun q => absurd h46 (Int32.not_le.mpr q)) (fun q => absurd h59 (Int32.not_le.mpr q))).symm⟩⟩
          · first | refine ri_aload_n C dJ19_getEntry_62 rfl ?_ | refine ri_aload_nQ C dJ19_getEntry_62 rfl ?_ | refine ri_aload_nN C dJ19_getEntry_62 rfl ?_
            refine ri_getf C dJ19_getEntry_63 fr_q1087_19 hc rfl ?_
            refine ri_astore_nQ (x := tt_r tr) C dJ19_getEntry_66 rfl (by decide) ?_
            refine ri_goto C 72 dJ19_getEntry_67 rfl ?_
            refine ri_goto C 28 dJ19_getEntry_72 rfl ?_
            refine ri_lv2 (ih (i + 1) ((false, an, tl) :: Bx) tr (by omega) (by omega) ⟨by rw [hts]; rfl, tt_F_r hS hF (Int.ofNat_lt.mpr (kx_cmpN_gt ?_)), ?_⟩) ⟨rfl, rfl, rfl, rfl, trivial⟩
            · exact Int32.not_le.mp h59
            · omega
        · first | refine ri_aload_n C dJ19_getEntry_49 rfl ?_ | refine ri_aload_nQ C dJ19_getEntry_49 rfl ?_ | refine ri_aload_nN C dJ19_getEntry_49 rfl ?_
          refine ri_getf C dJ19_getEntry_50 fr_q1086_19 hc rfl ?_
          refine ri_astore_nQ (x := tt_r tl) C dJ19_getEntry_53 rfl (by decide) ?_
          refine ri_goto C 72 dJ19_getEntry_54 rfl ?_
          refine ri_goto C 28 dJ19_getEntry_72 rfl ?_
          refine ri_lv2 (ih (i + 1) ((true, an, tr) :: Bx) tl (by omega) (by omega) ⟨by rw [hts]; rfl, tt_F_l hS hF (Int.ofNat_lt.mpr (kx_cmpN_lt ?_)), ?_⟩) ⟨rfl, rfl, rfl, rfl, trivial⟩
          · exact Int32.not_le.mp h46
          · omega
  refine ri_lv2 (LP ((tt_i t).length + 1) 0 [] t (by omega) (by omega) ⟨rfl, tt_F_0, by omega⟩) ⟨rfl, rfl, rfl, rfl, trivial⟩
set_option maxHeartbeats 1000000 in
theorem mt_J19_containsKey {l : Launch} {G : kx_G} (htr : l.stackTraces = false) {σ : kx_H} {ct mp : Nat} {t : tt_T} {K V : Nat → Nat} {D : Nat → Int32} {vals : Option Nat} {sz : Nat} {md : Int32} (h : tm_H σ ct mp t K V D vals sz md) {key : Nat → Nat} (hk : tm_K G σ ct (tt_i t) K key) {x kv : Nat} (hx : kx_ig G σ ct x kv) (hkv : kv < 2147483648) : kx_SP l G yJ19_containsKey (ws_ yJ19_containsKey cJ19_containsKey 2 (some .boolean)) 6 0 0 [.ref mp, .ref x] σ (fun v τ => τ = σ ∧ ∃ b : Bool, v = some (.int (kx_b b)) ∧ (b = true ↔ ∃ a, a ∈ tt_i t ∧ key a = kv)) kx_nx := by
  refine kx_body htr (by decide +kernel) (own := "java/util/TreeMap") (nm := "containsKey") rfl rfl (Nat.le_of_ble_eq_true rfl) ?_
  intro p e s m args below meth c Q C hQ
  first | refine ri_aload_n C dJ19_containsKey_0 rfl ?_ | refine ri_aload_nQ C dJ19_containsKey_0 rfl ?_ | refine ri_aload_nN C dJ19_containsKey_0 rfl ?_
  first | refine ri_aload_n C dJ19_containsKey_1 rfl ?_ | refine ri_aload_nQ C dJ19_containsKey_1 rfl ?_ | refine ri_aload_nN C dJ19_containsKey_1 rfl ?_
  refine ri_callV C km_J19_getEntry q1522 q1524 dJ19_containsKey_2 (mt_J19_getEntry htr h hk hx hkv) rfl rfl (kx_rcN C h.1 rfl) ⟨⟨(Nat.le_of_ble_eq_true rfl), (Nat.le_of_ble_eq_true rfl)⟩, (Nat.le_of_ble_eq_true rfl), (Nat.le_of_ble_eq_true rfl), (Nat.le_of_ble_eq_true rfl)⟩ (fun v2 s2 h2 => ?_) (fun _ _ _ h => h.elim)
  obtain ⟨rfl, hv⟩ := h2
  rcases hv with ⟨a, rfl, ha, hka⟩ | ⟨rfl, hno⟩
  · refine ri_ifnull C dJ19_containsKey_5 ?_
    refine ri_iconst C dJ19_containsKey_8 kc_i1 ?_
    refine ri_goto C 13 dJ19_containsKey_9 rfl ?_
    exact ri_iret C hQ dJ19_containsKey_13 rfl (Nat.le_of_ble_eq_true rfl) (Nat.le_of_ble_eq_true rfl) ⟨rfl, true, rfl, ⟨fun _ => ⟨a, ha, hka⟩, fun _ => rfl⟩⟩
  · refine ri_ifnullN C 12 dJ19_containsKey_5 rfl ?_
    refine ri_iconst C dJ19_containsKey_12 kc_i0 ?_
    exact ri_iret C hQ dJ19_containsKey_13 rfl (Nat.le_of_ble_eq_true rfl) (Nat.le_of_ble_eq_true rfl) ⟨rfl, false, rfl, ⟨fun q => (by cases q), fun ⟨a, ha, hka⟩ => absurd hka (hno a ha)⟩⟩
