/-! the JDK: put of a TreeMap -/
set_option maxRecDepth 100000
set_option maxHeartbeats 1000000 in
theorem mt_J19_compare {l : Launch} {G : kx_G} (htr : l.stackTraces = false) {σ : kx_H} {ct mp : Nat} {K V : Nat → Nat} {D : Nat → Int32} {vals : Option Nat} {sz : Nat} {md : Int32} {t : tt_T} (h : tm_H σ ct mp t K V D vals sz md) {x kv : Nat} (hx : kx_ig G σ ct x kv) (hkv : kv < 2147483648) : kx_SP l G yJ19_compare (ws_ yJ19_compare cJ19_compare 3 (some .int)) 4 0 0 [.ref mp, .ref x, .ref x] σ (fun v τ => τ = σ ∧ ∃ z, v = some (.int z)) kx_nx := by
  refine kx_body htr (by decide +kernel) (own := "java/util/TreeMap") (nm := "compare") rfl rfl (Nat.le_of_ble_eq_true rfl) ?_
  intro p e s m args below meth c Q C hQ
  first | refine ri_aload_n C dJ19_compare_0 rfl ?_ | refine ri_aload_nQ C dJ19_compare_0 rfl ?_ | refine ri_aload_nN C dJ19_compare_0 rfl ?_
  refine ri_getf C dJ19_compare_1 fr_q576_18 h.1 (by rfl) ?_
  refine ri_ifnonnullN C dJ19_compare_4 ?_
  first | refine ri_aload_n C dJ19_compare_7 rfl ?_ | refine ri_aload_nQ C dJ19_compare_7 rfl ?_ | refine ri_aload_nN C dJ19_compare_7 rfl ?_
  refine ri_cast C dJ19_compare_8 q863 (kx_rcI C hx) q868 ?_
  first | refine ri_aload_n C dJ19_compare_11 rfl ?_ | refine ri_aload_nQ C dJ19_compare_11 rfl ?_ | refine ri_aload_nN C dJ19_compare_11 rfl ?_
  refine ri_callF C (x := ⟨"java/lang/Comparable", "compareTo", "(Ljava/lang/Object;)I"⟩) (Cn := "java/lang/Integer") km_J17_compareTo ⟨q867, q866, q872, q870, q868, by decide, by decide⟩ (by decide +kernel) q865 q869 dJ19_compare_12 (mt_J17_compareTo htr hx hx ⟨hkv, hkv⟩) rfl rfl (kx_rcI C hx) ⟨⟨(Nat.le_of_ble_eq_true rfl), (Nat.le_of_ble_eq_true rfl)⟩, (Nat.le_of_ble_eq_true rfl), (Nat.le_of_ble_eq_true rfl), (Nat.le_of_ble_eq_true rfl)⟩ (fun v12 s12 h12 => ?_) (fun _ _ _ h => h.elim)
  obtain ⟨rfl, rfl⟩ := h12
  refine ri_goto C 31 dJ19_compare_17 rfl ?_
  exact ri_iret C hQ dJ19_compare_31 rfl (Nat.le_of_ble_eq_true rfl) (Nat.le_of_ble_eq_true rfl) ⟨rfl, _, rfl⟩
set_option maxHeartbeats 1000000 in
theorem mt_J19_addEntryToEmptyMap {l : Launch} {G : kx_G} (htr : l.stackTraces = false) {σ : kx_H} {ct mp : Nat} {K V : Nat → Nat} {D : Nat → Int32} {vals : Option Nat} {sz : Nat} {md : Int32} (h : tm_H σ ct mp tt_n K V D vals sz md) {x kv : Nat} (hx : kx_ig G σ ct x kv) (hkv : kv < 2147483648) {w : Nat} : kx_SP l G yJ19_addEntryToEmptyMap (ws_ yJ19_addEntryToEmptyMap cJ19_addEntryToEmptyMap 3 none) 5 1 6 [.ref mp, .ref x, .ref w] σ (fun v τ => v = none ∧ ∃ q D', tm_H τ ct mp (.branch q tt_n tt_n) (tm_u K q x) (tm_u V q w) D' vals 1 (md + nI 1) ∧ (∀ u y, σ u = some y → y.1 ≠ q) ∧ kx_Fr (fun u => tm_T ct (tt_i tt_n) u ∨ u = (ct, 100 + q)) σ τ) kx_nx := by
  refine kx_body htr (by decide +kernel) (own := "java/util/TreeMap") (nm := "addEntryToEmptyMap") rfl rfl (Nat.le_of_ble_eq_true rfl) ?_
  intro p e s m args below meth c Q C hQ
  first | refine ri_aload_n C dJ19_addEntryToEmptyMap_0 rfl ?_ | refine ri_aload_nQ C dJ19_addEntryToEmptyMap_0 rfl ?_ | refine ri_aload_nN C dJ19_addEntryToEmptyMap_0 rfl ?_
  first | refine ri_aload_n C dJ19_addEntryToEmptyMap_1 rfl ?_ | refine ri_aload_nQ C dJ19_addEntryToEmptyMap_1 rfl ?_ | refine ri_aload_nN C dJ19_addEntryToEmptyMap_1 rfl ?_
  first | refine ri_aload_n C dJ19_addEntryToEmptyMap_2 rfl ?_ | refine ri_aload_nQ C dJ19_addEntryToEmptyMap_2 rfl ?_ | refine ri_aload_nN C dJ19_addEntryToEmptyMap_2 rfl ?_
  refine ri_callV C km_J19_compare q859 q861 dJ19_addEntryToEmptyMap_3 (mt_J19_compare htr h hx hkv) rfl rfl (kx_rcN C h.1 rfl) ⟨⟨(Nat.le_of_ble_eq_true rfl), (Nat.le_of_ble_eq_true rfl)⟩, (Nat.le_of_ble_eq_true rfl), (Nat.le_of_ble_eq_true rfl), (Nat.le_of_ble_eq_true rfl)⟩ (fun v3 s3 h3 => ?_) (fun _ _ _ h => h.elim)
  obtain ⟨rfl, z3, rfl⟩ := h3
  refine ri_pop C dJ19_addEntryToEmptyMap_6 rfl ?_
  first | refine ri_aload_n C dJ19_addEntryToEmptyMap_7 rfl ?_ | refine ri_aload_nQ C dJ19_addEntryToEmptyMap_7 rfl ?_ | refine ri_aload_nN C dJ19_addEntryToEmptyMap_7 rfl ?_
  refine ri_newF C (fun q => (ct, 100 + q)) dJ19_addEntryToEmptyMap_8 kn_q1075 (Nat.le_of_ble_eq_true rfl) (Nat.le_of_ble_eq_true rfl) (fun q8 s8 e8 f8 => ?_)
  refine ri_dup C dJ19_addEntryToEmptyMap_11 rfl ?_
  first | refine ri_aload_n C dJ19_addEntryToEmptyMap_12 rfl ?_ | refine ri_aload_nQ C dJ19_addEntryToEmptyMap_12 rfl ?_ | refine ri_aload_nN C dJ19_addEntryToEmptyMap_12 rfl ?_
  first | refine ri_aload_n C dJ19_addEntryToEmptyMap_13 rfl ?_ | refine ri_aload_nQ C dJ19_addEntryToEmptyMap_13 rfl ?_ | refine ri_aload_nN C dJ19_addEntryToEmptyMap_13 rfl ?_
  refine ri_aconst_null C dJ19_addEntryToEmptyMap_14 ?_
  refine ri_callI C km_J22_init q1077 rfl dJ19_addEntryToEmptyMap_15 (mt_J22_init (p_ := none) (k_ := x) (v_ := w) htr (kx_rs e8)) rfl rfl ⟨⟨(Nat.le_of_ble_eq_true rfl), (Nat.le_of_ble_eq_true rfl)⟩, (Nat.le_of_ble_eq_true rfl), (Nat.le_of_ble_eq_true rfl), (Nat.le_of_ble_eq_true rfl)⟩ (fun v15 s15 h15 => ?_) (fun _ _ _ h => h.elim)
  obtain ⟨rfl, e15⟩ := h15
  have m15 := kx_ro e15 (kx_ro e8 h.1 (kx_ne2 (show 3 ≠ 100 + q8 by omega))) (kx_ne2 (show 3 ≠ 100 + q8 by omega))
  refine ri_putf C dJ19_addEntryToEmptyMap_18 fd_q577_18 (fun h => nomatch h) m15 (Nat.le_of_ble_eq_true rfl) (by rfl) (by rfl) (by dsimp only [List.set] <;> rfl) (fun s18 e18 => ?_)
  have m18 := kx_rs e18
  first | refine ri_aload_n C dJ19_addEntryToEmptyMap_21 rfl ?_ | refine ri_aload_nQ C dJ19_addEntryToEmptyMap_21 rfl ?_ | refine ri_aload_nN C dJ19_addEntryToEmptyMap_21 rfl ?_
  refine ri_iconst C dJ19_addEntryToEmptyMap_22 kc_i1 ?_
  refine ri_putf C dJ19_addEntryToEmptyMap_23 fd_q578_18 (fun h => nomatch h) m18 (Nat.le_of_ble_eq_true rfl) (by rfl) (by rfl) (by dsimp only [List.set] <;> rfl) (fun s23 e23 => ?_)
  have m23 := kx_rs e23
  first | refine ri_aload_n C dJ19_addEntryToEmptyMap_26 rfl ?_ | refine ri_aload_nQ C dJ19_addEntryToEmptyMap_26 rfl ?_ | refine ri_aload_nN C dJ19_addEntryToEmptyMap_26 rfl ?_
  refine ri_dup C dJ19_addEntryToEmptyMap_27 rfl ?_
  refine ri_getf C dJ19_addEntryToEmptyMap_28 fr_q579_18 m23 (by rfl) ?_
  refine ri_iconst C dJ19_addEntryToEmptyMap_31 kc_i1 ?_
  first | refine ri_iaddN C dJ19_addEntryToEmptyMap_32 ?_ | refine ri_iadd C dJ19_addEntryToEmptyMap_32 ?_
  refine ri_putf C dJ19_addEntryToEmptyMap_33 fd_q579_18 (fun h => nomatch h) m23 (Nat.le_of_ble_eq_true rfl) (by rfl) (by rfl) (by dsimp only [List.set] <;> rfl) (fun s33 e33 => ?_)
  have hc : s33 (ct, 100 + q8) = some (q8, .inr (19, [.ref x, .ref w, .null, .null, .null, .int (nI 1)])) := kx_ro e33 (kx_ro e23 (kx_ro e18 (kx_rs e15) (kx_ne2 (by omega))) (kx_ne2 (by omega))) (kx_ne2 (by omega))
  have H : tm_H s33 ct mp (.branch q8 tt_n tt_n) (tm_u K q8 x) (tm_u V q8 w) (tm_c D q8 (nI 1)) vals 1 (md + nI 1) := ⟨kx_rs e33, ⟨by
    show s33 (ct, 100 + q8) = some (q8, .inr (19, [.ref (tm_u K q8 x q8), .ref (tm_u V q8 w q8), .null, .null, .null, .int (tm_c D q8 (nI 1) q8)]))
    rw [tm_u_s, tm_u_s, tm_c_s]; exact hc, trivial, trivial⟩, by simp [tt_i], tm_c_01 h.2.2.2 (Or.inr rfl)⟩
  exact ri_vret C hQ dJ19_addEntryToEmptyMap_36 (Nat.le_of_ble_eq_true rfl) (Nat.le_of_ble_eq_true rfl) ⟨rfl, q8, _, H, f8, kx_Fr.up2 (kx_Fr.up2 (kx_Fr.up2 (kx_Fr.up2 (kx_Fr.up2 kx_Fr.rf e8 (Or.inr rfl)) e15 (Or.inr rfl)) e18 (Or.inl tm_T_m)) e23 (Or.inl tm_T_m)) e33 (Or.inl tm_T_m)⟩
theorem tm_S_u {key : Nat → Nat} {q kv : Nat} {A C : List Nat} (hq : q ∉ A ++ C) (h : tt_S (tm_k key) (A ++ C)) (hA : ∀ b ∈ A, key b < kv) (hC : ∀ b ∈ C, kv < key b) : tt_S (tm_k (tm_u key q kv)) (A ++ q :: C) := by
  have e : ∀ b, b ∈ A ++ C → tm_u key q kv b = key b := fun b hb => tm_u_o (fun z => hq (z ▸ hb))
  obtain ⟨g1, g2, g3⟩ := List.pairwise_append.mp h
  refine List.pairwise_append.mpr ⟨g1.imp_of_mem (fun {a b} ha hb hab => ?_), List.pairwise_cons.mpr ⟨fun b hb => ?_, g2.imp_of_mem (fun {a b} ha hb hab => ?_)⟩, fun a ha b hb => ?_⟩
  · show (tm_u key q kv a : Int) < tm_u key q kv b
    rw [e a (by simp [ha]), e b (by simp [hb])]; exact hab
  · show (tm_u key q kv q : Int) < tm_u key q kv b
    rw [tm_u_s, e b (by simp [hb])]; exact Int.ofNat_lt.mpr (hC b hb)
  · show (tm_u key q kv a : Int) < tm_u key q kv b
    rw [e a (by simp [ha]), e b (by simp [hb])]; exact hab
  · show (tm_u key q kv a : Int) < tm_u key q kv b
    rw [e a (by simp [ha])]
    rcases List.mem_cons.mp hb with rfl | hb
    · rw [tm_u_s]; exact Int.ofNat_lt.mpr (hA a ha)
    · rw [e b (by simp [hb])]; exact g3 a ha b hb
theorem tm_fresh {σ : kx_H} {c m q : Nat} {t : tt_T} {K V : Nat → Nat} {D : Nat → Int32} {vals : Option Nat} {sz : Nat} {md : Int32} (h : tm_H σ c m t K V D vals sz md) (hq : ∀ u y, σ u = some y → y.1 ≠ q) : q ∉ tt_i t := fun hm => by
  obtain ⟨l, r, p, hM⟩ := tm_at h hm
  exact hq _ _ hM rfl
set_option maxHeartbeats 1000000 in
theorem mt_J19_put_2 {l : Launch} {G : kx_G} (htr : l.stackTraces = false) {σ : kx_H} {ct mp : Nat} {K V : Nat → Nat} {D : Nat → Int32} {vals : Option Nat} {sz : Nat} {md : Int32} {t : tt_T} (h : tm_H σ ct mp t K V D vals sz md) {key : Nat → Nat} (hk : tm_K G σ ct (tt_i t) K key) {x kv : Nat} (hx : kx_ig G σ ct x kv) (hkv : kv < 2147483648) (hno : ∀ a, a ∈ tt_i t → key a ≠ kv) {w : Nat} (hszz : t = tt_n → sz = 0) : kx_SP l G yJ19_put_2 (ws_ yJ19_put_2 cJ19_put_2 10 (some (.object "java/lang/Object"))) 6 1 6 [.ref mp, .ref x, .ref w, .int (nI 1)] σ (fun v τ => v = some .null ∧ ∃ q t' D', tm_H τ ct mp t' (tm_u K q x) (tm_u V q w) D' vals (sz + 1) (md + nI 1) ∧ (∃ A Cc, tt_i t = A ++ Cc ∧ tt_i t' = A ++ q :: Cc) ∧ tt_S (tm_k (tm_u key q kv)) (tt_i t') ∧ (∀ u y, σ u = some y → y.1 ≠ q) ∧ kx_Fr (fun u => tm_T ct (tt_i t) u ∨ u = (ct, 100 + q)) σ τ) kx_nx := by
  refine kx_body htr (by decide +kernel) (own := "java/util/TreeMap") (nm := "put") rfl rfl (Nat.le_of_ble_eq_true rfl) ?_
  intro p e s m args below meth c Q C hQ
  first | refine ri_aload_n C dJ19_put_2_0 rfl ?_ | refine ri_aload_nQ C dJ19_put_2_0 rfl ?_ | refine ri_aload_nN C dJ19_put_2_0 rfl ?_
  refine ri_getf C dJ19_put_2_1 fr_q577_18 h.1 (by rfl) ?_
  refine ri_astoreQ (x := tt_r t) C dJ19_put_2_4 rfl (by decide) ?_
  first | refine ri_aload C dJ19_put_2_6 rfl ?_ | refine ri_aloadQ C dJ19_put_2_6 rfl ?_ | refine ri_aloadN C dJ19_put_2_6 rfl ?_
  obtain ⟨t0, ht0⟩ : ∃ t0, t = t0 := ⟨_, rfl⟩
  rw [show tt_r t = tt_r t0 by rw [ht0]]
  rcases t0 with ⟨_⟩ | ⟨an0, tl0, tr0⟩
  · refine ri_ifnonnullN C dJ19_put_2_8 ?_
    first | refine ri_aload_n C dJ19_put_2_11 rfl ?_ | refine ri_aload_nQ C dJ19_put_2_11 rfl ?_ | refine ri_aload_nN C dJ19_put_2_11 rfl ?_
    first | refine ri_aload_n C dJ19_put_2_12 rfl ?_ | refine ri_aload_nQ C dJ19_put_2_12 rfl ?_ | refine ri_aload_nN C dJ19_put_2_12 rfl ?_
    first | refine ri_aload_n C dJ19_put_2_13 rfl ?_ | refine ri_aload_nQ C dJ19_put_2_13 rfl ?_ | refine ri_aload_nN C dJ19_put_2_13 rfl ?_
    refine ri_callV C km_J19_addEntryToEmptyMap q855 qs6 dJ19_put_2_14 (mt_J19_addEntryToEmptyMap htr (w := w) (by have h9 := h; rw [ht0] at h9; exact h9) hx hkv) rfl rfl (kx_rcN C h.1 rfl) ⟨⟨(Nat.le_of_ble_eq_true rfl), (Nat.le_of_ble_eq_true rfl)⟩, (Nat.le_of_ble_eq_true rfl), (Nat.le_of_ble_eq_true rfl), (Nat.le_of_ble_eq_true rfl)⟩ (fun v14 s14 h14 => ?_) (fun _ _ _ h => h.elim)
    obtain ⟨rfl, q9, D9, h9, f9, F9⟩ := h14
    refine ri_aconst_null C dJ19_put_2_17 ?_
    have hsz : sz + 1 = 1 := (by rw [hszz ht0])
    exact ri_aret C hQ dJ19_put_2_18 (Or.inl ⟨_, rfl⟩) (Or.inl rfl) (Nat.le_of_ble_eq_true rfl) (Nat.le_of_ble_eq_true rfl) ⟨rfl, q9, .branch q9 tt_n tt_n, D9, by rw [hsz]; exact h9, ⟨[], [], by rw [ht0]; rfl, rfl⟩, List.pairwise_singleton (fun a b => tm_k (tm_u key q9 kv) a < tm_k (tm_u key q9 kv) b) q9, f9, by rw [ht0]; exact F9⟩
  · refine ri_ifnonnull C 19 dJ19_put_2_8 rfl ?_
    first | refine ri_aload_n C dJ19_put_2_19 rfl ?_ | refine ri_aload_nQ C dJ19_put_2_19 rfl ?_ | refine ri_aload_nN C dJ19_put_2_19 rfl ?_
    refine ri_getf C dJ19_put_2_20 fr_q576_18 h.1 (by rfl) ?_
    first | refine ri_astore C dJ19_put_2_23 rfl (by decide) ?_ | refine ri_astoreQ C dJ19_put_2_23 rfl (by decide) ?_ | refine ri_astoreN C dJ19_put_2_23 rfl (by decide) ?_
    first | refine ri_aload C dJ19_put_2_25 rfl ?_ | refine ri_aloadQ C dJ19_put_2_25 rfl ?_ | refine ri_aloadN C dJ19_put_2_25 rfl ?_
    refine ri_ifnullN C 112 dJ19_put_2_27 rfl ?_
    first | refine ri_aload_n C dJ19_put_2_112 rfl ?_ | refine ri_aload_nQ C dJ19_put_2_112 rfl ?_ | refine ri_aload_nN C dJ19_put_2_112 rfl ?_
    refine ri_callS C km_J23_requireNonNull q1105 dJ19_put_2_113 (mt_J23_requireNonNull htr) rfl rfl ⟨⟨(Nat.le_of_ble_eq_true rfl), (Nat.le_of_ble_eq_true rfl)⟩, (Nat.le_of_ble_eq_true rfl), (Nat.le_of_ble_eq_true rfl), (Nat.le_of_ble_eq_true rfl)⟩ (fun v113 s113 h113 => ?_) (fun _ _ _ h => h.elim)
    obtain ⟨rfl, rfl⟩ := h113
    refine ri_pop C dJ19_put_2_116 rfl ?_
    first | refine ri_aload_n C dJ19_put_2_117 rfl ?_ | refine ri_aload_nQ C dJ19_put_2_117 rfl ?_ | refine ri_aload_nN C dJ19_put_2_117 rfl ?_
    refine ri_cast C dJ19_put_2_118 q863 (kx_rcI C hx) q868 ?_
    first | refine ri_astore C dJ19_put_2_121 rfl (by decide) ?_ | refine ri_astoreQ C dJ19_put_2_121 rfl (by decide) ?_ | refine ri_astoreN C dJ19_put_2_121 rfl (by decide) ?_
    have LP : ∀ (wk i : Nat) (Bx : tt_C) (an : Nat) (tl tr : tt_T), i ≤ (tt_i t).length → (tt_i t).length < i + wk → (t = tt_p Bx (.branch an tl tr) ∧ tt_F (tm_k key) kv Bx ∧ (tt_i tl).length + (tt_i tr).length + 1 + i ≤ (tt_i t).length) → kx_V G l p e (kx_rm 6 1 6) s m args below meth c 10 Q 123 [(0, .ref mp), (1, .ref x), (2, .ref w), (3, .int (nI 1)), (4, .ref an), (8, .ref x)] [] s113 0 0 := by
      intro wk
      induction wk with
      | zero => intro i Bx an tl tr h1 h2; exact absurd h2 (by omega)
      | succ wk ih =>
        intro i Bx an tl tr hi hwk hJ
        obtain ⟨hts, hF, hln2⟩ := hJ
        have hT := (tt_H_p Bx _).mp (hts ▸ h.2.1)
        obtain ⟨⟨hc, -, -⟩, -⟩ := hT
        have ha : an ∈ tt_i t := (by rw [hts, tt_i_p]; simp [tt_i])
        have hS : tt_S (tm_k key) (tt_i (tt_p Bx (.branch an tl tr))) := hts ▸ hk.2
        first | refine ri_aload C dJ19_put_2_123 rfl ?_ | refine ri_aloadQ C dJ19_put_2_123 rfl ?_ | refine ri_aloadN C dJ19_put_2_123 rfl ?_
        first | refine ri_astore C dJ19_put_2_125 rfl (by decide) ?_ | refine ri_astoreQ C dJ19_put_2_125 rfl (by decide) ?_ | refine ri_astoreN C dJ19_put_2_125 rfl (by decide) ?_
        first | refine ri_aload C dJ19_put_2_127 rfl ?_ | refine ri_aloadQ C dJ19_put_2_127 rfl ?_ | refine ri_aloadN C dJ19_put_2_127 rfl ?_
        first | refine ri_aload C dJ19_put_2_129 rfl ?_ | refine ri_aloadQ C dJ19_put_2_129 rfl ?_ | refine ri_aloadN C dJ19_put_2_129 rfl ?_
        refine ri_getf C dJ19_put_2_131 fr_q1082_19 hc (by rfl) ?_
        refine ri_callF C (x := ⟨"java/lang/Comparable", "compareTo", "(Ljava/lang/Object;)I"⟩) (Cn := "java/lang/Integer") km_J17_compareTo ⟨q867, q866, q872, q870, q868, by decide, by decide⟩ (by decide +kernel) q865 q869 dJ19_put_2_134 (mt_J17_compareTo htr hx (hk.1 an ha).1 ⟨hkv, (hk.1 an ha).2⟩) rfl rfl (kx_rcI C hx) ⟨⟨(Nat.le_of_ble_eq_true rfl), (Nat.le_of_ble_eq_true rfl)⟩, (Nat.le_of_ble_eq_true rfl), (Nat.le_of_ble_eq_true rfl), (Nat.le_of_ble_eq_true rfl)⟩ (fun v134 s134 h134 => ?_) (fun _ _ _ h => h.elim)
        obtain ⟨rfl, rfl⟩ := h134
        refine ri_istore C dJ19_put_2_139 rfl (by decide) ?_
        refine ri_iload C dJ19_put_2_141 rfl ?_
        refine ri_if_ge C 156 dJ19_put_2_143 rfl (fun h143 => ?_) (fun h143 => ?_)
        · refine ri_iload C dJ19_put_2_156 rfl ?_
          refine ri_if_le C 171 dJ19_put_2_158 rfl (fun h158 => ?_) (fun h158 => ?_)
          · exact absurd (kx_cmpN_eq (fun q => absurd h143 (Int32.not_le.mpr q)) (fun q => absurd h158 (Int32.not_le.mpr q))).symm (hno an ha) --dead
          · have hF2 : tt_F (tm_k key) kv ((false, an, tl) :: Bx) := tt_F_r hS hF (Int.ofNat_lt.mpr (kx_cmpN_gt (Int32.not_le.mp h158)))
            have hts2 : t = tt_p ((false, an, tl) :: Bx) tr := (by rw [hts]; rfl)
            first | refine ri_aload C dJ19_put_2_161 rfl ?_ | refine ri_aloadQ C dJ19_put_2_161 rfl ?_ | refine ri_aloadN C dJ19_put_2_161 rfl ?_
            refine ri_getf C dJ19_put_2_163 fr_q1087_19 hc (by rfl) ?_
            refine ri_astoreQ (x := tt_r tr) C dJ19_put_2_166 rfl (by decide) ?_
            refine ri_goto C 196 dJ19_put_2_168 rfl ?_
            first | refine ri_aload C dJ19_put_2_196 rfl ?_ | refine ri_aloadQ C dJ19_put_2_196 rfl ?_ | refine ri_aloadN C dJ19_put_2_196 rfl ?_
            rcases tr with ⟨_⟩ | ⟨bn, bl, br⟩
            · refine ri_ifnonnullN C dJ19_put_2_198 ?_
              first | refine ri_aload_n C dJ19_put_2_201 rfl ?_ | refine ri_aload_nQ C dJ19_put_2_201 rfl ?_ | refine ri_aload_nN C dJ19_put_2_201 rfl ?_
              first | refine ri_aload_n C dJ19_put_2_202 rfl ?_ | refine ri_aload_nQ C dJ19_put_2_202 rfl ?_ | refine ri_aload_nN C dJ19_put_2_202 rfl ?_
              first | refine ri_aload_n C dJ19_put_2_203 rfl ?_ | refine ri_aload_nQ C dJ19_put_2_203 rfl ?_ | refine ri_aload_nN C dJ19_put_2_203 rfl ?_
              first | refine ri_aload C dJ19_put_2_204 rfl ?_ | refine ri_aloadQ C dJ19_put_2_204 rfl ?_ | refine ri_aloadN C dJ19_put_2_204 rfl ?_
              refine ri_iload C dJ19_put_2_206 rfl ?_
              refine ri_if_ge C 215 dJ19_put_2_208 rfl (fun h208 => ?_) (fun h208 => ?_)
              · refine ri_iconst C dJ19_put_2_215 kc_i0 ?_
                refine ri_callV C km_J19_addEntry q1108 qs7 dJ19_put_2_216 (mt_J19_addEntry_false htr (x := x) (w := w) (Bx := Bx) (pa := an) (ts := tl) (hts2 ▸ h)) rfl rfl (kx_rcN C h.1 rfl) ⟨⟨(Nat.le_of_ble_eq_true rfl), (Nat.le_of_ble_eq_true rfl)⟩, (Nat.le_of_ble_eq_true rfl), (Nat.le_of_ble_eq_true rfl), (Nat.le_of_ble_eq_true rfl)⟩ (fun v216 s216 h216 => ?_) (fun _ _ _ h => h.elim)
                obtain ⟨rfl, q9, t9, D9, h9, i9, f9, F9⟩ := h216
                refine ri_aconst_null C dJ19_put_2_219 ?_
                have hid : tt_i t = tt_lc ((false, an, tl) :: Bx) ++ tt_rc ((false, an, tl) :: Bx) := (by rw [hts2, tt_i_p]; rfl)
                have hnq := tm_fresh h f9
                exact ri_aret C hQ dJ19_put_2_220 (Or.inl ⟨_, rfl⟩) (Or.inl rfl) (Nat.le_of_ble_eq_true rfl) (Nat.le_of_ble_eq_true rfl) ⟨rfl, q9, t9, D9, h9, ⟨_, _, hid, i9⟩, by rw [i9]; exact tm_S_u (by rw [← hid]; exact hnq) (by rw [← hid]; exact hk.2) (fun b hb => Int.ofNat_lt.mp (hF2.1 b hb)) (fun b hb => Int.ofNat_lt.mp (hF2.2 b hb)), f9, by rw [hts2]; exact F9⟩
              · exact absurd (Int32.le_of_lt (Int32.not_le.mp h158)) h208 --dead
            · have hln3 : (tt_i bl).length + (tt_i br).length + 1 + (i + 1) ≤ (tt_i t).length := (by simp only [tt_i, List.length_append, List.length_cons] at hln2; omega)
              refine ri_ifnonnull C 123 dJ19_put_2_198 rfl ?_
              refine ri_lv2 (ih (i + 1) ((false, an, tl) :: Bx) bn bl br (by omega) (by omega) ⟨hts2, hF2, hln3⟩) ⟨rfl, rfl, rfl, rfl, rfl, rfl, trivial⟩
        · have hF2 : tt_F (tm_k key) kv ((true, an, tr) :: Bx) := tt_F_l hS hF (Int.ofNat_lt.mpr (kx_cmpN_lt (Int32.not_le.mp h143)))
          have hts2 : t = tt_p ((true, an, tr) :: Bx) tl := (by rw [hts]; rfl)
          first | refine ri_aload C dJ19_put_2_146 rfl ?_ | refine ri_aloadQ C dJ19_put_2_146 rfl ?_ | refine ri_aloadN C dJ19_put_2_146 rfl ?_
          refine ri_getf C dJ19_put_2_148 fr_q1086_19 hc (by rfl) ?_
          refine ri_astoreQ (x := tt_r tl) C dJ19_put_2_151 rfl (by decide) ?_
          refine ri_goto C 196 dJ19_put_2_153 rfl ?_
          first | refine ri_aload C dJ19_put_2_196 rfl ?_ | refine ri_aloadQ C dJ19_put_2_196 rfl ?_ | refine ri_aloadN C dJ19_put_2_196 rfl ?_
          rcases tl with ⟨_⟩ | ⟨bn, bl, br⟩
          · refine ri_ifnonnullN C dJ19_put_2_198 ?_
            first | refine ri_aload_n C dJ19_put_2_201 rfl ?_ | refine ri_aload_nQ C dJ19_put_2_201 rfl ?_ | refine ri_aload_nN C dJ19_put_2_201 rfl ?_
            first | refine ri_aload_n C dJ19_put_2_202 rfl ?_ | refine ri_aload_nQ C dJ19_put_2_202 rfl ?_ | refine ri_aload_nN C dJ19_put_2_202 rfl ?_
            first | refine ri_aload_n C dJ19_put_2_203 rfl ?_ | refine ri_aload_nQ C dJ19_put_2_203 rfl ?_ | refine ri_aload_nN C dJ19_put_2_203 rfl ?_
            first | refine ri_aload C dJ19_put_2_204 rfl ?_ | refine ri_aloadQ C dJ19_put_2_204 rfl ?_ | refine ri_aloadN C dJ19_put_2_204 rfl ?_
            refine ri_iload C dJ19_put_2_206 rfl ?_
            refine ri_if_ge C 215 dJ19_put_2_208 rfl (fun h208 => ?_) (fun h208 => ?_)
            · exact absurd h208 h143 --dead
            · refine ri_iconst C dJ19_put_2_211 kc_i1 ?_
              refine ri_goto C 216 dJ19_put_2_212 rfl ?_
              refine ri_callV C km_J19_addEntry q1108 qs7 dJ19_put_2_216 (mt_J19_addEntry_true htr (x := x) (w := w) (Bx := Bx) (pa := an) (ts := tr) (hts2 ▸ h)) rfl rfl (kx_rcN C h.1 rfl) ⟨⟨(Nat.le_of_ble_eq_true rfl), (Nat.le_of_ble_eq_true rfl)⟩, (Nat.le_of_ble_eq_true rfl), (Nat.le_of_ble_eq_true rfl), (Nat.le_of_ble_eq_true rfl)⟩ (fun v216 s216 h216 => ?_) (fun _ _ _ h => h.elim)
              obtain ⟨rfl, q9, t9, D9, h9, i9, f9, F9⟩ := h216
              refine ri_aconst_null C dJ19_put_2_219 ?_
              have hid : tt_i t = tt_lc ((true, an, tr) :: Bx) ++ tt_rc ((true, an, tr) :: Bx) := (by rw [hts2, tt_i_p]; rfl)
              have hnq := tm_fresh h f9
              exact ri_aret C hQ dJ19_put_2_220 (Or.inl ⟨_, rfl⟩) (Or.inl rfl) (Nat.le_of_ble_eq_true rfl) (Nat.le_of_ble_eq_true rfl) ⟨rfl, q9, t9, D9, h9, ⟨_, _, hid, i9⟩, by rw [i9]; exact tm_S_u (by rw [← hid]; exact hnq) (by rw [← hid]; exact hk.2) (fun b hb => Int.ofNat_lt.mp (hF2.1 b hb)) (fun b hb => Int.ofNat_lt.mp (hF2.2 b hb)), f9, by rw [hts2]; exact F9⟩
          · have hln3 : (tt_i bl).length + (tt_i br).length + 1 + (i + 1) ≤ (tt_i t).length := (by simp only [tt_i, List.length_append, List.length_cons] at hln2; omega)
            refine ri_ifnonnull C 123 dJ19_put_2_198 rfl ?_
            refine ri_lv2 (ih (i + 1) ((true, an, tr) :: Bx) bn bl br (by omega) (by omega) ⟨hts2, hF2, hln3⟩) ⟨rfl, rfl, rfl, rfl, rfl, rfl, trivial⟩
    refine ri_lv2 (LP ((tt_i t).length + 1) 0 [] an0 tl0 tr0 (by omega) (by omega) ⟨ht0, tt_F_0, by rw [ht0]; simp only [tt_i, List.length_append, List.length_cons]; omega⟩) ⟨rfl, rfl, rfl, rfl, rfl, rfl, trivial⟩
set_option maxHeartbeats 1000000 in
theorem mt_J19_put {l : Launch} {G : kx_G} (htr : l.stackTraces = false) {σ : kx_H} {ct mp : Nat} {K V : Nat → Nat} {D : Nat → Int32} {vals : Option Nat} {sz : Nat} {md : Int32} {t : tt_T} (h : tm_H σ ct mp t K V D vals sz md) {key : Nat → Nat} (hk : tm_K G σ ct (tt_i t) K key) {x kv : Nat} (hx : kx_ig G σ ct x kv) (hkv : kv < 2147483648) (hno : ∀ a, a ∈ tt_i t → key a ≠ kv) {w : Nat} (hszz : t = tt_n → sz = 0) : kx_SP l G yJ19_put (ws_ yJ19_put cJ19_put 3 (some (.object "java/lang/Object"))) 7 1 6 [.ref mp, .ref x, .ref w] σ (fun v τ => v = some .null ∧ ∃ q t' D', tm_H τ ct mp t' (tm_u K q x) (tm_u V q w) D' vals (sz + 1) (md + nI 1) ∧ (∃ A Cc, tt_i t = A ++ Cc ∧ tt_i t' = A ++ q :: Cc) ∧ tt_S (tm_k (tm_u key q kv)) (tt_i t') ∧ (∀ u y, σ u = some y → y.1 ≠ q) ∧ kx_Fr (fun u => tm_T ct (tt_i t) u ∨ u = (ct, 100 + q)) σ τ) kx_nx := by
  refine kx_body htr (by decide +kernel) (own := "java/util/TreeMap") (nm := "put") rfl rfl (Nat.le_of_ble_eq_true rfl) ?_
  intro p e s m args below meth c Q C hQ
  first | refine ri_aload_n C dJ19_put_0 rfl ?_ | refine ri_aload_nQ C dJ19_put_0 rfl ?_ | refine ri_aload_nN C dJ19_put_0 rfl ?_
  first | refine ri_aload_n C dJ19_put_1 rfl ?_ | refine ri_aload_nQ C dJ19_put_1 rfl ?_ | refine ri_aload_nN C dJ19_put_1 rfl ?_
  first | refine ri_aload_n C dJ19_put_2 rfl ?_ | refine ri_aload_nQ C dJ19_put_2 rfl ?_ | refine ri_aload_nN C dJ19_put_2 rfl ?_
  refine ri_iconst C dJ19_put_3 kc_i1 ?_
  refine ri_callV C km_J19_put_2 q851 qs5 dJ19_put_4 (mt_J19_put_2 htr h hk hx hkv hno hszz) rfl rfl (kx_rcN C h.1 rfl) ⟨⟨(Nat.le_of_ble_eq_true rfl), (Nat.le_of_ble_eq_true rfl)⟩, (Nat.le_of_ble_eq_true rfl), (Nat.le_of_ble_eq_true rfl), (Nat.le_of_ble_eq_true rfl)⟩ (fun v4 s4 h4 => ?_) (fun _ _ _ h => h.elim)
  obtain ⟨rfl, g4⟩ := h4
  exact ri_aret C hQ dJ19_put_7 (Or.inl ⟨_, rfl⟩) (Or.inl rfl) (Nat.le_of_ble_eq_true rfl) (Nat.le_of_ble_eq_true rfl) ⟨rfl, g4⟩
