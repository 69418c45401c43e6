/-! the reference: what only reads, first part -/
set_option maxRecDepth 100000
theorem mx_fm : ∀ r, (r = 12 ∨ r = 16) → ∀ a, a < r → ∀ b, b < r → (0 ≤ ((nI a - nI b) ^^^ nI r) → (nI a - nI b) - (nI a - nI b) / nI r * nI r = nI ((a + r - b) % r)) ∧ (¬ 0 ≤ ((nI a - nI b) ^^^ nI r) → ((nI a - nI b) - (nI a - nI b) / nI r * nI r = 0 → (nI a - nI b) - (nI a - nI b) / nI r * nI r = nI ((a + r - b) % r)) ∧ (¬ (nI a - nI b) - (nI a - nI b) / nI r * nI r = 0 → (nI a - nI b) - (nI a - nI b) / nI r * nI r + nI r = nI ((a + r - b) % r))) := by
  have h12 : ∀ a, a < 12 → ∀ b, b < 12 → (0 ≤ ((nI a - nI b) ^^^ nI 12) → (nI a - nI b) - (nI a - nI b) / nI 12 * nI 12 = nI ((a + 12 - b) % 12)) ∧ (¬ 0 ≤ ((nI a - nI b) ^^^ nI 12) → ((nI a - nI b) - (nI a - nI b) / nI 12 * nI 12 = 0 → (nI a - nI b) - (nI a - nI b) / nI 12 * nI 12 = nI ((a + 12 - b) % 12)) ∧ (¬ (nI a - nI b) - (nI a - nI b) / nI 12 * nI 12 = 0 → (nI a - nI b) - (nI a - nI b) / nI 12 * nI 12 + nI 12 = nI ((a + 12 - b) % 12))) := by decide +kernel
  have h16 : ∀ a, a < 16 → ∀ b, b < 16 → (0 ≤ ((nI a - nI b) ^^^ nI 16) → (nI a - nI b) - (nI a - nI b) / nI 16 * nI 16 = nI ((a + 16 - b) % 16)) ∧ (¬ 0 ≤ ((nI a - nI b) ^^^ nI 16) → ((nI a - nI b) - (nI a - nI b) / nI 16 * nI 16 = 0 → (nI a - nI b) - (nI a - nI b) / nI 16 * nI 16 = nI ((a + 16 - b) % 16)) ∧ (¬ (nI a - nI b) - (nI a - nI b) / nI 16 * nI 16 = 0 → (nI a - nI b) - (nI a - nI b) / nI 16 * nI 16 + nI 16 = nI ((a + 16 - b) % 16))) := by decide +kernel
  intro r hr
  rcases hr with rfl | rfl
  · exact h12
  · exact h16
set_option maxHeartbeats 1000000 in
theorem mt_J12_floorMod {l : Launch} {G : kx_G} (htr : l.stackTraces = false) {σ : kx_H} {r a b : Nat} (hr : r = 12 ∨ r = 16) (ha : a < r) (hb : b < r) : kx_SP l G yJ12_floorMod (ws_ yJ12_floorMod cJ12_floorMod 3 (some .int)) 1 0 0 [.int (nI a - nI b), .int (nI r)] σ (fun v τ => v = some (.int (nI (mx_st r b a))) ∧ τ = σ) kx_nx := by
  refine kx_body htr (by decide +kernel) (own := "java/lang/Math") (nm := "floorMod") rfl rfl (Nat.le_of_ble_eq_true rfl) ?_
  intro p e s m args below meth c Q C hQ
  have hm := mx_fm r hr a ha b hb
  have hz : ¬ nI r = 0 := by rcases hr with rfl | rfl <;> decide
  refine ri_iload_n C dJ12_floorMod_0 rfl ?_
  refine ri_iload_n C dJ12_floorMod_1 rfl ?_
  refine ri_irem C dJ12_floorMod_2 hz ?_
  refine ri_istore_n C dJ12_floorMod_3 rfl (by decide) ?_
  refine ri_iload_n C dJ12_floorMod_4 rfl ?_
  refine ri_iload_n C dJ12_floorMod_5 rfl ?_
  refine ri_ixor C dJ12_floorMod_6 ?_
  refine ri_if_ge C 18 dJ12_floorMod_7 rfl (fun h7 => ?_) (fun h7 => ?_)
  · refine ri_iload_n C dJ12_floorMod_18 rfl ?_
    exact ri_iret C hQ dJ12_floorMod_19 rfl (Nat.le_of_ble_eq_true rfl) (Nat.le_of_ble_eq_true rfl) (by refine ⟨congrArg (fun z => some (Value.int z)) ?_, rfl⟩; first | exact hm.1 h7 | exact (hm.2 h7).1 h11)
  · refine ri_iload_n C dJ12_floorMod_10 rfl ?_
    refine ri_if_eq C 18 dJ12_floorMod_11 rfl (fun h11 => ?_) (fun h11 => ?_)
    · refine ri_iload_n C dJ12_floorMod_18 rfl ?_
      exact ri_iret C hQ dJ12_floorMod_19 rfl (Nat.le_of_ble_eq_true rfl) (Nat.le_of_ble_eq_true rfl) (by refine ⟨congrArg (fun z => some (Value.int z)) ?_, rfl⟩; first | exact hm.1 h7 | exact (hm.2 h7).1 h11)
    · refine ri_iload_n C dJ12_floorMod_14 rfl ?_
      refine ri_iload_n C dJ12_floorMod_15 rfl ?_
      refine ri_iadd C dJ12_floorMod_16 ?_
      exact ri_iret C hQ dJ12_floorMod_17 rfl (Nat.le_of_ble_eq_true rfl) (Nat.le_of_ble_eq_true rfl) (by refine ⟨congrArg (fun z => some (Value.int z)) ?_, rfl⟩; exact (hm.2 h7).2 h11)
set_option maxHeartbeats 1000000 in
theorem mt_J12_max {l : Launch} {G : kx_G} (htr : l.stackTraces = false) {σ : kx_H} {a b : Nat} (ha : a < 2147483648) (hb : b < 2147483648) : kx_SP l G yJ12_max (ws_ yJ12_max cJ12_max 2 (some .int)) 1 0 0 [.int (nI a), .int (nI b)] σ (fun v τ => v = some (.int (nI (Nat.max a b))) ∧ τ = σ) kx_nx := by
  refine kx_body htr (by decide +kernel) (own := "java/lang/Math") (nm := "max") rfl rfl (Nat.le_of_ble_eq_true rfl) ?_
  intro p e s m args below meth c Q C hQ
  refine ri_iload_n C dJ12_max_0 rfl ?_
  refine ri_iload_n C dJ12_max_1 rfl ?_
  first | refine ri_icmp_ltN C 9 dJ12_max_2 rfl (by omega) (by omega) (fun h2 => ?_) (fun h2 => ?_) | refine ri_icmp_lt C 9 dJ12_max_2 rfl (fun h2 => ?_) (fun h2 => ?_)
  · refine ri_iload_n C dJ12_max_9 rfl ?_
    exact ri_iret C hQ dJ12_max_10 rfl (Nat.le_of_ble_eq_true rfl) (Nat.le_of_ble_eq_true rfl) (by refine ⟨congrArg (fun z => some (Value.int z)) ?_, rfl⟩; refine congrArg nI ?_; simp only [Nat.max_def]; split <;> omega)
  · refine ri_iload_n C dJ12_max_5 rfl ?_
    refine ri_goto C 10 dJ12_max_6 rfl ?_
    exact ri_iret C hQ dJ12_max_10 rfl (Nat.le_of_ble_eq_true rfl) (Nat.le_of_ble_eq_true rfl) (by refine ⟨congrArg (fun z => some (Value.int z)) ?_, rfl⟩; refine congrArg nI ?_; simp only [Nat.max_def]; split <;> omega)
set_option maxHeartbeats 1000000 in
theorem mt_J12_min {l : Launch} {G : kx_G} (htr : l.stackTraces = false) {σ : kx_H} {a b : Nat} (ha : a < 2147483648) (hb : b < 2147483648) : kx_SP l G yJ12_min (ws_ yJ12_min cJ12_min 2 (some .int)) 1 0 0 [.int (nI a), .int (nI b)] σ (fun v τ => v = some (.int (nI (Nat.min a b))) ∧ τ = σ) kx_nx := by
  refine kx_body htr (by decide +kernel) (own := "java/lang/Math") (nm := "min") rfl rfl (Nat.le_of_ble_eq_true rfl) ?_
  intro p e s m args below meth c Q C hQ
  refine ri_iload_n C dJ12_min_0 rfl ?_
  refine ri_iload_n C dJ12_min_1 rfl ?_
  first | refine ri_icmp_gtN C 9 dJ12_min_2 rfl (by omega) (by omega) (fun h2 => ?_) (fun h2 => ?_) | refine ri_icmp_gt C 9 dJ12_min_2 rfl (fun h2 => ?_) (fun h2 => ?_)
  · refine ri_iload_n C dJ12_min_9 rfl ?_
    exact ri_iret C hQ dJ12_min_10 rfl (Nat.le_of_ble_eq_true rfl) (Nat.le_of_ble_eq_true rfl) (by refine ⟨congrArg (fun z => some (Value.int z)) ?_, rfl⟩; refine congrArg nI ?_; simp only [Nat.min_def]; split <;> omega)
  · refine ri_iload_n C dJ12_min_5 rfl ?_
    refine ri_goto C 10 dJ12_min_6 rfl ?_
    exact ri_iret C hQ dJ12_min_10 rfl (Nat.le_of_ble_eq_true rfl) (Nat.le_of_ble_eq_true rfl) (by refine ⟨congrArg (fun z => some (Value.int z)) ?_, rfl⟩; refine congrArg nI ?_; simp only [Nat.min_def]; split <;> omega)
set_option maxHeartbeats 1000000 in
theorem mt_X4_inRange {l : Launch} {G : kx_G} (htr : l.stackTraces = false) {σ : kx_H} {x lo hi : Int32} : kx_SP l G yX4_inRange (ws_ yX4_inRange cX4_inRange 3 (some .boolean)) 1 0 0 [.int x, .int lo, .int hi] σ (fun v τ => v = some (.int (kx_b (decide (lo ≤ x ∧ x ≤ hi)))) ∧ τ = σ) kx_nx := by
  refine kx_body htr (by decide +kernel) (own := "RoseProverbsModel") (nm := "inRange") rfl rfl (Nat.le_of_ble_eq_true rfl) ?_
  intro p e s m args below meth c Q C hQ
  refine ri_iload_n C dX4_inRange_0 rfl ?_
  refine ri_iload_n C dX4_inRange_1 rfl ?_
  refine ri_icmp_lt C 14 dX4_inRange_2 rfl (fun h2 => ?_) (fun h2 => ?_)
  · refine ri_iconst C dX4_inRange_14 kc_i0 ?_
    exact ri_iret C hQ dX4_inRange_15 rfl (Nat.le_of_ble_eq_true rfl) (Nat.le_of_ble_eq_true rfl) (by refine ⟨congrArg (fun z => some (Value.int z)) ?_, rfl⟩; first | exact kx_b_t (by simp only [decide_eq_true_eq, decide_eq_false_iff_not]; (try rw [Int32.lt_iff_toInt_lt] at h2); (try rw [Int32.lt_iff_toInt_lt] at h7); (try rw [Int32.le_iff_toInt_le] at h2); (try rw [Int32.le_iff_toInt_le] at h7); rw [Int32.le_iff_toInt_le, Int32.le_iff_toInt_le]; omega) | exact kx_b_f (by simp only [decide_eq_true_eq, decide_eq_false_iff_not]; (try rw [Int32.lt_iff_toInt_lt] at h2); (try rw [Int32.lt_iff_toInt_lt] at h7); (try rw [Int32.le_iff_toInt_le] at h2); (try rw [Int32.le_iff_toInt_le] at h7); rw [Int32.le_iff_toInt_le, Int32.le_iff_toInt_le]; omega))
  · refine ri_iload_n C dX4_inRange_5 rfl ?_
    refine ri_iload_n C dX4_inRange_6 rfl ?_
    refine ri_icmp_gt C 14 dX4_inRange_7 rfl (fun h7 => ?_) (fun h7 => ?_)
    · refine ri_iconst C dX4_inRange_14 kc_i0 ?_
      exact ri_iret C hQ dX4_inRange_15 rfl (Nat.le_of_ble_eq_true rfl) (Nat.le_of_ble_eq_true rfl) (by refine ⟨congrArg (fun z => some (Value.int z)) ?_, rfl⟩; first | exact kx_b_t (by simp only [decide_eq_true_eq, decide_eq_false_iff_not]; (try rw [Int32.lt_iff_toInt_lt] at h2); (try rw [Int32.lt_iff_toInt_lt] at h7); (try rw [Int32.le_iff_toInt_le] at h2); (try rw [Int32.le_iff_toInt_le] at h7); rw [Int32.le_iff_toInt_le, Int32.le_iff_toInt_le]; omega) | exact kx_b_f (by simp only [decide_eq_true_eq, decide_eq_false_iff_not]; (try rw [Int32.lt_iff_toInt_lt] at h2); (try rw [Int32.lt_iff_toInt_lt] at h7); (try rw [Int32.le_iff_toInt_le] at h2); (try rw [Int32.le_iff_toInt_le] at h7); rw [Int32.le_iff_toInt_le, Int32.le_iff_toInt_le]; omega))
    · refine ri_iconst C dX4_inRange_10 kc_i1 ?_
      refine ri_goto C 15 dX4_inRange_11 rfl ?_
      exact ri_iret C hQ dX4_inRange_15 rfl (Nat.le_of_ble_eq_true rfl) (Nat.le_of_ble_eq_true rfl) (by refine ⟨congrArg (fun z => some (Value.int z)) ?_, rfl⟩; first | exact kx_b_t (by simp only [decide_eq_true_eq, decide_eq_false_iff_not]; (try rw [Int32.lt_iff_toInt_lt] at h2); (try rw [Int32.lt_iff_toInt_lt] at h7); (try rw [Int32.le_iff_toInt_le] at h2); (try rw [Int32.le_iff_toInt_le] at h7); rw [Int32.le_iff_toInt_le, Int32.le_iff_toInt_le]; omega) | exact kx_b_f (by simp only [decide_eq_true_eq, decide_eq_false_iff_not]; (try rw [Int32.lt_iff_toInt_lt] at h2); (try rw [Int32.lt_iff_toInt_lt] at h7); (try rw [Int32.le_iff_toInt_le] at h2); (try rw [Int32.le_iff_toInt_le] at h7); rw [Int32.le_iff_toInt_le, Int32.le_iff_toInt_le]; omega))
set_option maxHeartbeats 1000000 in
theorem mt_X4_one {l : Launch} {G : kx_G} (htr : l.stackTraces = false) {σ : kx_H} {b : Bool} : kx_SP l G yX4_one (ws_ yX4_one cX4_one 1 (some .int)) 1 0 0 [.int (kx_b b)] σ (fun v τ => v = some (.int (nI b.toNat)) ∧ τ = σ) kx_nx := by
  refine kx_body htr (by decide +kernel) (own := "RoseProverbsModel") (nm := "one") rfl rfl (Nat.le_of_ble_eq_true rfl) ?_
  intro p e s m args below meth c Q C hQ
  refine ri_iload_n C dX4_one_0 rfl ?_
  first | refine ri_if_eqB C 8 dX4_one_1 rfl (fun h1 => ?_) (fun h1 => ?_) | refine ri_if_eqN C 8 dX4_one_1 rfl (by omega) (fun h1 => ?_) (fun h1 => ?_) | refine ri_if_eq C 8 dX4_one_1 rfl (fun h1 => ?_) (fun h1 => ?_)
  · refine ri_iconst C dX4_one_8 kc_i0 ?_
    exact ri_iret C hQ dX4_one_9 rfl (Nat.le_of_ble_eq_true rfl) (Nat.le_of_ble_eq_true rfl) (by refine ⟨congrArg (fun z => some (Value.int z)) ?_, rfl⟩; rw [h1]; rfl)
  · refine ri_iconst C dX4_one_4 kc_i1 ?_
    refine ri_goto C 9 dX4_one_5 rfl ?_
    exact ri_iret C hQ dX4_one_9 rfl (Nat.le_of_ble_eq_true rfl) (Nat.le_of_ble_eq_true rfl) (by refine ⟨congrArg (fun z => some (Value.int z)) ?_, rfl⟩; rw [h1]; rfl)
set_option maxHeartbeats 1000000 in
theorem mt_X4_of {l : Launch} {G : kx_G} (htr : l.stackTraces = false) {σ : kx_H} {mo : Nat} {ad : Nat → Nat} {z : Nat → Int32} {u : Nat → Nat} {k j : Nat} (h0 : σ (1, 0) = some (mo, .inr (3, mo_L ad z))) (hw : σ (1, 1) = some (ad 0, kx_ai G 1417 (mx_w u))) (hk : k < 24 ∧ j < 10) : kx_SP l G yX4_of (ws_ yX4_of cX4_of 3 (some .int)) 1 0 0 [.ref mo, .int (nI k), .int (nI j)] σ (fun v τ => v = some (.int (nI (mx_p u k j))) ∧ τ = σ) kx_nx := by
  refine kx_body htr (by decide +kernel) (own := "RoseProverbsModel") (nm := "of") rfl rfl (Nat.le_of_ble_eq_true rfl) ?_
  intro p e s m args below meth c Q C hQ
  first | refine ri_aload_n C dX4_of_0 rfl ?_ | refine ri_aload_nQ C dX4_of_0 rfl ?_ | refine ri_aload_nN C dX4_of_0 rfl ?_
  refine ri_getf C dX4_of_1 fr_q2970_3 (by first | assumption | (repeat (first | assumption | exact kx_rs (by assumption) | exact kx_ne2 (by omega) | exact kx_ne1 (by omega) | refine kx_ro (by assumption) ?_ ?_ | exact kx_rs rfl | refine kx_ro rfl ?_ ?_))) (by rfl) ?_
  refine ri_bipush C dX4_of_4 kc_b25 ?_
  refine ri_bipush C dX4_of_6 kc_b10 ?_
  refine ri_iload_n C dX4_of_8 rfl ?_
  first | refine ri_imulN C dX4_of_9 ?_ | refine ri_imul C dX4_of_9 ?_
  first | refine ri_iaddN C dX4_of_10 ?_ | refine ri_iadd C dX4_of_10 ?_
  refine ri_iload_n C dX4_of_11 rfl ?_
  first | refine ri_iaddN C dX4_of_12 ?_ | refine ri_iadd C dX4_of_12 ?_
  first | refine ri_ialoadN C dX4_of_13 (by first | assumption | (repeat (first | assumption | exact kx_rs (by assumption) | exact kx_ne2 (by omega) | exact kx_ne1 (by omega) | refine kx_ro (by assumption) ?_ ?_ | exact kx_rs rfl | refine kx_ro rfl ?_ ?_))) rfl (by omega) ?_ | refine ri_iaload C dX4_of_13 (by first | assumption | (repeat (first | assumption | exact kx_rs (by assumption) | exact kx_ne2 (by omega) | exact kx_ne1 (by omega) | refine kx_ro (by assumption) ?_ ?_ | exact kx_rs rfl | refine kx_ro rfl ?_ ?_))) rfl (by omega) ?_
  exact ri_iret C hQ dX4_of_14 rfl (Nat.le_of_ble_eq_true rfl) (Nat.le_of_ble_eq_true rfl) ⟨rfl, rfl⟩
set_option maxHeartbeats 1000000 in
theorem mt_X4_isLive {l : Launch} {G : kx_G} (htr : l.stackTraces = false) {σ : kx_H} {mo : Nat} {ad : Nat → Nat} {z : Nat → Int32} {u : Nat → Nat} {k : Nat} (h0 : σ (1, 0) = some (mo, .inr (3, mo_L ad z))) (hw : σ (1, 1) = some (ad 0, kx_ai G 1417 (mx_w u))) (hk : k < 24) (hu : mx_p u k 9 ≤ 1) : kx_SP l G yX4_isLive (ws_ yX4_isLive cX4_isLive 2 (some .boolean)) 2 0 0 [.ref mo, .int (nI k)] σ (fun v τ => v = some (.int (kx_b (mx_live u k))) ∧ τ = σ) kx_nx := by
  refine kx_body htr (by decide +kernel) (own := "RoseProverbsModel") (nm := "isLive") rfl rfl (Nat.le_of_ble_eq_true rfl) ?_
  intro p e s m args below meth c Q C hQ
  first | refine ri_aload_n C dX4_isLive_0 rfl ?_ | refine ri_aload_nQ C dX4_isLive_0 rfl ?_ | refine ri_aload_nN C dX4_isLive_0 rfl ?_
  refine ri_iload_n C dX4_isLive_1 rfl ?_
  refine ri_bipush C dX4_isLive_2 kc_b9 ?_
  refine ri_callV C km_X4_of q3140 qs75 dX4_isLive_4 (mt_X4_of htr h0 hw (by omega)) rfl rfl (kx_rcN C (by first | assumption | (repeat (first | assumption | exact kx_rs (by assumption) | exact kx_ne2 (by omega) | exact kx_ne1 (by omega) | refine kx_ro (by assumption) ?_ ?_ | exact kx_rs rfl | refine kx_ro rfl ?_ ?_))) rfl) ⟨⟨(Nat.le_of_ble_eq_true rfl), (Nat.le_of_ble_eq_true rfl)⟩, (Nat.le_of_ble_eq_true rfl), (Nat.le_of_ble_eq_true rfl), (Nat.le_of_ble_eq_true rfl)⟩ (fun v4 s4 h4 => ?_) (fun _ _ _ h => h.elim)
  obtain ⟨rfl, rfl⟩ := h4
  first | refine ri_if_neB C 14 dX4_isLive_7 rfl (fun h7 => ?_) (fun h7 => ?_) | refine ri_if_neN C 14 dX4_isLive_7 rfl (by omega) (fun h7 => ?_) (fun h7 => ?_) | refine ri_if_ne C 14 dX4_isLive_7 rfl (fun h7 => ?_) (fun h7 => ?_)
  · refine ri_iconst C dX4_isLive_14 kc_i0 ?_
    exact ri_iret C hQ dX4_isLive_15 rfl (Nat.le_of_ble_eq_true rfl) (Nat.le_of_ble_eq_true rfl) (by refine ⟨congrArg (fun z => some (Value.int z)) ?_, rfl⟩; first | exact kx_b_t (by unfold mx_live; rw [Nat.beq_eq]; omega) | exact kx_b_f (by unfold mx_live; rw [← Bool.not_eq_true, Nat.beq_eq]; omega))
  · refine ri_iconst C dX4_isLive_10 kc_i1 ?_
    refine ri_goto C 15 dX4_isLive_11 rfl ?_
    exact ri_iret C hQ dX4_isLive_15 rfl (Nat.le_of_ble_eq_true rfl) (Nat.le_of_ble_eq_true rfl) (by refine ⟨congrArg (fun z => some (Value.int z)) ?_, rfl⟩; first | exact kx_b_t (by unfold mx_live; rw [Nat.beq_eq]; omega) | exact kx_b_f (by unfold mx_live; rw [← Bool.not_eq_true, Nat.beq_eq]; omega))
set_option maxHeartbeats 1000000 in
theorem mt_X4_width {l : Launch} {G : kx_G} (htr : l.stackTraces = false) {σ : kx_H} {r a b : Nat} (hr : r = 12 ∨ r = 16) (ha : a < r) (hb : b < r) : kx_SP l G yX4_width (ws_ yX4_width cX4_width 3 (some .int)) 2 0 0 [.int (nI b), .int (nI a), .int (nI r)] σ (fun v τ => v = some (.int (nI (mx_st r b a + 1))) ∧ τ = σ) kx_nx := by
  refine kx_body htr (by decide +kernel) (own := "RoseProverbsModel") (nm := "width") rfl rfl (Nat.le_of_ble_eq_true rfl) ?_
  intro p e s m args below meth c Q C hQ
  refine ri_iload_n C dX4_width_0 rfl ?_
  refine ri_iload_n C dX4_width_1 rfl ?_
  refine ri_isub C dX4_width_2 ?_
  refine ri_iload_n C dX4_width_3 rfl ?_
  refine ri_callS C km_J12_floorMod q3232 dX4_width_4 (mt_J12_floorMod htr hr ha hb) rfl rfl ⟨⟨(Nat.le_of_ble_eq_true rfl), (Nat.le_of_ble_eq_true rfl)⟩, (Nat.le_of_ble_eq_true rfl), (Nat.le_of_ble_eq_true rfl), (Nat.le_of_ble_eq_true rfl)⟩ (fun v4 s4 h4 => ?_) (fun _ _ _ h => h.elim)
  obtain ⟨rfl, rfl⟩ := h4
  refine ri_iconst C dX4_width_7 kc_i1 ?_
  first | refine ri_iaddN C dX4_width_8 ?_ | refine ri_iadd C dX4_width_8 ?_
  exact ri_iret C hQ dX4_width_9 rfl (Nat.le_of_ble_eq_true rfl) (Nat.le_of_ble_eq_true rfl) ⟨rfl, rfl⟩
theorem mx_st_lt {r a x : Nat} (hr : 0 < r) : mx_st r a x < r := Nat.mod_lt _ hr
set_option maxHeartbeats 1000000 in
theorem mt_X4_isWithin {l : Launch} {G : kx_G} (htr : l.stackTraces = false) {σ : kx_H} {r x a b : Nat} (hr : r = 12 ∨ r = 16) (hx : x < r) (ha : a < r) (hb : b < r) : kx_SP l G yX4_isWithin (ws_ yX4_isWithin cX4_isWithin 4 (some .boolean)) 3 0 0 [.int (nI x), .int (nI a), .int (nI b), .int (nI r)] σ (fun v τ => v = some (.int (kx_b (mx_btw r x a b))) ∧ τ = σ) kx_nx := by
  refine kx_body htr (by decide +kernel) (own := "RoseProverbsModel") (nm := "isWithin") rfl rfl (Nat.le_of_ble_eq_true rfl) ?_
  intro p e s m args below meth c Q C hQ
  have g1 : mx_st r a x < r := mx_st_lt (by omega)
  have g2 : mx_st r a b < r := mx_st_lt (by omega)
  refine ri_iload_n C dX4_isWithin_0 rfl ?_
  refine ri_iload_n C dX4_isWithin_1 rfl ?_
  refine ri_isub C dX4_isWithin_2 ?_
  refine ri_iload_n C dX4_isWithin_3 rfl ?_
  refine ri_callS C km_J12_floorMod q3232 dX4_isWithin_4 (mt_J12_floorMod htr hr hx ha) rfl rfl ⟨⟨(Nat.le_of_ble_eq_true rfl), (Nat.le_of_ble_eq_true rfl)⟩, (Nat.le_of_ble_eq_true rfl), (Nat.le_of_ble_eq_true rfl), (Nat.le_of_ble_eq_true rfl)⟩ (fun v4 s4 h4 => ?_) (fun _ _ _ h => h.elim)
  obtain ⟨rfl, rfl⟩ := h4
  refine ri_iload_n C dX4_isWithin_7 rfl ?_
  refine ri_iload_n C dX4_isWithin_8 rfl ?_
  refine ri_iload_n C dX4_isWithin_9 rfl ?_
  refine ri_callS C km_X4_width q3235 dX4_isWithin_10 (mt_X4_width htr hr hb ha) rfl rfl ⟨⟨(Nat.le_of_ble_eq_true rfl), (Nat.le_of_ble_eq_true rfl)⟩, (Nat.le_of_ble_eq_true rfl), (Nat.le_of_ble_eq_true rfl), (Nat.le_of_ble_eq_true rfl)⟩ (fun v10 s10 h10 => ?_) (fun _ _ _ h => h.elim)
  obtain ⟨rfl, rfl⟩ := h10
  first | refine ri_icmp_geN C 20 dX4_isWithin_13 rfl (by omega) (by omega) (fun h13 => ?_) (fun h13 => ?_) | refine ri_icmp_ge C 20 dX4_isWithin_13 rfl (fun h13 => ?_) (fun h13 => ?_)
  · refine ri_iconst C dX4_isWithin_20 kc_i0 ?_
    exact ri_iret C hQ dX4_isWithin_21 rfl (Nat.le_of_ble_eq_true rfl) (Nat.le_of_ble_eq_true rfl) (by refine ⟨congrArg (fun z => some (Value.int z)) ?_, rfl⟩; first | exact kx_b_t (by unfold mx_btw; simp only [Nat.ble_eq, ← Bool.not_eq_true]; omega) | exact kx_b_f (by unfold mx_btw; simp only [Nat.ble_eq, ← Bool.not_eq_true]; omega))
  · refine ri_iconst C dX4_isWithin_16 kc_i1 ?_
    refine ri_goto C 21 dX4_isWithin_17 rfl ?_
    exact ri_iret C hQ dX4_isWithin_21 rfl (Nat.le_of_ble_eq_true rfl) (Nat.le_of_ble_eq_true rfl) (by refine ⟨congrArg (fun z => some (Value.int z)) ?_, rfl⟩; first | exact kx_b_t (by unfold mx_btw; simp only [Nat.ble_eq, ← Bool.not_eq_true]; omega) | exact kx_b_f (by unfold mx_btw; simp only [Nat.ble_eq, ← Bool.not_eq_true]; omega))
set_option maxHeartbeats 1000000 in
theorem mt_X4_hasPoint {l : Launch} {G : kx_G} (htr : l.stackTraces = false) {σ : kx_H} {mo : Nat} {ad : Nat → Nat} {z : Nat → Int32} {u : Nat → Nat} {k x : Nat} (h0 : σ (1, 0) = some (mo, .inr (3, mo_L ad z))) (hw : σ (1, 1) = some (ad 0, kx_ai G 1417 (mx_w u))) (hk : k < 24) (g0 : mx_p u k 0 < 16) (g1 : mx_p u k 1 < 16) (hx : x < 16) : kx_SP l G yX4_hasPoint (ws_ yX4_hasPoint cX4_hasPoint 3 (some .boolean)) 4 0 0 [.ref mo, .int (nI k), .int (nI x)] σ (fun v τ => v = some (.int (kx_b (mx_hp u k x))) ∧ τ = σ) kx_nx := by
  refine kx_body htr (by decide +kernel) (own := "RoseProverbsModel") (nm := "hasPoint") rfl rfl (Nat.le_of_ble_eq_true rfl) ?_
  intro p e s m args below meth c Q C hQ
  refine ri_iload_n C dX4_hasPoint_0 rfl ?_
  first | refine ri_aload_n C dX4_hasPoint_1 rfl ?_ | refine ri_aload_nQ C dX4_hasPoint_1 rfl ?_ | refine ri_aload_nN C dX4_hasPoint_1 rfl ?_
  refine ri_iload_n C dX4_hasPoint_2 rfl ?_
  refine ri_iconst C dX4_hasPoint_3 kc_i0 ?_
  refine ri_callV C km_X4_of q3140 qs75 dX4_hasPoint_4 (mt_X4_of htr h0 hw (by omega)) rfl rfl (kx_rcN C (by first | assumption | (repeat (first | assumption | exact kx_rs (by assumption) | exact kx_ne2 (by omega) | exact kx_ne1 (by omega) | refine kx_ro (by assumption) ?_ ?_ | exact kx_rs rfl | refine kx_ro rfl ?_ ?_))) rfl) ⟨⟨(Nat.le_of_ble_eq_true rfl), (Nat.le_of_ble_eq_true rfl)⟩, (Nat.le_of_ble_eq_true rfl), (Nat.le_of_ble_eq_true rfl), (Nat.le_of_ble_eq_true rfl)⟩ (fun v4 s4 h4 => ?_) (fun _ _ _ h => h.elim)
  obtain ⟨rfl, rfl⟩ := h4
  first | refine ri_aload_n C dX4_hasPoint_7 rfl ?_ | refine ri_aload_nQ C dX4_hasPoint_7 rfl ?_ | refine ri_aload_nN C dX4_hasPoint_7 rfl ?_
  refine ri_iload_n C dX4_hasPoint_8 rfl ?_
  refine ri_iconst C dX4_hasPoint_9 kc_i1 ?_
  refine ri_callV C km_X4_of q3140 qs75 dX4_hasPoint_10 (mt_X4_of htr h0 hw (by omega)) rfl rfl (kx_rcN C (by first | assumption | (repeat (first | assumption | exact kx_rs (by assumption) | exact kx_ne2 (by omega) | exact kx_ne1 (by omega) | refine kx_ro (by assumption) ?_ ?_ | exact kx_rs rfl | refine kx_ro rfl ?_ ?_))) rfl) ⟨⟨(Nat.le_of_ble_eq_true rfl), (Nat.le_of_ble_eq_true rfl)⟩, (Nat.le_of_ble_eq_true rfl), (Nat.le_of_ble_eq_true rfl), (Nat.le_of_ble_eq_true rfl)⟩ (fun v10 s10 h10 => ?_) (fun _ _ _ h => h.elim)
  obtain ⟨rfl, rfl⟩ := h10
  refine ri_bipush C dX4_hasPoint_13 kc_b16 ?_
  refine ri_callS C km_X4_isWithin q3229 dX4_hasPoint_15 (mt_X4_isWithin htr (Or.inr rfl) hx g0 g1) rfl rfl ⟨⟨(Nat.le_of_ble_eq_true rfl), (Nat.le_of_ble_eq_true rfl)⟩, (Nat.le_of_ble_eq_true rfl), (Nat.le_of_ble_eq_true rfl), (Nat.le_of_ble_eq_true rfl)⟩ (fun v15 s15 h15 => ?_) (fun _ _ _ h => h.elim)
  obtain ⟨rfl, rfl⟩ := h15
  exact ri_iret C hQ dX4_hasPoint_18 (kx_b_nar _) (Nat.le_of_ble_eq_true rfl) (Nat.le_of_ble_eq_true rfl) ⟨rfl, rfl⟩
set_option maxHeartbeats 1000000 in
theorem mt_X4_hasMonth {l : Launch} {G : kx_G} (htr : l.stackTraces = false) {σ : kx_H} {mo : Nat} {ad : Nat → Nat} {z : Nat → Int32} {u : Nat → Nat} {k x : Nat} (h0 : σ (1, 0) = some (mo, .inr (3, mo_L ad z))) (hw : σ (1, 1) = some (ad 0, kx_ai G 1417 (mx_w u))) (hk : k < 24) (g2 : mx_p u k 2 < 12) (g3 : mx_p u k 3 < 12) (hx : x < 12) : kx_SP l G yX4_hasMonth (ws_ yX4_hasMonth cX4_hasMonth 3 (some .boolean)) 4 0 0 [.ref mo, .int (nI k), .int (nI x)] σ (fun v τ => v = some (.int (kx_b (mx_hm u k x))) ∧ τ = σ) kx_nx := by
  refine kx_body htr (by decide +kernel) (own := "RoseProverbsModel") (nm := "hasMonth") rfl rfl (Nat.le_of_ble_eq_true rfl) ?_
  intro p e s m args below meth c Q C hQ
  refine ri_iload_n C dX4_hasMonth_0 rfl ?_
  first | refine ri_aload_n C dX4_hasMonth_1 rfl ?_ | refine ri_aload_nQ C dX4_hasMonth_1 rfl ?_ | refine ri_aload_nN C dX4_hasMonth_1 rfl ?_
  refine ri_iload_n C dX4_hasMonth_2 rfl ?_
  refine ri_iconst C dX4_hasMonth_3 kc_i2 ?_
  refine ri_callV C km_X4_of q3140 qs75 dX4_hasMonth_4 (mt_X4_of htr h0 hw (by omega)) rfl rfl (kx_rcN C (by first | assumption | (repeat (first | assumption | exact kx_rs (by assumption) | exact kx_ne2 (by omega) | exact kx_ne1 (by omega) | refine kx_ro (by assumption) ?_ ?_ | exact kx_rs rfl | refine kx_ro rfl ?_ ?_))) rfl) ⟨⟨(Nat.le_of_ble_eq_true rfl), (Nat.le_of_ble_eq_true rfl)⟩, (Nat.le_of_ble_eq_true rfl), (Nat.le_of_ble_eq_true rfl), (Nat.le_of_ble_eq_true rfl)⟩ (fun v4 s4 h4 => ?_) (fun _ _ _ h => h.elim)
  obtain ⟨rfl, rfl⟩ := h4
  first | refine ri_aload_n C dX4_hasMonth_7 rfl ?_ | refine ri_aload_nQ C dX4_hasMonth_7 rfl ?_ | refine ri_aload_nN C dX4_hasMonth_7 rfl ?_
  refine ri_iload_n C dX4_hasMonth_8 rfl ?_
  refine ri_iconst C dX4_hasMonth_9 kc_i3 ?_
  refine ri_callV C km_X4_of q3140 qs75 dX4_hasMonth_10 (mt_X4_of htr h0 hw (by omega)) rfl rfl (kx_rcN C (by first | assumption | (repeat (first | assumption | exact kx_rs (by assumption) | exact kx_ne2 (by omega) | exact kx_ne1 (by omega) | refine kx_ro (by assumption) ?_ ?_ | exact kx_rs rfl | refine kx_ro rfl ?_ ?_))) rfl) ⟨⟨(Nat.le_of_ble_eq_true rfl), (Nat.le_of_ble_eq_true rfl)⟩, (Nat.le_of_ble_eq_true rfl), (Nat.le_of_ble_eq_true rfl), (Nat.le_of_ble_eq_true rfl)⟩ (fun v10 s10 h10 => ?_) (fun _ _ _ h => h.elim)
  obtain ⟨rfl, rfl⟩ := h10
  refine ri_bipush C dX4_hasMonth_13 kc_b12 ?_
  refine ri_callS C km_X4_isWithin q3229 dX4_hasMonth_15 (mt_X4_isWithin htr (Or.inl rfl) hx g2 g3) rfl rfl ⟨⟨(Nat.le_of_ble_eq_true rfl), (Nat.le_of_ble_eq_true rfl)⟩, (Nat.le_of_ble_eq_true rfl), (Nat.le_of_ble_eq_true rfl), (Nat.le_of_ble_eq_true rfl)⟩ (fun v15 s15 h15 => ?_) (fun _ _ _ h => h.elim)
  obtain ⟨rfl, rfl⟩ := h15
  exact ri_iret C hQ dX4_hasMonth_18 (kx_b_nar _) (Nat.le_of_ble_eq_true rfl) (Nat.le_of_ble_eq_true rfl) ⟨rfl, rfl⟩
set_option maxHeartbeats 1000000 in
theorem mt_X4_isSpeaking {l : Launch} {G : kx_G} (htr : l.stackTraces = false) {σ : kx_H} {mo : Nat} {ad : Nat → Nat} {z : Nat → Int32} {u : Nat → Nat} {k pt mn : Nat} (h0 : σ (1, 0) = some (mo, .inr (3, mo_L ad z))) (hw : σ (1, 1) = some (ad 0, kx_ai G 1417 (mx_w u))) (hu : mx_ok u) (hk : k < u 0) (hp : pt < 16) (hm : mn < 12) : kx_SP l G yX4_isSpeaking (ws_ yX4_isSpeaking cX4_isSpeaking 4 (some .boolean)) 5 0 0 [.ref mo, .int (nI k), .int (nI pt), .int (nI mn)] σ (fun v τ => v = some (.int (kx_b (mx_sp u k pt mn))) ∧ τ = σ) kx_nx := by
  refine kx_body htr (by decide +kernel) (own := "RoseProverbsModel") (nm := "isSpeaking") rfl rfl (Nat.le_of_ble_eq_true rfl) ?_
  intro p e s m args below meth c Q C hQ
  have g := hu.2.1 k hk
  have gn := hu.1
  first | refine ri_aload_n C dX4_isSpeaking_0 rfl ?_ | refine ri_aload_nQ C dX4_isSpeaking_0 rfl ?_ | refine ri_aload_nN C dX4_isSpeaking_0 rfl ?_
  refine ri_iload_n C dX4_isSpeaking_1 rfl ?_
  refine ri_callV C km_X4_isLive q3144 qs76 dX4_isSpeaking_2 (mt_X4_isLive htr h0 hw (by omega) (by omega)) rfl rfl (kx_rcN C (by first | assumption | (repeat (first | assumption | exact kx_rs (by assumption) | exact kx_ne2 (by omega) | exact kx_ne1 (by omega) | refine kx_ro (by assumption) ?_ ?_ | exact kx_rs rfl | refine kx_ro rfl ?_ ?_))) rfl) ⟨⟨(Nat.le_of_ble_eq_true rfl), (Nat.le_of_ble_eq_true rfl)⟩, (Nat.le_of_ble_eq_true rfl), (Nat.le_of_ble_eq_true rfl), (Nat.le_of_ble_eq_true rfl)⟩ (fun v2 s2 h2 => ?_) (fun _ _ _ h => h.elim)
  obtain ⟨rfl, rfl⟩ := h2
  first | refine ri_if_eqB C 30 dX4_isSpeaking_5 rfl (fun h5 => ?_) (fun h5 => ?_) | refine ri_if_eqN C 30 dX4_isSpeaking_5 rfl (by omega) (fun h5 => ?_) (fun h5 => ?_) | refine ri_if_eq C 30 dX4_isSpeaking_5 rfl (fun h5 => ?_) (fun h5 => ?_)
  · refine ri_iconst C dX4_isSpeaking_30 kc_i0 ?_
    exact ri_iret C hQ dX4_isSpeaking_31 rfl (Nat.le_of_ble_eq_true rfl) (Nat.le_of_ble_eq_true rfl) (by refine ⟨congrArg (fun z => some (Value.int z)) ?_, rfl⟩; first | exact kx_b_t (by simp [mx_sp, *]) | exact kx_b_f (by simp [mx_sp, *]))
  · first | refine ri_aload_n C dX4_isSpeaking_8 rfl ?_ | refine ri_aload_nQ C dX4_isSpeaking_8 rfl ?_ | refine ri_aload_nN C dX4_isSpeaking_8 rfl ?_
    refine ri_iload_n C dX4_isSpeaking_9 rfl ?_
    refine ri_iload_n C dX4_isSpeaking_10 rfl ?_
    refine ri_callV C km_X4_hasPoint q3225 qs93 dX4_isSpeaking_11 (mt_X4_hasPoint htr h0 hw (by omega) (by omega) (by omega) hp) rfl rfl (kx_rcN C (by first | assumption | (repeat (first | assumption | exact kx_rs (by assumption) | exact kx_ne2 (by omega) | exact kx_ne1 (by omega) | refine kx_ro (by assumption) ?_ ?_ | exact kx_rs rfl | refine kx_ro rfl ?_ ?_))) rfl) ⟨⟨(Nat.le_of_ble_eq_true rfl), (Nat.le_of_ble_eq_true rfl)⟩, (Nat.le_of_ble_eq_true rfl), (Nat.le_of_ble_eq_true rfl), (Nat.le_of_ble_eq_true rfl)⟩ (fun v11 s11 h11 => ?_) (fun _ _ _ h => h.elim)
    obtain ⟨rfl, rfl⟩ := h11
    first | refine ri_if_eqB C 30 dX4_isSpeaking_14 rfl (fun h14 => ?_) (fun h14 => ?_) | refine ri_if_eqN C 30 dX4_isSpeaking_14 rfl (by omega) (fun h14 => ?_) (fun h14 => ?_) | refine ri_if_eq C 30 dX4_isSpeaking_14 rfl (fun h14 => ?_) (fun h14 => ?_)
    · refine ri_iconst C dX4_isSpeaking_30 kc_i0 ?_
      exact ri_iret C hQ dX4_isSpeaking_31 rfl (Nat.le_of_ble_eq_true rfl) (Nat.le_of_ble_eq_true rfl) (by refine ⟨congrArg (fun z => some (Value.int z)) ?_, rfl⟩; first | exact kx_b_t (by simp [mx_sp, *]) | exact kx_b_f (by simp [mx_sp, *]))
    · first | refine ri_aload_n C dX4_isSpeaking_17 rfl ?_ | refine ri_aload_nQ C dX4_isSpeaking_17 rfl ?_ | refine ri_aload_nN C dX4_isSpeaking_17 rfl ?_
      refine ri_iload_n C dX4_isSpeaking_18 rfl ?_
      refine ri_iload_n C dX4_isSpeaking_19 rfl ?_
      refine ri_callV C km_X4_hasMonth q3238 qs94 dX4_isSpeaking_20 (mt_X4_hasMonth htr h0 hw (by omega) (by omega) (by omega) hm) rfl rfl (kx_rcN C (by first | assumption | (repeat (first | assumption | exact kx_rs (by assumption) | exact kx_ne2 (by omega) | exact kx_ne1 (by omega) | refine kx_ro (by assumption) ?_ ?_ | exact kx_rs rfl | refine kx_ro rfl ?_ ?_))) rfl) ⟨⟨(Nat.le_of_ble_eq_true rfl), (Nat.le_of_ble_eq_true rfl)⟩, (Nat.le_of_ble_eq_true rfl), (Nat.le_of_ble_eq_true rfl), (Nat.le_of_ble_eq_true rfl)⟩ (fun v20 s20 h20 => ?_) (fun _ _ _ h => h.elim)
      obtain ⟨rfl, rfl⟩ := h20
      first | refine ri_if_eqB C 30 dX4_isSpeaking_23 rfl (fun h23 => ?_) (fun h23 => ?_) | refine ri_if_eqN C 30 dX4_isSpeaking_23 rfl (by omega) (fun h23 => ?_) (fun h23 => ?_) | refine ri_if_eq C 30 dX4_isSpeaking_23 rfl (fun h23 => ?_) (fun h23 => ?_)
      · refine ri_iconst C dX4_isSpeaking_30 kc_i0 ?_
        exact ri_iret C hQ dX4_isSpeaking_31 rfl (Nat.le_of_ble_eq_true rfl) (Nat.le_of_ble_eq_true rfl) (by refine ⟨congrArg (fun z => some (Value.int z)) ?_, rfl⟩; first | exact kx_b_t (by simp [mx_sp, *]) | exact kx_b_f (by simp [mx_sp, *]))
      · refine ri_iconst C dX4_isSpeaking_26 kc_i1 ?_
        refine ri_goto C 31 dX4_isSpeaking_27 rfl ?_
        exact ri_iret C hQ dX4_isSpeaking_31 rfl (Nat.le_of_ble_eq_true rfl) (Nat.le_of_ble_eq_true rfl) (by refine ⟨congrArg (fun z => some (Value.int z)) ?_, rfl⟩; first | exact kx_b_t (by simp [mx_sp, *]) | exact kx_b_f (by simp [mx_sp, *]))
set_option maxHeartbeats 1000000 in
theorem mt_X4_monthOf {l : Launch} {G : kx_G} (htr : l.stackTraces = false) {σ : kx_H} {mo d : Nat} (hd : d < 100000) : kx_SP l G yX4_monthOf (ws_ yX4_monthOf cX4_monthOf 2 (some .int)) 1 0 0 [.ref mo, .int (nI d)] σ (fun v τ => v = some (.int (nI (d / 30 % 12))) ∧ τ = σ) kx_nx := by
  refine kx_body htr (by decide +kernel) (own := "RoseProverbsModel") (nm := "monthOf") rfl rfl (Nat.le_of_ble_eq_true rfl) ?_
  intro p e s m args below meth c Q C hQ
  refine ri_iload_n C dX4_monthOf_0 rfl ?_
  refine ri_bipush C dX4_monthOf_1 kc_b30 ?_
  first | refine ri_idivN C dX4_monthOf_3 (by omega) (by omega) (by omega) ?_ | refine ri_idiv C dX4_monthOf_3 (by decide) ?_
  refine ri_bipush C dX4_monthOf_4 kc_b12 ?_
  first | refine ri_iremN C dX4_monthOf_6 (by omega) (by omega) (by omega) ?_ | refine ri_irem C dX4_monthOf_6 (by decide) ?_
  exact ri_iret C hQ dX4_monthOf_7 rfl (Nat.le_of_ble_eq_true rfl) (Nat.le_of_ble_eq_true rfl) ⟨rfl, rfl⟩
