/-! the reference: deeds -/
set_option maxRecDepth 100000
set_option maxHeartbeats 1000000 in
theorem mt_X4_mayCome {l : Launch} {G : kx_G} (htr : l.stackTraces = false) {σ : kx_H} {mo : Nat} {ad : Nat → Nat} {z : Nat → Int32} {u : Nat → Nat} (h0 : σ (1, 0) = some (mo, .inr (3, mo_L ad z))) (hw : σ (1, 1) = some (ad 0, kx_ai G 1417 (mx_w u))) {M : Nat → Int32} (hn : σ (1, 22) = some (ad 21, kx_ai G 6 M)) (hu : mx_ok u) {a0 a1 a2 a3 a4 a5 : Nat} (hd : dd_M M [a0, a1, a2, a3, a4, a5]) (hb : a0 < 16 ∧ a1 < 16 ∧ a2 < 12 ∧ a3 < 12 ∧ a4 < 5) : kx_SP l G yX4_mayCome (ws_ yX4_mayCome cX4_mayCome 1 (some .boolean)) 4 0 0 [.ref mo] σ (fun v τ => v = some (.int (kx_b (decide (u 0 < 24) && !mx_any (mx_like u a0 a1 a2 a3 a4) (u 0)))) ∧ τ = σ) kx_nx := by
  refine kx_body htr (by decide +kernel) (own := "RoseProverbsModel") (nm := "mayCome") rfl rfl (Nat.le_of_ble_eq_true rfl) ?_
  intro p e s m args below meth c Q C hQ
  have gn := hu.1
  first | refine ri_aload_n C dX4_mayCome_0 rfl ?_ | refine ri_aload_nQ C dX4_mayCome_0 rfl ?_ | refine ri_aload_nN C dX4_mayCome_0 rfl ?_
  refine ri_getf C dX4_mayCome_1 fr_q2970_3 (by first | assumption | (repeat (first | assumption | exact kx_rs (by assumption) | exact kx_ne2 (by omega) | exact kx_ne1 (by omega) | refine kx_ro (by assumption) ?_ ?_ | exact kx_rs rfl | refine kx_ro rfl ?_ ?_))) (by rfl) ?_
  refine ri_iconst C dX4_mayCome_4 kc_i0 ?_
  first | refine ri_ialoadN C dX4_mayCome_5 (by first | assumption | (repeat (first | assumption | exact kx_rs (by assumption) | exact kx_ne2 (by omega) | exact kx_ne1 (by omega) | refine kx_ro (by assumption) ?_ ?_ | exact kx_rs rfl | refine kx_ro rfl ?_ ?_))) rfl (by omega) ?_ | refine ri_iaload C dX4_mayCome_5 (by first | assumption | (repeat (first | assumption | exact kx_rs (by assumption) | exact kx_ne2 (by omega) | exact kx_ne1 (by omega) | refine kx_ro (by assumption) ?_ ?_ | exact kx_rs rfl | refine kx_ro rfl ?_ ?_))) rfl (by omega) ?_
  refine ri_bipush C dX4_mayCome_6 kc_b24 ?_
  first | refine ri_icmp_geN C 52 dX4_mayCome_8 rfl (by omega) (by omega) (fun h8 => ?_) (fun h8 => ?_) | refine ri_icmp_ge C 52 dX4_mayCome_8 rfl (fun h8 => ?_) (fun h8 => ?_)
  · refine ri_iconst C dX4_mayCome_52 kc_i0 ?_
    exact ri_iret C hQ dX4_mayCome_53 rfl (Nat.le_of_ble_eq_true rfl) (Nat.le_of_ble_eq_true rfl) (by refine ⟨congrArg (fun z => some (Value.int z)) ?_, rfl⟩; first | exact kx_b_t (by first | (rw [decide_eq_true (show u 0 < 24 by omega), h45]; rfl) | (rw [decide_eq_false (show ¬ u 0 < 24 by omega)]; rfl)) | exact kx_b_f (by first | (rw [decide_eq_true (show u 0 < 24 by omega), h45]; rfl) | (rw [decide_eq_false (show ¬ u 0 < 24 by omega)]; rfl)))
  · first | refine ri_aload_n C dX4_mayCome_11 rfl ?_ | refine ri_aload_nQ C dX4_mayCome_11 rfl ?_ | refine ri_aload_nN C dX4_mayCome_11 rfl ?_
    first | refine ri_aload_n C dX4_mayCome_12 rfl ?_ | refine ri_aload_nQ C dX4_mayCome_12 rfl ?_ | refine ri_aload_nN C dX4_mayCome_12 rfl ?_
    refine ri_getf C dX4_mayCome_13 fr_q2991_3 (by first | assumption | (repeat (first | assumption | exact kx_rs (by assumption) | exact kx_ne2 (by omega) | exact kx_ne1 (by omega) | refine kx_ro (by assumption) ?_ ?_ | exact kx_rs rfl | refine kx_ro rfl ?_ ?_))) (by rfl) ?_
    refine ri_iconst C dX4_mayCome_16 kc_i0 ?_
    refine ri_iaload C dX4_mayCome_17 hn rfl (by omega) ?_
    rw [show M 0 = nI a0 from hd 0 (show 0 < 6 by decide)]
    first | refine ri_aload_n C dX4_mayCome_18 rfl ?_ | refine ri_aload_nQ C dX4_mayCome_18 rfl ?_ | refine ri_aload_nN C dX4_mayCome_18 rfl ?_
    refine ri_getf C dX4_mayCome_19 fr_q2991_3 (by first | assumption | (repeat (first | assumption | exact kx_rs (by assumption) | exact kx_ne2 (by omega) | exact kx_ne1 (by omega) | refine kx_ro (by assumption) ?_ ?_ | exact kx_rs rfl | refine kx_ro rfl ?_ ?_))) (by rfl) ?_
    refine ri_iconst C dX4_mayCome_22 kc_i1 ?_
    refine ri_iaload C dX4_mayCome_23 hn rfl (by omega) ?_
    rw [show M 1 = nI a1 from hd 1 (show 1 < 6 by decide)]
    first | refine ri_aload_n C dX4_mayCome_24 rfl ?_ | refine ri_aload_nQ C dX4_mayCome_24 rfl ?_ | refine ri_aload_nN C dX4_mayCome_24 rfl ?_
    refine ri_getf C dX4_mayCome_25 fr_q2991_3 (by first | assumption | (repeat (first | assumption | exact kx_rs (by assumption) | exact kx_ne2 (by omega) | exact kx_ne1 (by omega) | refine kx_ro (by assumption) ?_ ?_ | exact kx_rs rfl | refine kx_ro rfl ?_ ?_))) (by rfl) ?_
    refine ri_iconst C dX4_mayCome_28 kc_i2 ?_
    refine ri_iaload C dX4_mayCome_29 hn rfl (by omega) ?_
    rw [show M 2 = nI a2 from hd 2 (show 2 < 6 by decide)]
    first | refine ri_aload_n C dX4_mayCome_30 rfl ?_ | refine ri_aload_nQ C dX4_mayCome_30 rfl ?_ | refine ri_aload_nN C dX4_mayCome_30 rfl ?_
    refine ri_getf C dX4_mayCome_31 fr_q2991_3 (by first | assumption | (repeat (first | assumption | exact kx_rs (by assumption) | exact kx_ne2 (by omega) | exact kx_ne1 (by omega) | refine kx_ro (by assumption) ?_ ?_ | exact kx_rs rfl | refine kx_ro rfl ?_ ?_))) (by rfl) ?_
    refine ri_iconst C dX4_mayCome_34 kc_i3 ?_
    refine ri_iaload C dX4_mayCome_35 hn rfl (by omega) ?_
    rw [show M 3 = nI a3 from hd 3 (show 3 < 6 by decide)]
    first | refine ri_aload_n C dX4_mayCome_36 rfl ?_ | refine ri_aload_nQ C dX4_mayCome_36 rfl ?_ | refine ri_aload_nN C dX4_mayCome_36 rfl ?_
    refine ri_getf C dX4_mayCome_37 fr_q2991_3 (by first | assumption | (repeat (first | assumption | exact kx_rs (by assumption) | exact kx_ne2 (by omega) | exact kx_ne1 (by omega) | refine kx_ro (by assumption) ?_ ?_ | exact kx_rs rfl | refine kx_ro rfl ?_ ?_))) (by rfl) ?_
    refine ri_iconst C dX4_mayCome_40 kc_i4 ?_
    refine ri_iaload C dX4_mayCome_41 hn rfl (by omega) ?_
    rw [show M 4 = nI a4 from hd 4 (show 4 < 6 by decide)]
    refine ri_callV C km_X4_isTwice q3136 qs74 dX4_mayCome_42 (mt_X4_isTwice htr h0 hw hu ⟨by omega, by omega, by omega, by omega, by omega⟩) rfl rfl (kx_rcN C (by first | assumption | (repeat (first | assumption | exact kx_rs (by assumption) | exact kx_ne2 (by omega) | exact kx_ne1 (by omega) | refine kx_ro (by assumption) ?_ ?_ | exact kx_rs rfl | refine kx_ro rfl ?_ ?_))) rfl) ⟨⟨(Nat.le_of_ble_eq_true rfl), (Nat.le_of_ble_eq_true rfl)⟩, (Nat.le_of_ble_eq_true rfl), (Nat.le_of_ble_eq_true rfl), (Nat.le_of_ble_eq_true rfl)⟩ (fun v42 s42 h42 => ?_) (fun _ _ _ h => h.elim)
    obtain ⟨rfl, rfl⟩ := h42
    first | refine ri_if_neB C 52 dX4_mayCome_45 rfl (fun h45 => ?_) (fun h45 => ?_) | refine ri_if_neN C 52 dX4_mayCome_45 rfl (by omega) (fun h45 => ?_) (fun h45 => ?_) | refine ri_if_ne C 52 dX4_mayCome_45 rfl (fun h45 => ?_) (fun h45 => ?_)
    · refine ri_iconst C dX4_mayCome_52 kc_i0 ?_
      exact ri_iret C hQ dX4_mayCome_53 rfl (Nat.le_of_ble_eq_true rfl) (Nat.le_of_ble_eq_true rfl) (by refine ⟨congrArg (fun z => some (Value.int z)) ?_, rfl⟩; first | exact kx_b_t (by first | (rw [decide_eq_true (show u 0 < 24 by omega), h45]; rfl) | (rw [decide_eq_false (show ¬ u 0 < 24 by omega)]; rfl)) | exact kx_b_f (by first | (rw [decide_eq_true (show u 0 < 24 by omega), h45]; rfl) | (rw [decide_eq_false (show ¬ u 0 < 24 by omega)]; rfl)))
    · refine ri_iconst C dX4_mayCome_48 kc_i1 ?_
      refine ri_goto C 53 dX4_mayCome_49 rfl ?_
      exact ri_iret C hQ dX4_mayCome_53 rfl (Nat.le_of_ble_eq_true rfl) (Nat.le_of_ble_eq_true rfl) (by refine ⟨congrArg (fun z => some (Value.int z)) ?_, rfl⟩; first | exact kx_b_t (by first | (rw [decide_eq_true (show u 0 < 24 by omega), h45]; rfl) | (rw [decide_eq_false (show ¬ u 0 < 24 by omega)]; rfl)) | exact kx_b_f (by first | (rw [decide_eq_true (show u 0 < 24 by omega), h45]; rfl) | (rw [decide_eq_false (show ¬ u 0 < 24 by omega)]; rfl)))
def dd_ok (u : Nat → Nat) (t : Nat) (l : List Nat) : Bool :=
  if t = 1 then decide (u 2 < 720) else if t = 2 then decide (u 0 < 24) && !mx_any (mx_like u (l.getD 0 0) (l.getD 1 0) (l.getD 2 0) (l.getD 3 0) (l.getD 4 0)) (u 0) else if t = 3 then decide (l.getD 0 0 < u 0) && mx_live u (l.getD 0 0) else if t = 4 then decide (l.getD 0 0 < u 0) else true
def dd_row (u : Nat → Nat) (t : Nat) (l : List Nat) : Nat → Nat :=
  if t = 1 then mx_day u (l.getD 0 0) (l.getD 1 0) else if t = 2 then mx_new u (l.getD 0 0) (l.getD 1 0) (l.getD 2 0) (l.getD 3 0) (l.getD 4 0) (l.getD 5 0) else if t = 3 then mx_fg u (l.getD 0 0) else if t = 4 then mx_pp u (l.getD 0 0) 6 (l.getD 1 0) else mx_s u (l.getD 1 0) (l.getD 0 0)
def dd_log (u : Nat → Nat) (L : Nat → Int32) (t : Nat) (l : List Nat) : Nat → Int32 := if t = 1 then upd (upd (upd L (3 * u 2) (nI (l.getD 0 0))) (3 * u 2 + 1) (nI (l.getD 1 0))) (3 * u 2 + 2) (mx_o (mx_told u (l.getD 0 0) (mx_mon u))) else L
/-- a deed's numbers are in their bounds -/
def dd_in (t : Nat) (l : List Nat) : Prop :=
  (t = 1 ∧ ∃ a b, l = [a, b] ∧ a < 16 ∧ b < 5) ∨ (t = 2 ∧ ∃ a b c d e f, l = [a, b, c, d, e, f] ∧ a < 16 ∧ b < 16 ∧ c < 12 ∧ d < 12 ∧ e < 5 ∧ 1 ≤ f ∧ f ≤ 999) ∨ (t = 3 ∧ ∃ a, l = [a] ∧ a < 24) ∨ (t = 4 ∧ ∃ a b, l = [a, b] ∧ a < 24 ∧ 1 ≤ b ∧ b ≤ 999) ∨ (t = 5 ∧ ∃ a k, l = [a, k] ∧ 5 ≤ k ∧ k ≤ 7 ∧ a ≤ mx_mst k)
theorem mx_o_m1 {o : Option Nat} (h : ∀ b, o = some b → b < 5) : ¬ mx_o o < -1 := by
  cases o with
  | none => decide
  | some b =>
    have := h b rfl
    simp only [mx_o]
    rw [Int32.lt_iff_toInt_lt, nI_toInt (by omega), show (-1 : Int32).toInt = -1 from by decide]; omega
set_option maxHeartbeats 1000000 in
theorem mt_X4_does {l : Launch} {G : kx_G} (htr : l.stackTraces = false) {σ : kx_H} {mo : Nat} {ad : Nat → Nat} {z : Nat → Int32} {u : Nat → Nat} (h0 : σ (1, 0) = some (mo, .inr (3, mo_L ad z))) (hw : σ (1, 1) = some (ad 0, kx_ai G 1417 (mx_w u))) {M : Nat → Int32} (hn : σ (1, 22) = some (ad 21, kx_ai G 6 M)) {L : Nat → Int32} (hl : σ (1, 6) = some (ad 5, kx_ai G 2160 L)) (hu : mx_ok u) {B : Nat} (hB : mx_le B u) (hb9 : B < 900000000) (hd7 : u 2 ≤ 720) {O Nn : Nat → Int32} (ho : σ (1, 23) = some (ad 22, kx_ai G 31 O)) (hnn : σ (1, 24) = some (ad 23, kx_ai G 186 Nn)) {k t : Nat} {ll : List Nat} (hk : k < 30) (hO : O k = nI t) (hN : dd_M (fun i => Nn (6 * k + i)) ll) (hin : dd_in t ll) : kx_SP l G yX4_does (ws_ yX4_does cX4_does 3 (some .boolean)) 11 0 0 [.ref mo, .int (nI k)] σ (fun v τ => v = some (.int (kx_b (dd_ok u t ll))) ∧ ∃ M', (dd_ok u t ll = false → τ = kx_up σ (1, 22) (ad 21, kx_ai G 6 M')) ∧ (dd_ok u t ll = true → τ = kx_up (kx_up (kx_up σ (1, 22) (ad 21, kx_ai G 6 M')) (1, 1) (ad 0, kx_ai G 1417 (mx_w (dd_row u t ll)))) (1, 6) (ad 5, kx_ai G 2160 (dd_log u L t ll)))) kx_nx := by
  refine kx_body htr (by decide +kernel) (own := "RoseProverbsModel") (nm := "does") rfl rfl (Nat.le_of_ble_eq_true rfl) ?_
  intro p e s m args below meth c Q C hQ
  have gn := hu.1
  refine ri_iconst C dX4_does_0 kc_i0 ?_
  refine ri_istore_n C dX4_does_1 rfl (by decide) ?_
  have LP : ∀ (wk i : Nat) (τ : kx_H), i ≤ 6 → 6 < i + wk → τ = kx_up σ (1, 22) (ad 21, kx_ai G 6 (fun j => if j < i then Nn (6 * k + j) else M j)) → kx_V G l p e (kx_rm 11 0 0) s m args below meth c 3 Q 2 [(0, .ref mo), (1, .int (nI k)), (2, .int (nI i))] [] τ 0 0 := by
    intro wk
    induction wk with
    | zero => intro i τ h1 h2; exact absurd h2 (by omega)
    | succ wk ih =>
      intro i τ hi hwk hI
      refine ri_iload_n C dX4_does_2 rfl ?_
      refine ri_bipush C dX4_does_3 kc_b6 ?_
      first | refine ri_icmp_geN C 31 dX4_does_5 rfl (by omega) (by omega) (fun h5 => ?_) (fun h5 => ?_) | refine ri_icmp_ge C 31 dX4_does_5 rfl (fun h5 => ?_) (fun h5 => ?_)
      · obtain rfl : i = 6 := by omega
        have c0 := kx_ro hI h0 (by decide)
        have cw := kx_ro hI hw (by decide)
        have cl := kx_ro hI hl (by decide)
        have cn := kx_rs hI
        have co := kx_ro hI ho (by decide)
        first | refine ri_aload_n C dX4_does_31 rfl ?_ | refine ri_aload_nQ C dX4_does_31 rfl ?_ | refine ri_aload_nN C dX4_does_31 rfl ?_
        refine ri_getf C dX4_does_32 fr_q2992_3 (by first | assumption | (repeat (first | assumption | exact kx_rs (by assumption) | exact kx_ne2 (by omega) | exact kx_ne1 (by omega) | refine kx_ro (by assumption) ?_ ?_ | exact kx_rs rfl | refine kx_ro rfl ?_ ?_))) (by rfl) ?_
        refine ri_iload_n C dX4_does_35 rfl ?_
        refine ri_iaload C dX4_does_36 co rfl (by omega) ?_
        rw [hO]
        have t5 : 1 ≤ t ∧ t ≤ 5 := by rcases hin with ⟨h, -⟩ | ⟨h, -⟩ | ⟨h, -⟩ | ⟨h, -⟩ | ⟨h, -⟩ <;> omega
        by_cases hs37_1 : t = 1
        · subst hs37_1
          refine ri_tabIn C 1 (31) 68 dX4_does_37 (by decide) (by decide) rfl rfl ?_
          obtain ⟨a, b, rfl, la, lb⟩ : ∃ a b, ll = [a, b] ∧ a < 16 ∧ b < 5 := (by rcases hin with ⟨-, hx⟩ | ⟨hx, -⟩ | ⟨hx, -⟩ | ⟨hx, -⟩ | ⟨hx, -⟩ <;> first | exact hx | (exfalso; omega))
          first | refine ri_aload_n C dX4_does_68 rfl ?_ | refine ri_aload_nQ C dX4_does_68 rfl ?_ | refine ri_aload_nN C dX4_does_68 rfl ?_
          refine ri_getf C dX4_does_69 fr_q2970_3 (by first | assumption | (repeat (first | assumption | exact kx_rs (by assumption) | exact kx_ne2 (by omega) | exact kx_ne1 (by omega) | refine kx_ro (by assumption) ?_ ?_ | exact kx_rs rfl | refine kx_ro rfl ?_ ?_))) (by rfl) ?_
          refine ri_iconst C dX4_does_72 kc_i2 ?_
          first | refine ri_ialoadN C dX4_does_73 (by first | assumption | (repeat (first | assumption | exact kx_rs (by assumption) | exact kx_ne2 (by omega) | exact kx_ne1 (by omega) | refine kx_ro (by assumption) ?_ ?_ | exact kx_rs rfl | refine kx_ro rfl ?_ ?_))) rfl (by omega) ?_ | refine ri_iaload C dX4_does_73 (by first | assumption | (repeat (first | assumption | exact kx_rs (by assumption) | exact kx_ne2 (by omega) | exact kx_ne1 (by omega) | refine kx_ro (by assumption) ?_ ?_ | exact kx_rs rfl | refine kx_ro rfl ?_ ?_))) rfl (by omega) ?_
          refine ri_sipush C dX4_does_74 kc_s720 ?_
          first | refine ri_icmp_geN C 104 dX4_does_77 rfl (by omega) (by omega) (fun h77 => ?_) (fun h77 => ?_) | refine ri_icmp_ge C 104 dX4_does_77 rfl (fun h77 => ?_) (fun h77 => ?_)
          · refine ri_iconst C dX4_does_104 kc_i0 ?_
            exact ri_iret C hQ dX4_does_105 rfl (Nat.le_of_ble_eq_true rfl) (Nat.le_of_ble_eq_true rfl) (by first | exact ⟨congrArg (fun x => some (Value.int x)) (kx_b_t (show decide (u 2 < 720) = true from decide_eq_true (by omega))), (fun j => if j < 6 then Nn (6 * k + j) else M j), fun h => absurd ((show decide (u 2 < 720) = true from decide_eq_true (by omega)).symm.trans h) (by decide), fun _ => by rw [e93, hI]; rfl⟩ | exact ⟨congrArg (fun x => some (Value.int x)) (kx_b_f (show decide (u 2 < 720) = false from decide_eq_false (by omega))), _, fun _ => hI, fun h => absurd ((show decide (u 2 < 720) = false from decide_eq_false (by omega)).symm.trans h) (by decide)⟩)
          · first | refine ri_aload_n C dX4_does_80 rfl ?_ | refine ri_aload_nQ C dX4_does_80 rfl ?_ | refine ri_aload_nN C dX4_does_80 rfl ?_
            first | refine ri_aload_n C dX4_does_81 rfl ?_ | refine ri_aload_nQ C dX4_does_81 rfl ?_ | refine ri_aload_nN C dX4_does_81 rfl ?_
            refine ri_getf C dX4_does_82 fr_q2991_3 (by first | assumption | (repeat (first | assumption | exact kx_rs (by assumption) | exact kx_ne2 (by omega) | exact kx_ne1 (by omega) | refine kx_ro (by assumption) ?_ ?_ | exact kx_rs rfl | refine kx_ro rfl ?_ ?_))) (by rfl) ?_
            refine ri_iconst C dX4_does_85 kc_i0 ?_
            refine ri_iaload C dX4_does_86 cn rfl (by omega) ?_
            rw [if_pos (show 0 < 6 by decide), show Nn (6 * k + 0) = nI a from hN 0 (show 0 < 2 by decide)]
            first | refine ri_aload_n C dX4_does_87 rfl ?_ | refine ri_aload_nQ C dX4_does_87 rfl ?_ | refine ri_aload_nN C dX4_does_87 rfl ?_
            refine ri_getf C dX4_does_88 fr_q2991_3 (by first | assumption | (repeat (first | assumption | exact kx_rs (by assumption) | exact kx_ne2 (by omega) | exact kx_ne1 (by omega) | refine kx_ro (by assumption) ?_ ?_ | exact kx_rs rfl | refine kx_ro rfl ?_ ?_))) (by rfl) ?_
            refine ri_iconst C dX4_does_91 kc_i1 ?_
            refine ri_iaload C dX4_does_92 cn rfl (by omega) ?_
            rw [if_pos (show 1 < 6 by decide), show Nn (6 * k + 1) = nI b from hN 1 (show 1 < 2 by decide)]
            refine ri_callV C km_X4_passesNow q3197 qs86 dX4_does_93 (mt_X4_passesNow htr c0 cw cl hu la lb hB hb9 (by omega)) rfl rfl (kx_rcN C (by first | assumption | (repeat (first | assumption | exact kx_rs (by assumption) | exact kx_ne2 (by omega) | exact kx_ne1 (by omega) | refine kx_ro (by assumption) ?_ ?_ | exact kx_rs rfl | refine kx_ro rfl ?_ ?_))) rfl) ⟨⟨(Nat.le_of_ble_eq_true rfl), (Nat.le_of_ble_eq_true rfl)⟩, (Nat.le_of_ble_eq_true rfl), (Nat.le_of_ble_eq_true rfl), (Nat.le_of_ble_eq_true rfl)⟩ (fun v93 s93 h93 => ?_) (fun _ _ _ h => h.elim)
            obtain ⟨rfl, e93⟩ := h93
            refine ri_iconst C dX4_does_96 kc_im1 ?_
            refine ri_icmp_lt C 104 dX4_does_97 rfl (fun h97 => ?_) (fun h97 => ?_)
            · exact absurd h97 (mx_o_m1 (fun b => mx_told_b)) --dead
            · refine ri_iconst C dX4_does_100 kc_i1 ?_
              refine ri_goto C 105 dX4_does_101 rfl ?_
              exact ri_iret C hQ dX4_does_105 rfl (Nat.le_of_ble_eq_true rfl) (Nat.le_of_ble_eq_true rfl) (by first | exact ⟨congrArg (fun x => some (Value.int x)) (kx_b_t (show decide (u 2 < 720) = true from decide_eq_true (by omega))), (fun j => if j < 6 then Nn (6 * k + j) else M j), fun h => absurd ((show decide (u 2 < 720) = true from decide_eq_true (by omega)).symm.trans h) (by decide), fun _ => by rw [e93, hI]; rfl⟩ | exact ⟨congrArg (fun x => some (Value.int x)) (kx_b_f (show decide (u 2 < 720) = false from decide_eq_false (by omega))), _, fun _ => hI, fun h => absurd ((show decide (u 2 < 720) = false from decide_eq_false (by omega)).symm.trans h) (by decide)⟩)
        by_cases hs37_2 : t = 2
        · subst hs37_2
          refine ri_tabIn C 2 (69) 106 dX4_does_37 (by decide) (by decide) rfl rfl ?_
          obtain ⟨a0, a1, a2, a3, a4, a5, rfl, l0, l1, l2, l3, l4, l5, l6⟩ : ∃ a0 a1 a2 a3 a4 a5, ll = [a0, a1, a2, a3, a4, a5] ∧ a0 < 16 ∧ a1 < 16 ∧ a2 < 12 ∧ a3 < 12 ∧ a4 < 5 ∧ 1 ≤ a5 ∧ a5 ≤ 999 := (by rcases hin with ⟨hx, -⟩ | ⟨-, hx⟩ | ⟨hx, -⟩ | ⟨hx, -⟩ | ⟨hx, -⟩ <;> first | exact hx | (exfalso; omega))
          first | refine ri_aload_n C dX4_does_106 rfl ?_ | refine ri_aload_nQ C dX4_does_106 rfl ?_ | refine ri_aload_nN C dX4_does_106 rfl ?_
          refine ri_callV C km_X4_mayCome q3267 qs100 dX4_does_107 (mt_X4_mayCome htr c0 cw cn hu (a0 := a0) (a1 := a1) (a2 := a2) (a3 := a3) (a4 := a4) (a5 := a5) (fun j hj => (if_pos (show j < 6 from hj)).trans (hN j hj)) ⟨l0, l1, l2, l3, l4⟩) rfl rfl (kx_rcN C (by first | assumption | (repeat (first | assumption | exact kx_rs (by assumption) | exact kx_ne2 (by omega) | exact kx_ne1 (by omega) | refine kx_ro (by assumption) ?_ ?_ | exact kx_rs rfl | refine kx_ro rfl ?_ ?_))) rfl) ⟨⟨(Nat.le_of_ble_eq_true rfl), (Nat.le_of_ble_eq_true rfl)⟩, (Nat.le_of_ble_eq_true rfl), (Nat.le_of_ble_eq_true rfl), (Nat.le_of_ble_eq_true rfl)⟩ (fun v107 s107 h107 => ?_) (fun _ _ _ h => h.elim)
          obtain ⟨rfl, rfl⟩ := h107
          first | refine ri_if_eqB C 160 dX4_does_110 rfl (fun h110 => ?_) (fun h110 => ?_) | refine ri_if_eqN C 160 dX4_does_110 rfl (by omega) (fun h110 => ?_) (fun h110 => ?_) | refine ri_if_eq C 160 dX4_does_110 rfl (fun h110 => ?_) (fun h110 => ?_)
          · refine ri_iconst C dX4_does_160 kc_i0 ?_
            exact ri_iret C hQ dX4_does_161 rfl (Nat.le_of_ble_eq_true rfl) (Nat.le_of_ble_eq_true rfl) (by first | exact ⟨congrArg (fun x => some (Value.int x)) (kx_b_t (h110)), (fun j => if j < 6 then Nn (6 * k + j) else M j), fun h => absurd ((h110).symm.trans h) (by decide), fun _ => by rw [show dd_log u L 2 [a0, a1, a2, a3, a4, a5] = L from rfl, kx_up_i (kx_ro rfl (kx_ro rfl hl (by decide)) (by decide)), e150, hI]; rfl⟩ | exact ⟨congrArg (fun x => some (Value.int x)) (kx_b_f (h110)), _, fun _ => hI, fun h => absurd ((h110).symm.trans h) (by decide)⟩)
          · have hlt : u 0 < 24 := (by rw [Bool.and_eq_true] at h110; exact of_decide_eq_true h110.1)
            first | refine ri_aload_n C dX4_does_113 rfl ?_ | refine ri_aload_nQ C dX4_does_113 rfl ?_ | refine ri_aload_nN C dX4_does_113 rfl ?_
            first | refine ri_aload_n C dX4_does_114 rfl ?_ | refine ri_aload_nQ C dX4_does_114 rfl ?_ | refine ri_aload_nN C dX4_does_114 rfl ?_
            refine ri_getf C dX4_does_115 fr_q2991_3 (by first | assumption | (repeat (first | assumption | exact kx_rs (by assumption) | exact kx_ne2 (by omega) | exact kx_ne1 (by omega) | refine kx_ro (by assumption) ?_ ?_ | exact kx_rs rfl | refine kx_ro rfl ?_ ?_))) (by rfl) ?_
            refine ri_iconst C dX4_does_118 kc_i0 ?_
            refine ri_iaload C dX4_does_119 cn rfl (by omega) ?_
            rw [if_pos (show 0 < 6 by decide), show Nn (6 * k + 0) = nI a0 from hN 0 (show 0 < 6 by decide)]
            first | refine ri_aload_n C dX4_does_120 rfl ?_ | refine ri_aload_nQ C dX4_does_120 rfl ?_ | refine ri_aload_nN C dX4_does_120 rfl ?_
            refine ri_getf C dX4_does_121 fr_q2991_3 (by first | assumption | (repeat (first | assumption | exact kx_rs (by assumption) | exact kx_ne2 (by omega) | exact kx_ne1 (by omega) | refine kx_ro (by assumption) ?_ ?_ | exact kx_rs rfl | refine kx_ro rfl ?_ ?_))) (by rfl) ?_
            refine ri_iconst C dX4_does_124 kc_i1 ?_
            refine ri_iaload C dX4_does_125 cn rfl (by omega) ?_
            rw [if_pos (show 1 < 6 by decide), show Nn (6 * k + 1) = nI a1 from hN 1 (show 1 < 6 by decide)]
            first | refine ri_aload_n C dX4_does_126 rfl ?_ | refine ri_aload_nQ C dX4_does_126 rfl ?_ | refine ri_aload_nN C dX4_does_126 rfl ?_
            refine ri_getf C dX4_does_127 fr_q2991_3 (by first | assumption | (repeat (first | assumption | exact kx_rs (by assumption) | exact kx_ne2 (by omega) | exact kx_ne1 (by omega) | refine kx_ro (by assumption) ?_ ?_ | exact kx_rs rfl | refine kx_ro rfl ?_ ?_))) (by rfl) ?_
            refine ri_iconst C dX4_does_130 kc_i2 ?_
            refine ri_iaload C dX4_does_131 cn rfl (by omega) ?_
            rw [if_pos (show 2 < 6 by decide), show Nn (6 * k + 2) = nI a2 from hN 2 (show 2 < 6 by decide)]
            first | refine ri_aload_n C dX4_does_132 rfl ?_ | refine ri_aload_nQ C dX4_does_132 rfl ?_ | refine ri_aload_nN C dX4_does_132 rfl ?_
            refine ri_getf C dX4_does_133 fr_q2991_3 (by first | assumption | (repeat (first | assumption | exact kx_rs (by assumption) | exact kx_ne2 (by omega) | exact kx_ne1 (by omega) | refine kx_ro (by assumption) ?_ ?_ | exact kx_rs rfl | refine kx_ro rfl ?_ ?_))) (by rfl) ?_
            refine ri_iconst C dX4_does_136 kc_i3 ?_
            refine ri_iaload C dX4_does_137 cn rfl (by omega) ?_
            rw [if_pos (show 3 < 6 by decide), show Nn (6 * k + 3) = nI a3 from hN 3 (show 3 < 6 by decide)]
            first | refine ri_aload_n C dX4_does_138 rfl ?_ | refine ri_aload_nQ C dX4_does_138 rfl ?_ | refine ri_aload_nN C dX4_does_138 rfl ?_
            refine ri_getf C dX4_does_139 fr_q2991_3 (by first | assumption | (repeat (first | assumption | exact kx_rs (by assumption) | exact kx_ne2 (by omega) | exact kx_ne1 (by omega) | refine kx_ro (by assumption) ?_ ?_ | exact kx_rs rfl | refine kx_ro rfl ?_ ?_))) (by rfl) ?_
            refine ri_iconst C dX4_does_142 kc_i4 ?_
            refine ri_iaload C dX4_does_143 cn rfl (by omega) ?_
            rw [if_pos (show 4 < 6 by decide), show Nn (6 * k + 4) = nI a4 from hN 4 (show 4 < 6 by decide)]
            first | refine ri_aload_n C dX4_does_144 rfl ?_ | refine ri_aload_nQ C dX4_does_144 rfl ?_ | refine ri_aload_nN C dX4_does_144 rfl ?_
            refine ri_getf C dX4_does_145 fr_q2991_3 (by first | assumption | (repeat (first | assumption | exact kx_rs (by assumption) | exact kx_ne2 (by omega) | exact kx_ne1 (by omega) | refine kx_ro (by assumption) ?_ ?_ | exact kx_rs rfl | refine kx_ro rfl ?_ ?_))) (by rfl) ?_
            refine ri_iconst C dX4_does_148 kc_i5 ?_
            refine ri_iaload C dX4_does_149 cn rfl (by omega) ?_
            rw [if_pos (show 5 < 6 by decide), show Nn (6 * k + 5) = nI a5 from hN 5 (show 5 < 6 by decide)]
            refine ri_callV C km_X4_comes q3271 qs101 dX4_does_150 (mt_X4_comes htr c0 cw (by omega)) rfl rfl (kx_rcN C (by first | assumption | (repeat (first | assumption | exact kx_rs (by assumption) | exact kx_ne2 (by omega) | exact kx_ne1 (by omega) | refine kx_ro (by assumption) ?_ ?_ | exact kx_rs rfl | refine kx_ro rfl ?_ ?_))) rfl) ⟨⟨(Nat.le_of_ble_eq_true rfl), (Nat.le_of_ble_eq_true rfl)⟩, (Nat.le_of_ble_eq_true rfl), (Nat.le_of_ble_eq_true rfl), (Nat.le_of_ble_eq_true rfl)⟩ (fun v150 s150 h150 => ?_) (fun _ _ _ h => h.elim)
            obtain ⟨rfl, e150⟩ := h150
            refine ri_if_lt C 160 dX4_does_153 rfl (fun h153 => ?_) (fun h153 => ?_)
            · exact absurd h153 (nI_nn (by omega)) --dead
            · refine ri_iconst C dX4_does_156 kc_i1 ?_
              refine ri_goto C 161 dX4_does_157 rfl ?_
              exact ri_iret C hQ dX4_does_161 rfl (Nat.le_of_ble_eq_true rfl) (Nat.le_of_ble_eq_true rfl) (by first | exact ⟨congrArg (fun x => some (Value.int x)) (kx_b_t (h110)), (fun j => if j < 6 then Nn (6 * k + j) else M j), fun h => absurd ((h110).symm.trans h) (by decide), fun _ => by rw [show dd_log u L 2 [a0, a1, a2, a3, a4, a5] = L from rfl, kx_up_i (kx_ro rfl (kx_ro rfl hl (by decide)) (by decide)), e150, hI]; rfl⟩ | exact ⟨congrArg (fun x => some (Value.int x)) (kx_b_f (h110)), _, fun _ => hI, fun h => absurd ((h110).symm.trans h) (by decide)⟩)
        by_cases hs37_3 : t = 3
        · subst hs37_3
          refine ri_tabIn C 3 (125) 162 dX4_does_37 (by decide) (by decide) rfl rfl ?_
          obtain ⟨a, rfl, la⟩ : ∃ a, ll = [a] ∧ a < 24 := (by rcases hin with ⟨hx, -⟩ | ⟨hx, -⟩ | ⟨-, hx⟩ | ⟨hx, -⟩ | ⟨hx, -⟩ <;> first | exact hx | (exfalso; omega))
          have gk : a < u 0 → _ := hu.2.1 a
          first | refine ri_aload_n C dX4_does_162 rfl ?_ | refine ri_aload_nQ C dX4_does_162 rfl ?_ | refine ri_aload_nN C dX4_does_162 rfl ?_
          refine ri_getf C dX4_does_163 fr_q2991_3 (by first | assumption | (repeat (first | assumption | exact kx_rs (by assumption) | exact kx_ne2 (by omega) | exact kx_ne1 (by omega) | refine kx_ro (by assumption) ?_ ?_ | exact kx_rs rfl | refine kx_ro rfl ?_ ?_))) (by rfl) ?_
          refine ri_iconst C dX4_does_166 kc_i0 ?_
          refine ri_iaload C dX4_does_167 cn rfl (by omega) ?_
          rw [if_pos (show 0 < 6 by decide), show Nn (6 * k + 0) = nI a from hN 0 (show 0 < 1 by decide)]
          first | refine ri_aload_n C dX4_does_168 rfl ?_ | refine ri_aload_nQ C dX4_does_168 rfl ?_ | refine ri_aload_nN C dX4_does_168 rfl ?_
          refine ri_getf C dX4_does_169 fr_q2970_3 (by first | assumption | (repeat (first | assumption | exact kx_rs (by assumption) | exact kx_ne2 (by omega) | exact kx_ne1 (by omega) | refine kx_ro (by assumption) ?_ ?_ | exact kx_rs rfl | refine kx_ro rfl ?_ ?_))) (by rfl) ?_
          refine ri_iconst C dX4_does_172 kc_i0 ?_
          first | refine ri_ialoadN C dX4_does_173 (by first | assumption | (repeat (first | assumption | exact kx_rs (by assumption) | exact kx_ne2 (by omega) | exact kx_ne1 (by omega) | refine kx_ro (by assumption) ?_ ?_ | exact kx_rs rfl | refine kx_ro rfl ?_ ?_))) rfl (by omega) ?_ | refine ri_iaload C dX4_does_173 (by first | assumption | (repeat (first | assumption | exact kx_rs (by assumption) | exact kx_ne2 (by omega) | exact kx_ne1 (by omega) | refine kx_ro (by assumption) ?_ ?_ | exact kx_rs rfl | refine kx_ro rfl ?_ ?_))) rfl (by omega) ?_
          first | refine ri_icmp_geN C 207 dX4_does_174 rfl (by omega) (by omega) (fun h174 => ?_) (fun h174 => ?_) | refine ri_icmp_ge C 207 dX4_does_174 rfl (fun h174 => ?_) (fun h174 => ?_)
          · refine ri_iconst C dX4_does_207 kc_i0 ?_
            exact ri_iret C hQ dX4_does_208 rfl (Nat.le_of_ble_eq_true rfl) (Nat.le_of_ble_eq_true rfl) (by first | exact ⟨congrArg (fun x => some (Value.int x)) (kx_b_t (show (decide (a < u 0) && mx_live u a) = true by rw [decide_eq_true (by omega), h187]; rfl)), (fun j => if j < 6 then Nn (6 * k + j) else M j), fun h => absurd ((show (decide (a < u 0) && mx_live u a) = true by rw [decide_eq_true (by omega), h187]; rfl).symm.trans h) (by decide), fun _ => by rw [show dd_log u L 3 [a] = L from rfl, kx_up_i (kx_ro rfl (kx_ro rfl hl (by decide)) (by decide)), e197, hI]; rfl⟩ | exact ⟨congrArg (fun x => some (Value.int x)) (kx_b_f (show (decide (a < u 0) && mx_live u a) = false by first | (rw [decide_eq_false (by omega)]; rfl) | (rw [h187, Bool.and_false]))), _, fun _ => hI, fun h => absurd ((show (decide (a < u 0) && mx_live u a) = false by first | (rw [decide_eq_false (by omega)]; rfl) | (rw [h187, Bool.and_false])).symm.trans h) (by decide)⟩)
          · have gk := gk (by omega)
            first | refine ri_aload_n C dX4_does_177 rfl ?_ | refine ri_aload_nQ C dX4_does_177 rfl ?_ | refine ri_aload_nN C dX4_does_177 rfl ?_
            first | refine ri_aload_n C dX4_does_178 rfl ?_ | refine ri_aload_nQ C dX4_does_178 rfl ?_ | refine ri_aload_nN C dX4_does_178 rfl ?_
            refine ri_getf C dX4_does_179 fr_q2991_3 (by first | assumption | (repeat (first | assumption | exact kx_rs (by assumption) | exact kx_ne2 (by omega) | exact kx_ne1 (by omega) | refine kx_ro (by assumption) ?_ ?_ | exact kx_rs rfl | refine kx_ro rfl ?_ ?_))) (by rfl) ?_
            refine ri_iconst C dX4_does_182 kc_i0 ?_
            refine ri_iaload C dX4_does_183 cn rfl (by omega) ?_
            rw [if_pos (show 0 < 6 by decide), show Nn (6 * k + 0) = nI a from hN 0 (show 0 < 1 by decide)]
            refine ri_callV C km_X4_isLive q3144 qs76 dX4_does_184 (mt_X4_isLive htr c0 cw (by omega) (by omega)) rfl rfl (kx_rcN C (by first | assumption | (repeat (first | assumption | exact kx_rs (by assumption) | exact kx_ne2 (by omega) | exact kx_ne1 (by omega) | refine kx_ro (by assumption) ?_ ?_ | exact kx_rs rfl | refine kx_ro rfl ?_ ?_))) rfl) ⟨⟨(Nat.le_of_ble_eq_true rfl), (Nat.le_of_ble_eq_true rfl)⟩, (Nat.le_of_ble_eq_true rfl), (Nat.le_of_ble_eq_true rfl), (Nat.le_of_ble_eq_true rfl)⟩ (fun v184 s184 h184 => ?_) (fun _ _ _ h => h.elim)
            obtain ⟨rfl, rfl⟩ := h184
            first | refine ri_if_eqB C 207 dX4_does_187 rfl (fun h187 => ?_) (fun h187 => ?_) | refine ri_if_eqN C 207 dX4_does_187 rfl (by omega) (fun h187 => ?_) (fun h187 => ?_) | refine ri_if_eq C 207 dX4_does_187 rfl (fun h187 => ?_) (fun h187 => ?_)
            · refine ri_iconst C dX4_does_207 kc_i0 ?_
              exact ri_iret C hQ dX4_does_208 rfl (Nat.le_of_ble_eq_true rfl) (Nat.le_of_ble_eq_true rfl) (by first | exact ⟨congrArg (fun x => some (Value.int x)) (kx_b_t (show (decide (a < u 0) && mx_live u a) = true by rw [decide_eq_true (by omega), h187]; rfl)), (fun j => if j < 6 then Nn (6 * k + j) else M j), fun h => absurd ((show (decide (a < u 0) && mx_live u a) = true by rw [decide_eq_true (by omega), h187]; rfl).symm.trans h) (by decide), fun _ => by rw [show dd_log u L 3 [a] = L from rfl, kx_up_i (kx_ro rfl (kx_ro rfl hl (by decide)) (by decide)), e197, hI]; rfl⟩ | exact ⟨congrArg (fun x => some (Value.int x)) (kx_b_f (show (decide (a < u 0) && mx_live u a) = false by first | (rw [decide_eq_false (by omega)]; rfl) | (rw [h187, Bool.and_false]))), _, fun _ => hI, fun h => absurd ((show (decide (a < u 0) && mx_live u a) = false by first | (rw [decide_eq_false (by omega)]; rfl) | (rw [h187, Bool.and_false])).symm.trans h) (by decide)⟩)
            · first | refine ri_aload_n C dX4_does_190 rfl ?_ | refine ri_aload_nQ C dX4_does_190 rfl ?_ | refine ri_aload_nN C dX4_does_190 rfl ?_
              first | refine ri_aload_n C dX4_does_191 rfl ?_ | refine ri_aload_nQ C dX4_does_191 rfl ?_ | refine ri_aload_nN C dX4_does_191 rfl ?_
              refine ri_getf C dX4_does_192 fr_q2991_3 (by first | assumption | (repeat (first | assumption | exact kx_rs (by assumption) | exact kx_ne2 (by omega) | exact kx_ne1 (by omega) | refine kx_ro (by assumption) ?_ ?_ | exact kx_rs rfl | refine kx_ro rfl ?_ ?_))) (by rfl) ?_
              refine ri_iconst C dX4_does_195 kc_i0 ?_
              refine ri_iaload C dX4_does_196 cn rfl (by omega) ?_
              rw [if_pos (show 0 < 6 by decide), show Nn (6 * k + 0) = nI a from hN 0 (show 0 < 1 by decide)]
              refine ri_callV C km_X4_forgets q3275 qs102 dX4_does_197 (mt_X4_forgets htr c0 cw (by omega) (mx_ok_e (mx_eq_cn (by omega)) (mx_ok_p9 hu))) rfl rfl (kx_rcN C (by first | assumption | (repeat (first | assumption | exact kx_rs (by assumption) | exact kx_ne2 (by omega) | exact kx_ne1 (by omega) | refine kx_ro (by assumption) ?_ ?_ | exact kx_rs rfl | refine kx_ro rfl ?_ ?_))) rfl) ⟨⟨(Nat.le_of_ble_eq_true rfl), (Nat.le_of_ble_eq_true rfl)⟩, (Nat.le_of_ble_eq_true rfl), (Nat.le_of_ble_eq_true rfl), (Nat.le_of_ble_eq_true rfl)⟩ (fun v197 s197 h197 => ?_) (fun _ _ _ h => h.elim)
              obtain ⟨rfl, e197⟩ := h197
              have hlm : mx_lm (mx_cn (mx_pp u a 9 1) 7 1) ≤ 24 := Nat.le_trans mx_cnt_le (mx_ok_e (mx_eq_cn (by omega)) (mx_ok_p9 hu)).1
              refine ri_if_lt C 207 dX4_does_200 rfl (fun h200 => ?_) (fun h200 => ?_)
              · exact absurd h200 (nI_nn (by omega)) --dead
              · refine ri_iconst C dX4_does_203 kc_i1 ?_
                refine ri_goto C 208 dX4_does_204 rfl ?_
                exact ri_iret C hQ dX4_does_208 rfl (Nat.le_of_ble_eq_true rfl) (Nat.le_of_ble_eq_true rfl) (by first | exact ⟨congrArg (fun x => some (Value.int x)) (kx_b_t (show (decide (a < u 0) && mx_live u a) = true by rw [decide_eq_true (by omega), h187]; rfl)), (fun j => if j < 6 then Nn (6 * k + j) else M j), fun h => absurd ((show (decide (a < u 0) && mx_live u a) = true by rw [decide_eq_true (by omega), h187]; rfl).symm.trans h) (by decide), fun _ => by rw [show dd_log u L 3 [a] = L from rfl, kx_up_i (kx_ro rfl (kx_ro rfl hl (by decide)) (by decide)), e197, hI]; rfl⟩ | exact ⟨congrArg (fun x => some (Value.int x)) (kx_b_f (show (decide (a < u 0) && mx_live u a) = false by first | (rw [decide_eq_false (by omega)]; rfl) | (rw [h187, Bool.and_false]))), _, fun _ => hI, fun h => absurd ((show (decide (a < u 0) && mx_live u a) = false by first | (rw [decide_eq_false (by omega)]; rfl) | (rw [h187, Bool.and_false])).symm.trans h) (by decide)⟩)
        by_cases hs37_4 : t = 4
        · subst hs37_4
          refine ri_tabIn C 4 (172) 209 dX4_does_37 (by decide) (by decide) rfl rfl ?_
          obtain ⟨a, b, rfl, la, lb, lb2⟩ : ∃ a b, ll = [a, b] ∧ a < 24 ∧ 1 ≤ b ∧ b ≤ 999 := (by rcases hin with ⟨hx, -⟩ | ⟨hx, -⟩ | ⟨hx, -⟩ | ⟨-, hx⟩ | ⟨hx, -⟩ <;> first | exact hx | (exfalso; omega))
          have gk : a < u 0 → _ := hu.2.1 a
          first | refine ri_aload_n C dX4_does_209 rfl ?_ | refine ri_aload_nQ C dX4_does_209 rfl ?_ | refine ri_aload_nN C dX4_does_209 rfl ?_
          refine ri_getf C dX4_does_210 fr_q2991_3 (by first | assumption | (repeat (first | assumption | exact kx_rs (by assumption) | exact kx_ne2 (by omega) | exact kx_ne1 (by omega) | refine kx_ro (by assumption) ?_ ?_ | exact kx_rs rfl | refine kx_ro rfl ?_ ?_))) (by rfl) ?_
          refine ri_iconst C dX4_does_213 kc_i0 ?_
          refine ri_iaload C dX4_does_214 cn rfl (by omega) ?_
          rw [if_pos (show 0 < 6 by decide), show Nn (6 * k + 0) = nI a from hN 0 (show 0 < 2 by decide)]
          first | refine ri_aload_n C dX4_does_215 rfl ?_ | refine ri_aload_nQ C dX4_does_215 rfl ?_ | refine ri_aload_nN C dX4_does_215 rfl ?_
          refine ri_getf C dX4_does_216 fr_q2970_3 (by first | assumption | (repeat (first | assumption | exact kx_rs (by assumption) | exact kx_ne2 (by omega) | exact kx_ne1 (by omega) | refine kx_ro (by assumption) ?_ ?_ | exact kx_rs rfl | refine kx_ro rfl ?_ ?_))) (by rfl) ?_
          refine ri_iconst C dX4_does_219 kc_i0 ?_
          first | refine ri_ialoadN C dX4_does_220 (by first | assumption | (repeat (first | assumption | exact kx_rs (by assumption) | exact kx_ne2 (by omega) | exact kx_ne1 (by omega) | refine kx_ro (by assumption) ?_ ?_ | exact kx_rs rfl | refine kx_ro rfl ?_ ?_))) rfl (by omega) ?_ | refine ri_iaload C dX4_does_220 (by first | assumption | (repeat (first | assumption | exact kx_rs (by assumption) | exact kx_ne2 (by omega) | exact kx_ne1 (by omega) | refine kx_ro (by assumption) ?_ ?_ | exact kx_rs rfl | refine kx_ro rfl ?_ ?_))) rfl (by omega) ?_
          first | refine ri_icmp_geN C 247 dX4_does_221 rfl (by omega) (by omega) (fun h221 => ?_) (fun h221 => ?_) | refine ri_icmp_ge C 247 dX4_does_221 rfl (fun h221 => ?_) (fun h221 => ?_)
          · refine ri_iconst C dX4_does_247 kc_i0 ?_
            exact ri_iret C hQ dX4_does_248 rfl (Nat.le_of_ble_eq_true rfl) (Nat.le_of_ble_eq_true rfl) (by first | exact ⟨congrArg (fun x => some (Value.int x)) (kx_b_t (show decide (a < u 0) = true from decide_eq_true (by omega))), (fun j => if j < 6 then Nn (6 * k + j) else M j), fun h => absurd ((show decide (a < u 0) = true from decide_eq_true (by omega)).symm.trans h) (by decide), fun _ => by rw [show dd_log u L 4 [a, b] = L from rfl, kx_up_i (kx_ro rfl (kx_ro rfl hl (by decide)) (by decide)), e237, hI]; rfl⟩ | exact ⟨congrArg (fun x => some (Value.int x)) (kx_b_f (show decide (a < u 0) = false from decide_eq_false (by omega))), _, fun _ => hI, fun h => absurd ((show decide (a < u 0) = false from decide_eq_false (by omega)).symm.trans h) (by decide)⟩)
          · have gk := gk (by omega)
            first | refine ri_aload_n C dX4_does_224 rfl ?_ | refine ri_aload_nQ C dX4_does_224 rfl ?_ | refine ri_aload_nN C dX4_does_224 rfl ?_
            first | refine ri_aload_n C dX4_does_225 rfl ?_ | refine ri_aload_nQ C dX4_does_225 rfl ?_ | refine ri_aload_nN C dX4_does_225 rfl ?_
            refine ri_getf C dX4_does_226 fr_q2991_3 (by first | assumption | (repeat (first | assumption | exact kx_rs (by assumption) | exact kx_ne2 (by omega) | exact kx_ne1 (by omega) | refine kx_ro (by assumption) ?_ ?_ | exact kx_rs rfl | refine kx_ro rfl ?_ ?_))) (by rfl) ?_
            refine ri_iconst C dX4_does_229 kc_i0 ?_
            refine ri_iaload C dX4_does_230 cn rfl (by omega) ?_
            rw [if_pos (show 0 < 6 by decide), show Nn (6 * k + 0) = nI a from hN 0 (show 0 < 2 by decide)]
            first | refine ri_aload_n C dX4_does_231 rfl ?_ | refine ri_aload_nQ C dX4_does_231 rfl ?_ | refine ri_aload_nN C dX4_does_231 rfl ?_
            refine ri_getf C dX4_does_232 fr_q2991_3 (by first | assumption | (repeat (first | assumption | exact kx_rs (by assumption) | exact kx_ne2 (by omega) | exact kx_ne1 (by omega) | refine kx_ro (by assumption) ?_ ?_ | exact kx_rs rfl | refine kx_ro rfl ?_ ?_))) (by rfl) ?_
            refine ri_iconst C dX4_does_235 kc_i1 ?_
            refine ri_iaload C dX4_does_236 cn rfl (by omega) ?_
            rw [if_pos (show 1 < 6 by decide), show Nn (6 * k + 1) = nI b from hN 1 (show 1 < 2 by decide)]
            refine ri_callV C km_X4_weighs q3283 qs104 dX4_does_237 (mt_X4_weighs htr c0 cw (by omega)) rfl rfl (kx_rcN C (by first | assumption | (repeat (first | assumption | exact kx_rs (by assumption) | exact kx_ne2 (by omega) | exact kx_ne1 (by omega) | refine kx_ro (by assumption) ?_ ?_ | exact kx_rs rfl | refine kx_ro rfl ?_ ?_))) rfl) ⟨⟨(Nat.le_of_ble_eq_true rfl), (Nat.le_of_ble_eq_true rfl)⟩, (Nat.le_of_ble_eq_true rfl), (Nat.le_of_ble_eq_true rfl), (Nat.le_of_ble_eq_true rfl)⟩ (fun v237 s237 h237 => ?_) (fun _ _ _ h => h.elim)
            obtain ⟨rfl, e237⟩ := h237
            refine ri_if_lt C 247 dX4_does_240 rfl (fun h240 => ?_) (fun h240 => ?_)
            · exact absurd h240 (nI_nn (by omega)) --dead
            · refine ri_iconst C dX4_does_243 kc_i1 ?_
              refine ri_goto C 248 dX4_does_244 rfl ?_
              exact ri_iret C hQ dX4_does_248 rfl (Nat.le_of_ble_eq_true rfl) (Nat.le_of_ble_eq_true rfl) (by first | exact ⟨congrArg (fun x => some (Value.int x)) (kx_b_t (show decide (a < u 0) = true from decide_eq_true (by omega))), (fun j => if j < 6 then Nn (6 * k + j) else M j), fun h => absurd ((show decide (a < u 0) = true from decide_eq_true (by omega)).symm.trans h) (by decide), fun _ => by rw [show dd_log u L 4 [a, b] = L from rfl, kx_up_i (kx_ro rfl (kx_ro rfl hl (by decide)) (by decide)), e237, hI]; rfl⟩ | exact ⟨congrArg (fun x => some (Value.int x)) (kx_b_f (show decide (a < u 0) = false from decide_eq_false (by omega))), _, fun _ => hI, fun h => absurd ((show decide (a < u 0) = false from decide_eq_false (by omega)).symm.trans h) (by decide)⟩)
        refine ri_tabOut C 249 dX4_does_37 (by rw [nI_toInt (by omega)]; omega) rfl ?_
        obtain rfl : t = 5 := by omega
        obtain ⟨a, q, rfl, lq, lq2, la⟩ : ∃ a k, ll = [a, k] ∧ 5 ≤ k ∧ k ≤ 7 ∧ a ≤ mx_mst k := (by rcases hin with ⟨hx, -⟩ | ⟨hx, -⟩ | ⟨hx, -⟩ | ⟨hx, -⟩ | ⟨-, hx⟩ <;> first | exact hx | (exfalso; omega))
        have b567 : u q ≤ 50 := (by obtain ⟨-, -, x5, x6, x7⟩ := hu; rcases (show q = 5 ∨ q = 6 ∨ q = 7 by omega) with rfl | rfl | rfl <;> omega)
        first | refine ri_aload_n C dX4_does_249 rfl ?_ | refine ri_aload_nQ C dX4_does_249 rfl ?_ | refine ri_aload_nN C dX4_does_249 rfl ?_
        first | refine ri_aload_n C dX4_does_250 rfl ?_ | refine ri_aload_nQ C dX4_does_250 rfl ?_ | refine ri_aload_nN C dX4_does_250 rfl ?_
        refine ri_getf C dX4_does_251 fr_q2991_3 (by first | assumption | (repeat (first | assumption | exact kx_rs (by assumption) | exact kx_ne2 (by omega) | exact kx_ne1 (by omega) | refine kx_ro (by assumption) ?_ ?_ | exact kx_rs rfl | refine kx_ro rfl ?_ ?_))) (by rfl) ?_
        refine ri_iconst C dX4_does_254 kc_i1 ?_
        refine ri_iaload C dX4_does_255 cn rfl (by omega) ?_
        rw [if_pos (show 1 < 6 by decide), show Nn (6 * k + 1) = nI q from hN 1 (show 1 < 2 by decide)]
        first | refine ri_aload_n C dX4_does_256 rfl ?_ | refine ri_aload_nQ C dX4_does_256 rfl ?_ | refine ri_aload_nN C dX4_does_256 rfl ?_
        refine ri_getf C dX4_does_257 fr_q2991_3 (by first | assumption | (repeat (first | assumption | exact kx_rs (by assumption) | exact kx_ne2 (by omega) | exact kx_ne1 (by omega) | refine kx_ro (by assumption) ?_ ?_ | exact kx_rs rfl | refine kx_ro rfl ?_ ?_))) (by rfl) ?_
        refine ri_iconst C dX4_does_260 kc_i0 ?_
        refine ri_iaload C dX4_does_261 cn rfl (by omega) ?_
        rw [if_pos (show 0 < 6 by decide), show Nn (6 * k + 0) = nI a from hN 0 (show 0 < 2 by decide)]
        refine ri_callV C km_X4_sets q3287 qs105 dX4_does_262 (mt_X4_sets htr c0 cw (by omega)) rfl rfl (kx_rcN C (by first | assumption | (repeat (first | assumption | exact kx_rs (by assumption) | exact kx_ne2 (by omega) | exact kx_ne1 (by omega) | refine kx_ro (by assumption) ?_ ?_ | exact kx_rs rfl | refine kx_ro rfl ?_ ?_))) rfl) ⟨⟨(Nat.le_of_ble_eq_true rfl), (Nat.le_of_ble_eq_true rfl)⟩, (Nat.le_of_ble_eq_true rfl), (Nat.le_of_ble_eq_true rfl), (Nat.le_of_ble_eq_true rfl)⟩ (fun v262 s262 h262 => ?_) (fun _ _ _ h => h.elim)
        obtain ⟨rfl, e262⟩ := h262
        refine ri_if_lt C 272 dX4_does_265 rfl (fun h265 => ?_) (fun h265 => ?_)
        · exact absurd h265 (nI_nn (by omega)) --dead
        · refine ri_iconst C dX4_does_268 kc_i1 ?_
          refine ri_goto C 273 dX4_does_269 rfl ?_
          exact ri_iret C hQ dX4_does_273 rfl (Nat.le_of_ble_eq_true rfl) (Nat.le_of_ble_eq_true rfl) (by exact ⟨congrArg (fun x => some (Value.int x)) (kx_b_t (show true = true from rfl)), (fun j => if j < 6 then Nn (6 * k + j) else M j), fun h => absurd ((show true = true from rfl).symm.trans h) (by decide), fun _ => by rw [show dd_log u L 5 [a, q] = L from rfl, kx_up_i (kx_ro rfl (kx_ro rfl hl (by decide)) (by decide)), e262, hI]; rfl⟩)
      · first | refine ri_aload_n C dX4_does_8 rfl ?_ | refine ri_aload_nQ C dX4_does_8 rfl ?_ | refine ri_aload_nN C dX4_does_8 rfl ?_
        refine ri_getf C dX4_does_9 fr_q2991_3 (by first | assumption | (repeat (first | assumption | exact kx_rs (by assumption) | exact kx_ne2 (by omega) | exact kx_ne1 (by omega) | refine kx_ro (by assumption) ?_ ?_ | exact kx_rs rfl | refine kx_ro rfl ?_ ?_))) (by rfl) ?_
        refine ri_iload_n C dX4_does_12 rfl ?_
        first | refine ri_aload_n C dX4_does_13 rfl ?_ | refine ri_aload_nQ C dX4_does_13 rfl ?_ | refine ri_aload_nN C dX4_does_13 rfl ?_
        refine ri_getf C dX4_does_14 fr_q2993_3 (by first | assumption | (repeat (first | assumption | exact kx_rs (by assumption) | exact kx_ne2 (by omega) | exact kx_ne1 (by omega) | refine kx_ro (by assumption) ?_ ?_ | exact kx_rs rfl | refine kx_ro rfl ?_ ?_))) (by rfl) ?_
        refine ri_bipush C dX4_does_17 kc_b6 ?_
        refine ri_iload_n C dX4_does_19 rfl ?_
        first | refine ri_imulN C dX4_does_20 ?_ | refine ri_imul C dX4_does_20 ?_
        refine ri_iload_n C dX4_does_21 rfl ?_
        first | refine ri_iaddN C dX4_does_22 ?_ | refine ri_iadd C dX4_does_22 ?_
        refine ri_iaload C dX4_does_23 (by first | assumption | (repeat (first | assumption | exact kx_rs (by assumption) | exact kx_ne2 (by omega) | exact kx_ne1 (by omega) | refine kx_ro (by assumption) ?_ ?_ | exact kx_rs rfl | refine kx_ro rfl ?_ ?_))) rfl (by omega) ?_
        refine ri_iastore C dX4_does_24 (by first | assumption | (repeat (first | assumption | exact kx_rs (by assumption) | exact kx_ne2 (by omega) | exact kx_ne1 (by omega) | refine kx_ro (by assumption) ?_ ?_ | exact kx_rs rfl | refine kx_ro rfl ?_ ?_))) rfl (by omega) (fun s24 e24 => ?_)
        first | refine ri_iincN C dX4_does_25 rfl rfl (by decide) ?_ | refine ri_iinc C dX4_does_25 rfl rfl rfl (by decide) ?_
        refine ri_goto C 2 dX4_does_28 rfl ?_
        refine ri_lv2 (ih (i + 1) _ (by omega) (by omega) ?_) ⟨rfl, rfl, rfl, trivial⟩
        rw [e24, hI, kx_up_u]
        refine congrArg (fun f => kx_up σ (1, 22) (ad 21, kx_ai G 6 f)) ?_
        funext j
        simp only [upd]
        by_cases c : j = i
        · subst c; rw [if_pos rfl, if_pos (by omega)]
        · rw [if_neg c]
          by_cases d : j < i
          · rw [if_pos d, if_pos (by omega)]
          · rw [if_neg d, if_neg (by omega)]
  refine ri_lv2 (LP 7 0 _ (by omega) (by omega) ?_) ⟨rfl, rfl, rfl, trivial⟩
  simp only [Nat.not_lt_zero, if_false]; exact (kx_up_i hn).symm
