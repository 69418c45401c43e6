/-! the reference: scripts -/
set_option maxRecDepth 100000
/-- the deeds that are written down -/
def dd_O (O Nn : Nat → Int32) (D : List dd_D) : Prop := ∀ j d, D[j]? = some d → O j = nI d.1 ∧ dd_M (fun i => Nn (6 * j + i)) d.2 ∧ dd_in d.1 d.2
theorem dd_in_l {t : Nat} {l : List Nat} (h : dd_in t l) : l.length ≤ 6 ∧ 1 ≤ t ∧ t ≤ 5 := by
  rcases h with ⟨rfl, a, b, rfl, -⟩ | ⟨rfl, a, b, c, d, e, f, rfl, -⟩ | ⟨rfl, a, rfl, -⟩ | ⟨rfl, a, b, rfl, -⟩ | ⟨rfl, a, b, rfl, -⟩ <;> simp
theorem dd_O_a {O Nn M : Nat → Int32} {D : List dd_D} {t : Nat} {l : List Nat} (h : dd_O O Nn D) (hM : dd_M M l) (hi : dd_in t l) : dd_O (upd O D.length (nI t)) (fun j => if 6 * D.length ≤ j ∧ j < 6 * D.length + 6 then M (j - 6 * D.length) else Nn j) (D ++ [(t, l)]) := by
  intro j d hj
  have h6 := (dd_in_l hi).1
  by_cases c : j = D.length
  · subst c
    rw [List.getElem?_append_right (Nat.le_refl _), Nat.sub_self] at hj
    injection hj with hj
    subst hj
    refine ⟨if_pos rfl, fun i hi2 => ?_, hi⟩
    have h7 : i < l.length := hi2
    show (if 6 * D.length ≤ 6 * D.length + i ∧ 6 * D.length + i < 6 * D.length + 6 then M (6 * D.length + i - 6 * D.length) else _) = _
    rw [if_pos (by omega), Nat.add_sub_cancel_left]
    exact hM i h7
  · have hlt : j < (D ++ [(t, l)]).length := (List.getElem?_eq_some_iff.mp hj).1
    rw [List.length_append] at hlt
    have hlt : j < D.length + 1 := hlt
    rw [List.getElem?_append_left (by omega)] at hj
    obtain ⟨g1, g2, g3⟩ := h j d hj
    have h8 := (dd_in_l g3).1
    refine ⟨(if_neg c).trans g1, fun i hi2 => ?_, g3⟩
    show (if 6 * D.length ≤ 6 * j + i ∧ 6 * j + i < 6 * D.length + 6 then _ else Nn (6 * j + i)) = _
    rw [if_neg (by omega)]
    exact g2 i hi2
theorem sc_w_k {inp : Nat → Nat} {N s : Nat} (h : sc_w inp N s = 5) : ∃ k, st_w inp N s = some k := by
  cases hk : st_w inp N s with
  | some k => exact ⟨k, rfl⟩
  | none =>
    unfold sc_w at h
    rw [hk] at h
    simp only at h
    repeat (first | omega | split at h)
def mo_QS (G : kx_G) (σ : kx_H) (mo : Nat) (ad : Nat → Nat) (z' M' O' N' : Nat → Int32) (τ : kx_H) : Prop := mo_PS G (kx_up (kx_up σ (1, 23) (ad 22, kx_ai G 31 O')) (1, 24) (ad 23, kx_ai G 186 N')) mo ad z' M' τ
theorem mo_QS_i {G : kx_G} {σ τ : kx_H} {mo : Nat} {ad : Nat → Nat} {z M O Nn : Nat → Int32} (ho : σ (1, 23) = some (ad 22, kx_ai G 31 O)) (hnn : σ (1, 24) = some (ad 23, kx_ai G 186 Nn)) (h : mo_PS G σ mo ad z M τ) : mo_QS G σ mo ad z M O Nn τ := by
  unfold mo_QS; rw [kx_up_i ho, kx_up_i hnn]; exact h
theorem mo_QS_p {G : kx_G} {σ ρ τ : kx_H} {mo : Nat} {ad : Nat → Nat} {z M O Nn z' M' : Nat → Int32} (h : mo_QS G σ mo ad z M O Nn ρ) (g : mo_PS G ρ mo ad z' M' τ) : mo_QS G σ mo ad z' M' O Nn τ := mo_PS_t h g
theorem mo_QS_O {G : kx_G} {σ ρ τ : kx_H} {mo : Nat} {ad : Nat → Nat} {z M O Nn O' : Nat → Int32} (h : mo_QS G σ mo ad z M O Nn ρ) (g : τ = kx_up ρ (1, 23) (ad 22, kx_ai G 31 O')) : mo_QS G σ mo ad z M O' Nn τ := by
  unfold mo_QS mo_PS at h ⊢
  rw [g, h]
  funext t
  by_cases c0 : t = (1, 0)
  · subst c0; rw [kx_up_o (by decide), kx_up_s, kx_up_s]
  · by_cases c1 : t = (1, 22)
    · subst c1; rw [kx_up_o (by decide), kx_up_o (by decide), kx_up_s, kx_up_o (by decide), kx_up_s]
    · by_cases c2 : t = (1, 23)
      · subst c2; rw [kx_up_s, kx_up_o (by decide), kx_up_o (by decide), kx_up_o (by decide), kx_up_s]
      · by_cases c3 : t = (1, 24)
        · subst c3; rw [kx_up_o (by decide), kx_up_o (by decide), kx_up_o (by decide), kx_up_s, kx_up_o (by decide), kx_up_o (by decide), kx_up_s]
        · simp only [kx_up, c0, c1, c2, c3, if_false]
theorem mo_QS_N {G : kx_G} {σ ρ τ : kx_H} {mo : Nat} {ad : Nat → Nat} {z M O Nn N' : Nat → Int32} (h : mo_QS G σ mo ad z M O Nn ρ) (g : τ = kx_up ρ (1, 24) (ad 23, kx_ai G 186 N')) : mo_QS G σ mo ad z M O N' τ := by
  unfold mo_QS mo_PS at h ⊢
  rw [g, h]
  funext t
  by_cases c0 : t = (1, 0)
  · subst c0; rw [kx_up_o (by decide), kx_up_s, kx_up_s]
  · by_cases c1 : t = (1, 22)
    · subst c1; rw [kx_up_o (by decide), kx_up_o (by decide), kx_up_s, kx_up_o (by decide), kx_up_s]
    · by_cases c3 : t = (1, 24)
      · subst c3; rw [kx_up_s, kx_up_o (by decide), kx_up_o (by decide), kx_up_s]
      · simp only [kx_up, c0, c1, c3, if_false]
theorem mo_QS_t {G : kx_G} {σ ρ τ : kx_H} {mo : Nat} {ad : Nat → Nat} {z M O Nn z' M' O' N' : Nat → Int32} (h : mo_QS G σ mo ad z M O Nn ρ) (g : mo_QS G ρ mo ad z' M' O' N' τ) : mo_QS G σ mo ad z' M' O' N' τ := by
  have h1 := mo_QS_N (N' := N') (mo_QS_O (O' := O') h rfl) rfl
  exact mo_PS_t h1 g
theorem mo_QS_23 {G : kx_G} {σ τ : kx_H} {mo : Nat} {ad : Nat → Nat} {z M O Nn : Nat → Int32} (h : mo_QS G σ mo ad z M O Nn τ) : τ (1, 23) = some (ad 22, kx_ai G 31 O) := mo_PS_o h (kx_ro rfl (kx_rs rfl) (by decide)) (by decide) (by decide)
theorem mo_QS_24 {G : kx_G} {σ τ : kx_H} {mo : Nat} {ad : Nat → Nat} {z M O Nn : Nat → Int32} (h : mo_QS G σ mo ad z M O Nn τ) : τ (1, 24) = some (ad 23, kx_ai G 186 Nn) := mo_PS_o h (kx_rs rfl) (by decide) (by decide)
theorem mo_QS_u {G : kx_G} {σ τ : kx_H} {mo k : Nat} {ad : Nat → Nat} {z M O Nn : Nat → Int32} {x : Nat × va_E} (h : mo_QS G σ mo ad z M O Nn τ) (g : σ (1, k) = some x) (h0 : k ≠ 0) (h2 : k ≠ 22) (h3 : k ≠ 23) (h4 : k ≠ 24) : τ (1, k) = some x := mo_PS_o h (kx_ro rfl (kx_ro rfl g (kx_ne2 h3)) (kx_ne2 h4)) h0 h2
theorem mo_at_24 {z : Nat → Int32} {inp : Nat → Nat} {N s : Nat} {x : Int32} (h : mo_at z inp N s) : mo_at (mo_z z 24 x) inp N s := h
/-- as before but for the parser's own scalars and the count of the deeds -/
def mo_kq (z z' : Nat → Int32) : Prop := ∀ j, j < 14 ∨ 24 < j → z' j = z j
theorem mo_kq_p {z z' : Nat → Int32} (h : mo_kp z z') : mo_kq z z' := fun j hj => h j (by omega)
theorem mo_kq_t {z z' z2 : Nat → Int32} (h : mo_kq z z') (g : mo_kq z' z2) : mo_kq z z2 := fun j hj => (g j hj).trans (h j hj)
theorem mo_kq_z {z : Nat → Int32} {x : Int32} : mo_kq z (mo_z z 24 x) := fun j hj => mo_z_o (by omega)
theorem dd_n0 {Nn M : Nat → Int32} {m : Nat} : (fun j => if 6 * m ≤ j ∧ j < 6 * m + 0 then M (j - 6 * m) else Nn j) = Nn := by
  funext j; rw [if_neg (by omega)]
theorem dd_nx {Nn M : Nat → Int32} {m i : Nat} : upd (fun j => if 6 * m ≤ j ∧ j < 6 * m + i then M (j - 6 * m) else Nn j) (6 * m + i) (M i) = fun j => if 6 * m ≤ j ∧ j < 6 * m + (i + 1) then M (j - 6 * m) else Nn j := by
  funext j
  simp only [upd]
  by_cases c : j = 6 * m + i
  · subst c; rw [if_pos rfl, if_pos (by omega), Nat.add_sub_cancel_left]
  · rw [if_neg c]
    by_cases d : 6 * m ≤ j ∧ j < 6 * m + i
    · rw [if_pos d, if_pos (by omega)]
    · rw [if_neg d, if_neg (by omega)]
set_option maxHeartbeats 1000000 in
theorem mt_X4_readScriptStatement {l : Launch} {G : kx_G} (htr : l.stackTraces = false) {σ : kx_H} {mo : Nat} {ad : Nat → Nat} {z : Nat → Int32} (h0 : σ (1, 0) = some (mo, .inr (3, mo_L ad z))) {inp : Nat → Nat} {N : Nat} (hin : σ (1, 11) = some (ad 10, kx_ai G 700 (mx_w inp))) {M : Nat → Int32} (hn : σ (1, 22) = some (ad 21, kx_ai G 6 M)) {s0 : Nat} (hat : mo_at z inp N s0) (hN7 : N ≤ 700) (hby : ∀ k, k < N → inp k < 256) {O Nn : Nat → Int32} (ho : σ (1, 23) = some (ad 22, kx_ai G 31 O)) (hnn : σ (1, 24) = some (ad 23, kx_ai G 186 Nn)) {D : List dd_D} (hz : z 24 = nI D.length) (hD : dd_O O Nn D) (hl30 : D.length ≤ 30) : kx_SP l G yX4_readScriptStatement (ws_ yX4_readScriptStatement cX4_readScriptStatement 3 (some .boolean)) 8 0 0 [.ref mo] σ (fun v τ => ∃ z' M' O' N', mo_QS G σ mo ad z' M' O' N' τ ∧ mo_kq z z' ∧ (∀ e, pn_ss inp N D.length s0 = .inl e → v = some (.int (nI 0)) ∧ mo_er z' e) ∧ (∀ x, pn_ss inp N D.length s0 = .inr x → v = some (.int (nI 1)) ∧ mo_at z' inp N x.2 ∧ z' 24 = nI (D ++ [x.1]).length ∧ dd_O O' N' (D ++ [x.1]))) kx_nx := by
  refine kx_body htr (by decide +kernel) (own := "RoseProverbsModel") (nm := "readScriptStatement") rfl rfl (Nat.le_of_ble_eq_true rfl) ?_
  intro p e s m args below meth c Q C hQ
  obtain ⟨hv11, hv14, h16, h17, h18, h19, hs0, hv15⟩ := hat
  have hat : mo_at z inp N s0 := ⟨hv11, hv14, h16, h17, h18, h19, hs0, hv15⟩
  have P0 := mo_QS_i ho hnn (mo_PS_i h0 hn)
  have hw5 := sc_w_5 (inp := inp) (N := N) (s := s0)
  first | refine ri_aload_n C dX4_readScriptStatement_0 rfl ?_ | refine ri_aload_nQ C dX4_readScriptStatement_0 rfl ?_ | refine ri_aload_nN C dX4_readScriptStatement_0 rfl ?_
  refine ri_callV C km_X4_scriptHere q3178 qs82 dX4_readScriptStatement_1 (mt_X4_scriptHere htr h0 hin hat hN7 hby) rfl rfl (kx_rcN C (by first | assumption | (repeat (first | assumption | exact kx_rs (by assumption) | exact kx_ne2 (by omega) | exact kx_ne1 (by omega) | refine kx_ro (by assumption) ?_ ?_ | exact kx_rs rfl | refine kx_ro rfl ?_ ?_))) rfl) ⟨⟨(Nat.le_of_ble_eq_true rfl), (Nat.le_of_ble_eq_true rfl)⟩, (Nat.le_of_ble_eq_true rfl), (Nat.le_of_ble_eq_true rfl), (Nat.le_of_ble_eq_true rfl)⟩ (fun v1 s1 h1 => ?_) (fun _ _ _ h => h.elim)
  obtain ⟨rfl, rfl⟩ := h1
  refine ri_istore_n C dX4_readScriptStatement_4 rfl (by decide) ?_
  refine ri_iload_n C dX4_readScriptStatement_5 rfl ?_
  first | refine ri_if_neB C 15 dX4_readScriptStatement_6 rfl (fun h6 => ?_) (fun h6 => ?_) | refine ri_if_neN C 15 dX4_readScriptStatement_6 rfl (by omega) (fun h6 => ?_) (fun h6 => ?_) | refine ri_if_ne C 15 dX4_readScriptStatement_6 rfl (fun h6 => ?_) (fun h6 => ?_)
  · first | refine ri_aload_n C dX4_readScriptStatement_15 rfl ?_ | refine ri_aload_nQ C dX4_readScriptStatement_15 rfl ?_ | refine ri_aload_nN C dX4_readScriptStatement_15 rfl ?_
    refine ri_getf C dX4_readScriptStatement_16 fr_q2994_3 (by first | assumption | (repeat (first | assumption | exact kx_rs (by assumption) | exact kx_ne2 (by omega) | exact kx_ne1 (by omega) | refine kx_ro (by assumption) ?_ ?_ | exact kx_rs rfl | refine kx_ro rfl ?_ ?_))) (by rfl) ?_
    rw [hz]
    refine ri_bipush C dX4_readScriptStatement_19 kc_b30 ?_
    first | refine ri_icmp_neN C 30 dX4_readScriptStatement_21 rfl (by omega) (by omega) (fun h21 => ?_) (fun h21 => ?_) | refine ri_icmp_ne C 30 dX4_readScriptStatement_21 rfl (fun h21 => ?_) (fun h21 => ?_)
    · first | refine ri_aload_n C dX4_readScriptStatement_30 rfl ?_ | refine ri_aload_nQ C dX4_readScriptStatement_30 rfl ?_ | refine ri_aload_nN C dX4_readScriptStatement_30 rfl ?_
      refine ri_iload_n C dX4_readScriptStatement_31 rfl ?_
      refine ri_callV C km_X4_takesRest q3185 qs83 dX4_readScriptStatement_32 (mt_X4_takesRest htr h0 hin hn hat hN7 hby ⟨by omega, hw5⟩ sc_w_k) rfl rfl (kx_rcN C (by first | assumption | (repeat (first | assumption | exact kx_rs (by assumption) | exact kx_ne2 (by omega) | exact kx_ne1 (by omega) | refine kx_ro (by assumption) ?_ ?_ | exact kx_rs rfl | refine kx_ro rfl ?_ ?_))) rfl) ⟨⟨(Nat.le_of_ble_eq_true rfl), (Nat.le_of_ble_eq_true rfl)⟩, (Nat.le_of_ble_eq_true rfl), (Nat.le_of_ble_eq_true rfl), (Nat.le_of_ble_eq_true rfl)⟩ (fun v32 s32 h32 => ?_) (fun _ _ _ h => h.elim)
      obtain ⟨z2, M2, p2, k2, m2, g2⟩ := h32
      have P2 := mo_QS_p P0 p2
      have b2 := mo_PS_0 P2
      have bn2 := mo_PS_n P2
      have bo2 := mo_QS_23 P2
      have bq2 := mo_QS_24 P2
      have bi2 := mo_QS_u P2 hin (by decide) (by decide) (by decide) (by decide)
      rcases hr : pn_tr inp N (sc_w inp N s0) s0 with e | x
      · obtain ⟨rfl, mm⟩ := m2 e hr
        have hss : pn_ss inp N D.length s0 = .inl e := by unfold pn_ss; rw [if_neg h6, if_neg h21, hr]
        first | refine ri_if_neB C 40 dX4_readScriptStatement_35 rfl (fun h35 => ?_) (fun h35 => ?_) | refine ri_if_neN C 40 dX4_readScriptStatement_35 rfl (by omega) (fun h35 => ?_) (fun h35 => ?_) | refine ri_if_ne C 40 dX4_readScriptStatement_35 rfl (fun h35 => ?_) (fun h35 => ?_)
        · exact absurd rfl h35 --dead
        · refine ri_iconst C dX4_readScriptStatement_38 kc_i0 ?_
          exact ri_iret C hQ dX4_readScriptStatement_39 rfl (Nat.le_of_ble_eq_true rfl) (Nat.le_of_ble_eq_true rfl) ⟨_, _, _, _, P2, (mo_kq_p k2), fun e' he => (by rw [hss] at he; injection he with he; subst he; exact ⟨rfl, mm⟩), fun x' hx => (by rw [hss] at hx; cases hx)⟩
      · obtain ⟨rfl, at2, hdM⟩ := g2 x hr
        have hdi : dd_in (sc_w inp N s0) x.1 := (pn_tr_s hs0 ⟨by omega, hw5⟩ hr).2.2
        have hz2 : z2 24 = nI D.length := (k2 24 (by decide)).trans hz
        first | refine ri_if_neB C 40 dX4_readScriptStatement_35 rfl (fun h35 => ?_) (fun h35 => ?_) | refine ri_if_neN C 40 dX4_readScriptStatement_35 rfl (by omega) (fun h35 => ?_) (fun h35 => ?_) | refine ri_if_ne C 40 dX4_readScriptStatement_35 rfl (fun h35 => ?_) (fun h35 => ?_)
        · first | refine ri_aload_n C dX4_readScriptStatement_40 rfl ?_ | refine ri_aload_nQ C dX4_readScriptStatement_40 rfl ?_ | refine ri_aload_nN C dX4_readScriptStatement_40 rfl ?_
          refine ri_getf C dX4_readScriptStatement_41 fr_q2992_3 (by first | assumption | (repeat (first | assumption | exact kx_rs (by assumption) | exact kx_ne2 (by omega) | exact kx_ne1 (by omega) | refine kx_ro (by assumption) ?_ ?_ | exact kx_rs rfl | refine kx_ro rfl ?_ ?_))) (by rfl) ?_
          first | refine ri_aload_n C dX4_readScriptStatement_44 rfl ?_ | refine ri_aload_nQ C dX4_readScriptStatement_44 rfl ?_ | refine ri_aload_nN C dX4_readScriptStatement_44 rfl ?_
          refine ri_getf C dX4_readScriptStatement_45 fr_q2994_3 (by first | assumption | (repeat (first | assumption | exact kx_rs (by assumption) | exact kx_ne2 (by omega) | exact kx_ne1 (by omega) | refine kx_ro (by assumption) ?_ ?_ | exact kx_rs rfl | refine kx_ro rfl ?_ ?_))) (by rfl) ?_
          rw [hz2]
          refine ri_iload_n C dX4_readScriptStatement_48 rfl ?_
          refine ri_iastore C dX4_readScriptStatement_49 bo2 rfl (by omega) (fun s49 e49 => ?_)
          have P3 := mo_QS_O P2 e49
          have b3 := mo_PS_0 P3
          have bn3 := mo_PS_n P3
          have bo3 := mo_QS_23 P3
          have bq3 := mo_QS_24 P3
          have bi3 := mo_QS_u P3 hin (by decide) (by decide) (by decide) (by decide)
          refine ri_iconst C dX4_readScriptStatement_50 kc_i0 ?_
          refine ri_istore_n C dX4_readScriptStatement_51 rfl (by decide) ?_
          have LP : ∀ (wk i : Nat) (τ : kx_H), i ≤ 6 → 6 < i + wk → mo_QS G s1 mo ad z2 M2 (upd O D.length (nI (sc_w inp N s0))) (fun j => if 6 * D.length ≤ j ∧ j < 6 * D.length + i then M2 (j - 6 * D.length) else Nn j) τ → kx_V G l p e (kx_rm 8 0 0) s m args below meth c 3 Q 52 [(0, .ref mo), (2, .int (nI i))] [] τ 0 0 := by
            intro wk
            induction wk with
            | zero => intro i τ h1 h2; exact absurd h2 (by omega)
            | succ wk ih =>
              intro i τ hi hwk hI
              have bi0 := mo_PS_0 hI
              have bni := mo_PS_n hI
              have boi := mo_QS_23 hI
              have bqi := mo_QS_24 hI
              have bii := mo_QS_u hI hin (by decide) (by decide) (by decide) (by decide)
              refine ri_iload_n C dX4_readScriptStatement_52 rfl ?_
              refine ri_bipush C dX4_readScriptStatement_53 kc_b6 ?_
              first | refine ri_icmp_geN C 84 dX4_readScriptStatement_55 rfl (by omega) (by omega) (fun h55 => ?_) (fun h55 => ?_) | refine ri_icmp_ge C 84 dX4_readScriptStatement_55 rfl (fun h55 => ?_) (fun h55 => ?_)
              · obtain rfl : i = 6 := by omega
                first | refine ri_aload_n C dX4_readScriptStatement_84 rfl ?_ | refine ri_aload_nQ C dX4_readScriptStatement_84 rfl ?_ | refine ri_aload_nN C dX4_readScriptStatement_84 rfl ?_
                refine ri_dup C dX4_readScriptStatement_85 rfl ?_
                refine ri_getf C dX4_readScriptStatement_86 fr_q2994_3 (by first | assumption | (repeat (first | assumption | exact kx_rs (by assumption) | exact kx_ne2 (by omega) | exact kx_ne1 (by omega) | refine kx_ro (by assumption) ?_ ?_ | exact kx_rs rfl | refine kx_ro rfl ?_ ?_))) (by rfl) ?_
                rw [hz2]
                refine ri_iconst C dX4_readScriptStatement_89 kc_i1 ?_
                first | refine ri_iaddN C dX4_readScriptStatement_90 ?_ | refine ri_iadd C dX4_readScriptStatement_90 ?_
                refine ri_putf C dX4_readScriptStatement_91 fd_q2994_3 (fun h => nomatch h) (by first | assumption | (repeat (first | assumption | exact kx_rs (by assumption) | exact kx_ne2 (by omega) | exact kx_ne1 (by omega) | refine kx_ro (by assumption) ?_ ?_ | exact kx_rs rfl | refine kx_ro rfl ?_ ?_))) (Nat.le_of_ble_eq_true rfl) (by rfl) (by rfl) mo_set24 (fun s91 e91 => ?_)
                have P5 := mo_QS_p hI (mo_PS_z (mo_PS_i bi0 bni) e91)
                have b5 := mo_PS_0 P5
                have bn5 := mo_PS_n P5
                have bo5 := mo_QS_23 P5
                have bq5 := mo_QS_24 P5
                have bi5 := mo_QS_u P5 hin (by decide) (by decide) (by decide) (by decide)
                first | refine ri_aload_n C dX4_readScriptStatement_94 rfl ?_ | refine ri_aload_nQ C dX4_readScriptStatement_94 rfl ?_ | refine ri_aload_nN C dX4_readScriptStatement_94 rfl ?_
                refine ri_callV C km_X4_takesSemicolon q3162 qs79 dX4_readScriptStatement_95 (mt_X4_takesSemicolon htr b5 bi5 bn5 (mo_at_24 at2) hN7 hby) rfl rfl (kx_rcN C (by first | assumption | (repeat (first | assumption | exact kx_rs (by assumption) | exact kx_ne2 (by omega) | exact kx_ne1 (by omega) | refine kx_ro (by assumption) ?_ ?_ | exact kx_rs rfl | refine kx_ro rfl ?_ ?_))) rfl) ⟨⟨(Nat.le_of_ble_eq_true rfl), (Nat.le_of_ble_eq_true rfl)⟩, (Nat.le_of_ble_eq_true rfl), (Nat.le_of_ble_eq_true rfl), (Nat.le_of_ble_eq_true rfl)⟩ (fun v95 s95 h95 => ?_) (fun _ _ _ h => h.elim)
                obtain ⟨z4, p4, k5, m4, g4⟩ := h95
                have P6 := mo_QS_p P5 p4
                have K6 : mo_kq z z4 := mo_kq_t (mo_kq_p k2) (mo_kq_t mo_kq_z (mo_kq_p k5))
                rcases hq : pn_semi inp N x.2 with e | y
                · obtain ⟨rfl, mm⟩ := m4 e hq
                  have hss : pn_ss inp N D.length s0 = .inl e := by unfold pn_ss; rw [if_neg h6, if_neg h21, hr]; simp only [hq]
                  exact ri_iret C hQ dX4_readScriptStatement_98 rfl (Nat.le_of_ble_eq_true rfl) (Nat.le_of_ble_eq_true rfl) ⟨_, _, _, _, P6, K6, fun e' he => (by rw [hss] at he; injection he with he; subst he; exact ⟨rfl, mm⟩), fun x' hx => (by rw [hss] at hx; cases hx)⟩
                · obtain ⟨rfl, at4⟩ := g4 y hq
                  have hss : pn_ss inp N D.length s0 = .inr ((sc_w inp N s0, x.1), y.2) := by unfold pn_ss; rw [if_neg h6, if_neg h21, hr]; simp only [hq]
                  exact ri_iret C hQ dX4_readScriptStatement_98 rfl (Nat.le_of_ble_eq_true rfl) (Nat.le_of_ble_eq_true rfl) ⟨_, _, _, _, P6, K6, fun e' he => (by rw [hss] at he; cases he), fun x' hx => (by rw [hss] at hx; injection hx with hx; subst hx; exact ⟨rfl, at4, (by rw [List.length_append]; exact (k5 24 (by decide)).trans mo_z_s), dd_O_a hD hdM hdi⟩)⟩
              · first | refine ri_aload_n C dX4_readScriptStatement_58 rfl ?_ | refine ri_aload_nQ C dX4_readScriptStatement_58 rfl ?_ | refine ri_aload_nN C dX4_readScriptStatement_58 rfl ?_
                refine ri_getf C dX4_readScriptStatement_59 fr_q2993_3 (by first | assumption | (repeat (first | assumption | exact kx_rs (by assumption) | exact kx_ne2 (by omega) | exact kx_ne1 (by omega) | refine kx_ro (by assumption) ?_ ?_ | exact kx_rs rfl | refine kx_ro rfl ?_ ?_))) (by rfl) ?_
                refine ri_bipush C dX4_readScriptStatement_62 kc_b6 ?_
                first | refine ri_aload_n C dX4_readScriptStatement_64 rfl ?_ | refine ri_aload_nQ C dX4_readScriptStatement_64 rfl ?_ | refine ri_aload_nN C dX4_readScriptStatement_64 rfl ?_
                refine ri_getf C dX4_readScriptStatement_65 fr_q2994_3 (by first | assumption | (repeat (first | assumption | exact kx_rs (by assumption) | exact kx_ne2 (by omega) | exact kx_ne1 (by omega) | refine kx_ro (by assumption) ?_ ?_ | exact kx_rs rfl | refine kx_ro rfl ?_ ?_))) (by rfl) ?_
                rw [hz2]
                first | refine ri_imulN C dX4_readScriptStatement_68 ?_ | refine ri_imul C dX4_readScriptStatement_68 ?_
                refine ri_iload_n C dX4_readScriptStatement_69 rfl ?_
                first | refine ri_iaddN C dX4_readScriptStatement_70 ?_ | refine ri_iadd C dX4_readScriptStatement_70 ?_
                first | refine ri_aload_n C dX4_readScriptStatement_71 rfl ?_ | refine ri_aload_nQ C dX4_readScriptStatement_71 rfl ?_ | refine ri_aload_nN C dX4_readScriptStatement_71 rfl ?_
                refine ri_getf C dX4_readScriptStatement_72 fr_q2991_3 (by first | assumption | (repeat (first | assumption | exact kx_rs (by assumption) | exact kx_ne2 (by omega) | exact kx_ne1 (by omega) | refine kx_ro (by assumption) ?_ ?_ | exact kx_rs rfl | refine kx_ro rfl ?_ ?_))) (by rfl) ?_
                refine ri_iload_n C dX4_readScriptStatement_75 rfl ?_
                refine ri_iaload C dX4_readScriptStatement_76 bni rfl (by omega) ?_
                refine ri_iastore C dX4_readScriptStatement_77 bqi rfl (by omega) (fun s77 e77 => ?_)
                first | refine ri_iincN C dX4_readScriptStatement_78 rfl rfl (by decide) ?_ | refine ri_iinc C dX4_readScriptStatement_78 rfl rfl rfl (by decide) ?_
                refine ri_goto C 52 dX4_readScriptStatement_81 rfl ?_
                refine ri_lv2 (ih (i + 1) _ (by omega) (by omega) (mo_QS_N hI (by rw [e77]; refine congrArg (fun f => kx_up τ (1, 24) (ad 23, kx_ai G 186 f)) ?_; exact dd_nx))) ⟨rfl, rfl, trivial⟩
          refine ri_lv2 (LP 7 0 _ (by omega) (by omega) (mo_QS_N P3 (by rw [dd_n0]; exact (kx_up_i bq3).symm))) ⟨rfl, rfl, trivial⟩
        · exact absurd h35 (by decide) --dead
    · have hss : pn_ss inp N D.length s0 = .inl (3, s0) := by unfold pn_ss; rw [if_neg h6, if_pos h21]
      first | refine ri_aload_n C dX4_readScriptStatement_24 rfl ?_ | refine ri_aload_nQ C dX4_readScriptStatement_24 rfl ?_ | refine ri_aload_nN C dX4_readScriptStatement_24 rfl ?_
      refine ri_iconst C dX4_readScriptStatement_25 kc_i3 ?_
      refine ri_callV C km_X4_failsAt q3116 qs69 dX4_readScriptStatement_26 (mt_X4_failsAt htr h0 hv14 h17) rfl rfl (kx_rcN C (by first | assumption | (repeat (first | assumption | exact kx_rs (by assumption) | exact kx_ne2 (by omega) | exact kx_ne1 (by omega) | refine kx_ro (by assumption) ?_ ?_ | exact kx_rs rfl | refine kx_ro rfl ?_ ?_))) rfl) ⟨⟨(Nat.le_of_ble_eq_true rfl), (Nat.le_of_ble_eq_true rfl)⟩, (Nat.le_of_ble_eq_true rfl), (Nat.le_of_ble_eq_true rfl), (Nat.le_of_ble_eq_true rfl)⟩ (fun v26 s26 h26 => ?_) (fun _ _ _ h => h.elim)
      obtain ⟨rfl, e26⟩ := h26
      exact ri_iret C hQ dX4_readScriptStatement_29 rfl (Nat.le_of_ble_eq_true rfl) (Nat.le_of_ble_eq_true rfl) ⟨_, _, _, _, mo_QS_p P0 (mo_PS_z (mo_PS_i h0 hn) e26), (fun j hj => (mo_z_o (by omega)).trans (mo_z_o (by omega))), fun e' he => (by rw [hss] at he; injection he with he; subst he; exact ⟨rfl, ⟨rfl, rfl⟩⟩), fun x' hx => (by rw [hss] at hx; cases hx)⟩
  · have hss : pn_ss inp N D.length s0 = .inl (1, s0) := by unfold pn_ss; rw [if_pos h6]
    first | refine ri_aload_n C dX4_readScriptStatement_9 rfl ?_ | refine ri_aload_nQ C dX4_readScriptStatement_9 rfl ?_ | refine ri_aload_nN C dX4_readScriptStatement_9 rfl ?_
    refine ri_iconst C dX4_readScriptStatement_10 kc_i1 ?_
    refine ri_callV C km_X4_failsAt q3116 qs69 dX4_readScriptStatement_11 (mt_X4_failsAt htr h0 hv14 h17) rfl rfl (kx_rcN C (by first | assumption | (repeat (first | assumption | exact kx_rs (by assumption) | exact kx_ne2 (by omega) | exact kx_ne1 (by omega) | refine kx_ro (by assumption) ?_ ?_ | exact kx_rs rfl | refine kx_ro rfl ?_ ?_))) rfl) ⟨⟨(Nat.le_of_ble_eq_true rfl), (Nat.le_of_ble_eq_true rfl)⟩, (Nat.le_of_ble_eq_true rfl), (Nat.le_of_ble_eq_true rfl), (Nat.le_of_ble_eq_true rfl)⟩ (fun v11 s11 h11 => ?_) (fun _ _ _ h => h.elim)
    obtain ⟨rfl, e11⟩ := h11
    exact ri_iret C hQ dX4_readScriptStatement_14 rfl (Nat.le_of_ble_eq_true rfl) (Nat.le_of_ble_eq_true rfl) ⟨_, _, _, _, mo_QS_p P0 (mo_PS_z (mo_PS_i h0 hn) e11), (fun j hj => (mo_z_o (by omega)).trans (mo_z_o (by omega))), fun e' he => (by rw [hss] at he; injection he with he; subst he; exact ⟨rfl, ⟨rfl, rfl⟩⟩), fun x' hx => (by rw [hss] at hx; cases hx)⟩
def dd_go : List dd_D → (Nat → Nat) → (Nat → Int32) → Nat × (Nat → Nat) × (Nat → Int32)
  | [], u, L => (0, u, L)
  | d :: D, u, L => if dd_ok u d.1 d.2 = true then ((dd_go D (dd_row u d.1 d.2) (dd_log u L d.1 d.2)).1 + 1, (dd_go D (dd_row u d.1 d.2) (dd_log u L d.1 d.2)).2) else (0, u, L)
theorem dd_go_t {d : dd_D} {D : List dd_D} {u : Nat → Nat} {L : Nat → Int32} (h : dd_ok u d.1 d.2 = true) : dd_go (d :: D) u L = ((dd_go D (dd_row u d.1 d.2) (dd_log u L d.1 d.2)).1 + 1, (dd_go D (dd_row u d.1 d.2) (dd_log u L d.1 d.2)).2) := by rw [dd_go, if_pos h]
theorem dd_go_f {d : dd_D} {D : List dd_D} {u : Nat → Nat} {L : Nat → Int32} (h : dd_ok u d.1 d.2 = false) : dd_go (d :: D) u L = (0, u, L) := by rw [dd_go, if_neg (by rw [h]; decide)]
/-- the reference's cells, all that playing a script may change told -/
def mo_7 (G : kx_G) (σ τ : kx_H) (mo : Nat) (ad : Nat → Nat) (z' : Nat → Int32) (u' : Nat → Nat) (P' L' M' O' N' : Nat → Int32) : Prop :=
  τ (1, 0) = some (mo, .inr (3, mo_L ad z')) ∧ τ (1, 1) = some (ad 0, kx_ai G 1417 (mx_w u')) ∧ τ (1, 5) = some (ad 4, kx_ai G 11336 P') ∧ τ (1, 6) = some (ad 5, kx_ai G 2160 L') ∧ τ (1, 22) = some (ad 21, kx_ai G 6 M') ∧ τ (1, 23) = some (ad 22, kx_ai G 31 O') ∧ τ (1, 24) = some (ad 23, kx_ai G 186 N') ∧ (∀ k, k ≠ 0 → k ≠ 1 → k ≠ 5 → k ≠ 6 → k ≠ 22 → k ≠ 23 → k ≠ 24 → τ (1, k) = σ (1, k)) ∧ kx_of 1 σ τ
section MO7
variable {G : kx_G} {σ τ ρ : kx_H} {mo : Nat} {ad : Nat → Nat} {z' z2 : Nat → Int32} {u' u2 : Nat → Nat} {P' L' M' O' N' X : Nat → Int32}
theorem kx_of_up {k : Nat} {x : Nat × va_E} (h : kx_of 1 σ τ) : kx_of 1 σ (kx_up τ (1, k) x) := kx_of_u rfl h
theorem mo_7_q (h : mo_QS G σ mo ad z' M' O' N' τ) (hw : σ (1, 1) = some (ad 0, kx_ai G 1417 (mx_w u'))) (hp : σ (1, 5) = some (ad 4, kx_ai G 11336 P')) (hl : σ (1, 6) = some (ad 5, kx_ai G 2160 L')) : mo_7 G σ τ mo ad z' u' P' L' M' O' N' :=
  ⟨mo_PS_0 h, mo_QS_u h hw (by decide) (by decide) (by decide) (by decide), mo_QS_u h hp (by decide) (by decide) (by decide) (by decide), mo_QS_u h hl (by decide) (by decide) (by decide) (by decide), mo_PS_n h, mo_QS_23 h, mo_QS_24 h, fun k k0 k1 k2 k3 k4 k5 k6 => by unfold mo_QS mo_PS at h; rw [h]; simp only [kx_up, Prod.mk.injEq, true_and, k0, k4, k5, k6, if_false], by
    unfold mo_QS mo_PS at h; rw [h]; exact kx_of_up (kx_of_up (kx_of_up (kx_of_up kx_of_r)))⟩
theorem mo_7_0 (h : mo_7 G σ τ mo ad z' u' P' L' M' O' N') (e : ρ = kx_up τ (1, 0) (mo, .inr (3, mo_L ad z2))) : mo_7 G σ ρ mo ad z2 u' P' L' M' O' N' := by
  obtain ⟨a0, a1, a5, a6, a22, a23, a24, o, f⟩ := h
  subst e
  exact ⟨kx_rs rfl, kx_ro rfl a1 (by decide), kx_ro rfl a5 (by decide), kx_ro rfl a6 (by decide), kx_ro rfl a22 (by decide), kx_ro rfl a23 (by decide), kx_ro rfl a24 (by decide), fun k k0 k1 k2 k3 k4 k5 k6 => (kx_up_o (kx_ne2 k0)).trans (o k k0 k1 k2 k3 k4 k5 k6), kx_of_up f⟩
theorem mo_7_1 (h : mo_7 G σ τ mo ad z' u' P' L' M' O' N') (e : ρ = kx_up τ (1, 1) (ad 0, kx_ai G 1417 (mx_w u2))) : mo_7 G σ ρ mo ad z' u2 P' L' M' O' N' := by
  obtain ⟨a0, a1, a5, a6, a22, a23, a24, o, f⟩ := h
  subst e
  exact ⟨kx_ro rfl a0 (by decide), kx_rs rfl, kx_ro rfl a5 (by decide), kx_ro rfl a6 (by decide), kx_ro rfl a22 (by decide), kx_ro rfl a23 (by decide), kx_ro rfl a24 (by decide), fun k k0 k1 k2 k3 k4 k5 k6 => (kx_up_o (kx_ne2 k1)).trans (o k k0 k1 k2 k3 k4 k5 k6), kx_of_up f⟩
theorem mo_7_5 (h : mo_7 G σ τ mo ad z' u' P' L' M' O' N') (e : ρ = kx_up τ (1, 5) (ad 4, kx_ai G 11336 X)) : mo_7 G σ ρ mo ad z' u' X L' M' O' N' := by
  obtain ⟨a0, a1, a5, a6, a22, a23, a24, o, f⟩ := h
  subst e
  exact ⟨kx_ro rfl a0 (by decide), kx_ro rfl a1 (by decide), kx_rs rfl, kx_ro rfl a6 (by decide), kx_ro rfl a22 (by decide), kx_ro rfl a23 (by decide), kx_ro rfl a24 (by decide), fun k k0 k1 k2 k3 k4 k5 k6 => (kx_up_o (kx_ne2 k2)).trans (o k k0 k1 k2 k3 k4 k5 k6), kx_of_up f⟩
theorem mo_7_6 (h : mo_7 G σ τ mo ad z' u' P' L' M' O' N') (e : ρ = kx_up τ (1, 6) (ad 5, kx_ai G 2160 X)) : mo_7 G σ ρ mo ad z' u' P' X M' O' N' := by
  obtain ⟨a0, a1, a5, a6, a22, a23, a24, o, f⟩ := h
  subst e
  exact ⟨kx_ro rfl a0 (by decide), kx_ro rfl a1 (by decide), kx_ro rfl a5 (by decide), kx_rs rfl, kx_ro rfl a22 (by decide), kx_ro rfl a23 (by decide), kx_ro rfl a24 (by decide), fun k k0 k1 k2 k3 k4 k5 k6 => (kx_up_o (kx_ne2 k3)).trans (o k k0 k1 k2 k3 k4 k5 k6), kx_of_up f⟩
theorem mo_7_n (h : mo_7 G σ τ mo ad z' u' P' L' M' O' N') (e : ρ = kx_up τ (1, 22) (ad 21, kx_ai G 6 X)) : mo_7 G σ ρ mo ad z' u' P' L' X O' N' := by
  obtain ⟨a0, a1, a5, a6, a22, a23, a24, o, f⟩ := h
  subst e
  exact ⟨kx_ro rfl a0 (by decide), kx_ro rfl a1 (by decide), kx_ro rfl a5 (by decide), kx_ro rfl a6 (by decide), kx_rs rfl, kx_ro rfl a23 (by decide), kx_ro rfl a24 (by decide), fun k k0 k1 k2 k3 k4 k5 k6 => (kx_up_o (kx_ne2 k4)).trans (o k k0 k1 k2 k3 k4 k5 k6), kx_of_up f⟩
end MO7
theorem dd_drop {D : List dd_D} {k : Nat} (h : k < D.length) : D.drop k = D[k] :: D.drop (k + 1) := List.drop_eq_getElem_cons h
set_option maxHeartbeats 1000000 in
theorem mt_X4_playScript {l : Launch} {G : kx_G} (htr : l.stackTraces = false) {σ : kx_H} {mo : Nat} {ad : Nat → Nat} {z : Nat → Int32} (h0 : σ (1, 0) = some (mo, .inr (3, mo_L ad z))) {inp : Nat → Nat} {N : Nat} (hin : σ (1, 11) = some (ad 10, kx_ai G 700 (mx_w inp))) {M : Nat → Int32} (hn : σ (1, 22) = some (ad 21, kx_ai G 6 M)) {u : Nat → Nat} (hw : σ (1, 1) = some (ad 0, kx_ai G 1417 (mx_w u))) {P : Nat → Int32} {pm : Nat} (hp : σ (1, 5) = some (ad 4, kx_ai G 11336 P)) (hz7 : z 7 = nI pm) (hpm : pm ≤ 8) {L : Nat → Int32} (hl6 : σ (1, 6) = some (ad 5, kx_ai G 2160 L)) {O Nn : Nat → Int32} (ho : σ (1, 23) = some (ad 22, kx_ai G 31 O)) (hnn : σ (1, 24) = some (ad 23, kx_ai G 186 Nn)) (hN : z 11 = nI N) (hN7 : N ≤ 700) (hby : ∀ k, k < N → inp k < 256) {B : Nat} (hiv : mx_iv B u) (hB5 : 50 ≤ B) (hB9 : B < 800000000) : kx_SP l G yX4_playScript (ws_ yX4_playScript cX4_playScript 3 (some .int)) 13 0 0 [.ref mo] σ (fun v τ => ∃ z' u' P' L' M' O' N', mo_7 G σ τ mo ad z' u' P' L' M' O' N' ∧ z' 9 = nI 0 ∧ z' 11 = nI 0 ∧ z' 8 = z 8 ∧ z' 27 = z 27 ∧ (∀ e, pn_sc inp N 1000 [] (pt_s inp N 0) = .inl e → v = some (.int (-1)) ∧ u' = u ∧ L' = L ∧ P' = P ∧ z' 7 = z 7 ∧ z' 12 = nI e.1 ∧ z' 13 = nI e.2) ∧ (∀ D, pn_sc inp N 1000 [] (pt_s inp N 0) = .inr D → v = some (.int (nI (dd_go D u L).1)) ∧ u' = (dd_go D u L).2.1 ∧ L' = (dd_go D u L).2.2 ∧ mx_iv (B + 3000) u' ∧ z' 7 = nI (mo_pn pm) ∧ mx_r P' (1417 * (mo_pn pm - 1)) u ∧ (∀ k j, k + 1 < mo_pn pm → j < 1417 → P' (1417 * k + j) = P (1417 * (k + (if pm = 8 then 1 else 0)) + j)) ∧ z' 12 = nI 0 ∧ z' 13 = -1)) kx_nx := by
  refine kx_body htr (by decide +kernel) (own := "RoseProverbsModel") (nm := "playScript") rfl rfl (Nat.le_of_ble_eq_true rfl) ?_
  intro p e s m args below meth c Q C hQ
  first | refine ri_aload_n C dX4_playScript_0 rfl ?_ | refine ri_aload_nQ C dX4_playScript_0 rfl ?_ | refine ri_aload_nN C dX4_playScript_0 rfl ?_
  refine ri_iconst C dX4_playScript_1 kc_i0 ?_
  refine ri_putf C dX4_playScript_2 fd_q2979_3 (fun h => nomatch h) (by first | assumption | (repeat (first | assumption | exact kx_rs (by assumption) | exact kx_ne2 (by omega) | exact kx_ne1 (by omega) | refine kx_ro (by assumption) ?_ ?_ | exact kx_rs rfl | refine kx_ro rfl ?_ ?_))) (Nat.le_of_ble_eq_true rfl) (by rfl) (by rfl) mo_set9 (fun s2 e2 => ?_)
  first | refine ri_aload_n C dX4_playScript_5 rfl ?_ | refine ri_aload_nQ C dX4_playScript_5 rfl ?_ | refine ri_aload_nN C dX4_playScript_5 rfl ?_
  refine ri_callV C km_X4_startsText q3081 qs61 dX4_playScript_6 (mt_X4_startsText htr (z := mo_z z 9 (nI 0)) (by first | assumption | (repeat (first | assumption | exact kx_rs (by assumption) | exact kx_ne2 (by omega) | exact kx_ne1 (by omega) | refine kx_ro (by assumption) ?_ ?_ | exact kx_rs rfl | refine kx_ro rfl ?_ ?_))) (by first | assumption | (repeat (first | assumption | exact kx_rs (by assumption) | exact kx_ne2 (by omega) | exact kx_ne1 (by omega) | refine kx_ro (by assumption) ?_ ?_ | exact kx_rs rfl | refine kx_ro rfl ?_ ?_))) hN hN7 hby) rfl rfl (kx_rcN C (by first | assumption | (repeat (first | assumption | exact kx_rs (by assumption) | exact kx_ne2 (by omega) | exact kx_ne1 (by omega) | refine kx_ro (by assumption) ?_ ?_ | exact kx_rs rfl | refine kx_ro rfl ?_ ?_))) rfl) ⟨⟨(Nat.le_of_ble_eq_true rfl), (Nat.le_of_ble_eq_true rfl)⟩, (Nat.le_of_ble_eq_true rfl), (Nat.le_of_ble_eq_true rfl), (Nat.le_of_ble_eq_true rfl)⟩ (fun v6 s6 h6 => ?_) (fun _ _ _ h => h.elim)
  obtain ⟨rfl, e6⟩ := h6
  have hat := mo_st_at (inp := inp) (show mo_z z 9 (nI 0) 11 = nI N from hN)
  refine ri_iconst C dX4_playScript_9 kc_i1 ?_
  refine ri_istore_n C dX4_playScript_10 rfl (by decide) ?_
  have LP : ∀ (wk i : Nat) (z1 M1 O1 N1 : Nat → Int32) (D : List dd_D) (sA : Nat) (τ : kx_H), i ≤ 1000 → 1000 < i + wk → (mo_QS G σ mo ad z1 M1 O1 N1 τ ∧ mo_kq (mo_z z 9 (nI 0)) z1 ∧ mo_at z1 inp N sA ∧ z1 24 = nI D.length ∧ dd_O O1 N1 D ∧ D.length ≤ 30 ∧ pn_sc inp N 1000 [] (pt_s inp N 0) = pn_sc inp N (1000 - i) D sA ∧ N < sA + (1000 - i)) → kx_V G l p e (kx_rm 13 0 0) s m args below meth c 3 Q 11 [(0, .ref mo), (1, .int (nI 1))] [] τ 0 0 := by
    intro wk
    induction wk with
    | zero => intro i z1 M1 O1 N1 D sA τ h1 h2; exact absurd h2 (by omega)
    | succ wk ih =>
      intro i z1 M1 O1 N1 D sA τ hi hwk hJ
      obtain ⟨P_, K, hat, hz, hD, hl30, hs, hl⟩ := hJ
      obtain ⟨q11, q14, q16, q17, q18, q19, qs, q15⟩ := hat
      have hat : mo_at z1 inp N sA := ⟨q11, q14, q16, q17, q18, q19, qs, q15⟩
      have hkb : pt_k inp N sA < 5 := by unfold pt_k; split <;> (repeat (first | omega | split))
      have b1 := mo_PS_0 P_
      have bn1 := mo_PS_n P_
      have bo1 := mo_QS_23 P_
      have bq1 := mo_QS_24 P_
      have bi1 := mo_QS_u P_ hin (by decide) (by decide) (by decide) (by decide)
      obtain ⟨f, hf⟩ : ∃ f, 1000 - i = f + 1 := ⟨1000 - i - 1, by omega⟩
      rw [hf] at hs
      replace hs := hs.trans pn_sc_s
      refine ri_iload_n C dX4_playScript_11 rfl ?_
      first | refine ri_if_eqB C 30 dX4_playScript_12 rfl (fun h12 => ?_) (fun h12 => ?_) | refine ri_if_eqN C 30 dX4_playScript_12 rfl (by omega) (fun h12 => ?_) (fun h12 => ?_) | refine ri_if_eq C 30 dX4_playScript_12 rfl (fun h12 => ?_) (fun h12 => ?_)
      · exact absurd h12 (by decide) --dead
      · first | refine ri_aload_n C dX4_playScript_15 rfl ?_ | refine ri_aload_nQ C dX4_playScript_15 rfl ?_ | refine ri_aload_nN C dX4_playScript_15 rfl ?_
        refine ri_getf C dX4_playScript_16 fr_q2989_3 (by first | assumption | (repeat (first | assumption | exact kx_rs (by assumption) | exact kx_ne2 (by omega) | exact kx_ne1 (by omega) | refine kx_ro (by assumption) ?_ ?_ | exact kx_rs rfl | refine kx_ro rfl ?_ ?_))) (by rfl) ?_
        rw [q19]
        first | refine ri_if_eqB C 30 dX4_playScript_19 rfl (fun h19 => ?_) (fun h19 => ?_) | refine ri_if_eqN C 30 dX4_playScript_19 rfl (by omega) (fun h19 => ?_) (fun h19 => ?_) | refine ri_if_eq C 30 dX4_playScript_19 rfl (fun h19 => ?_) (fun h19 => ?_)
        · rw [if_pos h19] at hs
          have hsc := hs
          first | refine ri_aload_n C dX4_playScript_30 rfl ?_ | refine ri_aload_nQ C dX4_playScript_30 rfl ?_ | refine ri_aload_nN C dX4_playScript_30 rfl ?_
          refine ri_callV C km_X4_endsText q3166 qs80 dX4_playScript_31 (mt_X4_endsText htr b1) rfl rfl (kx_rcN C (by first | assumption | (repeat (first | assumption | exact kx_rs (by assumption) | exact kx_ne2 (by omega) | exact kx_ne1 (by omega) | refine kx_ro (by assumption) ?_ ?_ | exact kx_rs rfl | refine kx_ro rfl ?_ ?_))) rfl) ⟨⟨(Nat.le_of_ble_eq_true rfl), (Nat.le_of_ble_eq_true rfl)⟩, (Nat.le_of_ble_eq_true rfl), (Nat.le_of_ble_eq_true rfl), (Nat.le_of_ble_eq_true rfl)⟩ (fun v31 s31 h31 => ?_) (fun _ _ _ h => h.elim)
          obtain ⟨rfl, e31⟩ := h31
          have R3 := mo_7_0 (mo_7_q P_ hw hp hl6) e31
          have w0 := R3.1
          have w1 := R3.2.1
          have w5 := R3.2.2.1
          refine ri_iload_n C dX4_playScript_34 rfl ?_
          first | refine ri_if_neB C 40 dX4_playScript_35 rfl (fun h35 => ?_) (fun h35 => ?_) | refine ri_if_neN C 40 dX4_playScript_35 rfl (by omega) (fun h35 => ?_) (fun h35 => ?_) | refine ri_if_ne C 40 dX4_playScript_35 rfl (fun h35 => ?_) (fun h35 => ?_)
          · first | refine ri_aload_n C dX4_playScript_40 rfl ?_ | refine ri_aload_nQ C dX4_playScript_40 rfl ?_ | refine ri_aload_nN C dX4_playScript_40 rfl ?_
            refine ri_callV C km_X4_remembers q3189 qs84 dX4_playScript_41 (mt_X4_remembers htr w0 w1 w5 (pm := pm) ((mo_en_k (by decide)).trans ((K 7 (by omega)).trans hz7)) hpm) rfl rfl (kx_rcN C (by first | assumption | (repeat (first | assumption | exact kx_rs (by assumption) | exact kx_ne2 (by omega) | exact kx_ne1 (by omega) | refine kx_ro (by assumption) ?_ ?_ | exact kx_rs rfl | refine kx_ro rfl ?_ ?_))) rfl) ⟨⟨(Nat.le_of_ble_eq_true rfl), (Nat.le_of_ble_eq_true rfl)⟩, (Nat.le_of_ble_eq_true rfl), (Nat.le_of_ble_eq_true rfl), (Nat.le_of_ble_eq_true rfl)⟩ (fun v41 s41 h41 => ?_) (fun _ _ _ h => h.elim)
            obtain ⟨rfl, P5, eR, hr1, hr2⟩ := h41
            have R5 := mo_7_0 (mo_7_5 R3 rfl) eR
            generalize hz5 : mo_z (mo_en z1) 7 (nI (mo_pn pm)) = z5 at R5
            have y7 : z5 7 = nI (mo_pn pm) := by rw [← hz5]; exact mo_z_s
            have yk : ∀ j, j ≠ 7 → z5 j = mo_en z1 j := fun j hj => by rw [← hz5]; exact mo_z_o hj
            have y24 : z5 24 = nI D.length := (yk 24 (by decide)).trans ((mo_en_k (by decide)).trans hz)
            have y9 : z5 9 = nI 0 := (yk 9 (by decide)).trans ((mo_en_k (by decide)).trans ((K 9 (by omega)).trans mo_z_s))
            have y11 : z5 11 = nI 0 := (yk 11 (by decide)).trans rfl
            have y8 : z5 8 = z 8 := (yk 8 (by decide)).trans ((mo_en_k (by decide)).trans (K 8 (by omega)))
            have y27 : z5 27 = z 27 := (yk 27 (by decide)).trans ((mo_en_k (by decide)).trans (K 27 (by omega)))
            have y12 : z5 12 = nI 0 := (yk 12 (by decide)).trans q14
            have y13 : z5 13 = -1 := (yk 13 (by decide)).trans q15
            refine ri_iconst C dX4_playScript_44 kc_i0 ?_
            refine ri_istore_n C dX4_playScript_45 rfl (by decide) ?_
            have LD : ∀ (wkk k : Nat) (u1 : Nat → Nat) (L1 M3 : Nat → Int32) (ρ : kx_H), k ≤ D.length → D.length < k + wkk → (mo_7 G σ ρ mo ad z5 u1 P5 L1 M3 O1 N1 ∧ mx_iv (B + 100 * k) u1 ∧ dd_go D u L = (k + (dd_go (D.drop k) u1 L1).1, (dd_go (D.drop k) u1 L1).2)) → kx_V G l p e (kx_rm 13 0 0) s m args below meth c 3 Q 46 [(0, .ref mo), (2, .int (nI k))] [] ρ 0 0 := by
              intro wkk
              induction wkk with
              | zero => intro k u1 L1 M3 ρ h1k h2k; exact absurd h2k (by omega)
              | succ wkk ihk =>
                intro k u1 L1 M3 ρ hik hwkk hJ
                obtain ⟨R, V, hs2⟩ := hJ
                have r0 := R.1
                have r1 := R.2.1
                have r6 := R.2.2.2.1
                have rn := R.2.2.2.2.1
                have ro := R.2.2.2.2.2.1
                have rq := R.2.2.2.2.2.2.1
                have hu := V.1
                have hBk := V.2.1
                have hd7 := V.2.2.1
                refine ri_iload_n C dX4_playScript_46 rfl ?_
                first | refine ri_aload_n C dX4_playScript_47 rfl ?_ | refine ri_aload_nQ C dX4_playScript_47 rfl ?_ | refine ri_aload_nN C dX4_playScript_47 rfl ?_
                refine ri_getf C dX4_playScript_48 fr_q2994_3 (by first | assumption | (repeat (first | assumption | exact kx_rs (by assumption) | exact kx_ne2 (by omega) | exact kx_ne1 (by omega) | refine kx_ro (by assumption) ?_ ?_ | exact kx_rs rfl | refine kx_ro rfl ?_ ?_))) (by rfl) ?_
                rw [y24]
                first | refine ri_icmp_geN C 68 dX4_playScript_51 rfl (by omega) (by omega) (fun h51 => ?_) (fun h51 => ?_) | refine ri_icmp_ge C 68 dX4_playScript_51 rfl (fun h51 => ?_) (fun h51 => ?_)
                · obtain rfl : k = D.length := by omega
                  have hgo : dd_go D u L = (D.length, u1, L1) := (by rw [hs2, List.drop_length]; rfl)
                  refine ri_iload_n C dX4_playScript_68 rfl ?_
                  exact ri_iret C hQ dX4_playScript_69 rfl (Nat.le_of_ble_eq_true rfl) (Nat.le_of_ble_eq_true rfl) ⟨_, _, _, _, _, _, _, R, y9, y11, y8, y27, fun e' he => (by rw [hsc] at he; cases he), fun D' hx => (by rw [hsc] at hx; injection hx with hx; subst hx; skip; exact ⟨by rw [hgo], by rw [hgo], by rw [hgo], mx_iv_m V (by omega), y7, hr1, hr2, y12, y13⟩)⟩
                · have hkl : k < D.length := by omega
                  obtain ⟨hO, hNm, hdi⟩ := hD k D[k] (List.getElem?_eq_getElem hkl)
                  first | refine ri_aload_n C dX4_playScript_54 rfl ?_ | refine ri_aload_nQ C dX4_playScript_54 rfl ?_ | refine ri_aload_nN C dX4_playScript_54 rfl ?_
                  refine ri_iload_n C dX4_playScript_55 rfl ?_
                  refine ri_callV C km_X4_does q3193 qs85 dX4_playScript_56 (mt_X4_does htr r0 r1 rn r6 hu hBk (by omega) hd7 ro rq (by omega) hO hNm hdi) rfl rfl (kx_rcN C (by first | assumption | (repeat (first | assumption | exact kx_rs (by assumption) | exact kx_ne2 (by omega) | exact kx_ne1 (by omega) | refine kx_ro (by assumption) ?_ ?_ | exact kx_rs rfl | refine kx_ro rfl ?_ ?_))) rfl) ⟨⟨(Nat.le_of_ble_eq_true rfl), (Nat.le_of_ble_eq_true rfl)⟩, (Nat.le_of_ble_eq_true rfl), (Nat.le_of_ble_eq_true rfl), (Nat.le_of_ble_eq_true rfl)⟩ (fun v56 s56 h56 => ?_) (fun _ _ _ h => h.elim)
                  obtain ⟨rfl, M6, f1, f2⟩ := h56
                  first | refine ri_if_eqB C 68 dX4_playScript_59 rfl (fun h59 => ?_) (fun h59 => ?_) | refine ri_if_eqN C 68 dX4_playScript_59 rfl (by omega) (fun h59 => ?_) (fun h59 => ?_) | refine ri_if_eq C 68 dX4_playScript_59 rfl (fun h59 => ?_) (fun h59 => ?_)
                  · have hgo : dd_go D u L = (k, u1, L1) := (by rw [hs2, dd_drop hkl, dd_go_f h59]; rfl)
                    have e59 := f1 h59
                    replace R := mo_7_n R e59
                    refine ri_iload_n C dX4_playScript_68 rfl ?_
                    exact ri_iret C hQ dX4_playScript_69 rfl (Nat.le_of_ble_eq_true rfl) (Nat.le_of_ble_eq_true rfl) ⟨_, _, _, _, _, _, _, R, y9, y11, y8, y27, fun e' he => (by rw [hsc] at he; cases he), fun D' hx => (by rw [hsc] at hx; injection hx with hx; subst hx; skip; exact ⟨by rw [hgo], by rw [hgo], by rw [hgo], mx_iv_m V (by omega), y7, hr1, hr2, y12, y13⟩)⟩
                  · first | refine ri_iincN C dX4_playScript_62 rfl rfl (by decide) ?_ | refine ri_iinc C dX4_playScript_62 rfl rfl rfl (by decide) ?_
                    refine ri_goto C 46 dX4_playScript_65 rfl ?_
                    obtain rfl := f2 h59
                    refine ri_lv2 (ihk (k + 1) _ _ _ _ (by omega) (by omega) ⟨mo_7_6 (mo_7_1 (mo_7_n R rfl) rfl) rfl, mx_iv_m (mx_iv_dd V (by omega) hdi h59) (by omega), ?_⟩) ⟨rfl, rfl, trivial⟩
                    rw [hs2, dd_drop hkl, dd_go_t h59]
                    refine Prod.ext ?_ rfl
                    show k + ((dd_go (D.drop (k + 1)) _ _).1 + 1) = k + 1 + (dd_go (D.drop (k + 1)) _ _).1
                    omega
            refine ri_lv2 (LD (D.length + 1) 0 u L M1 _ (by omega) (by omega) ⟨R5, by rw [Nat.mul_zero, Nat.add_zero]; exact hiv, by rw [List.drop_zero, Nat.zero_add]⟩) ⟨rfl, rfl, trivial⟩
          · exact absurd h35 (by decide) --dead
        · first | refine ri_aload_n C dX4_playScript_22 rfl ?_ | refine ri_aload_nQ C dX4_playScript_22 rfl ?_ | refine ri_aload_nN C dX4_playScript_22 rfl ?_
          refine ri_callV C km_X4_readScriptStatement q3174 qs81 dX4_playScript_23 (mt_X4_readScriptStatement htr b1 bi1 bn1 hat hN7 hby bo1 bq1 hz hD hl30) rfl rfl (kx_rcN C (by first | assumption | (repeat (first | assumption | exact kx_rs (by assumption) | exact kx_ne2 (by omega) | exact kx_ne1 (by omega) | refine kx_ro (by assumption) ?_ ?_ | exact kx_rs rfl | refine kx_ro rfl ?_ ?_))) rfl) ⟨⟨(Nat.le_of_ble_eq_true rfl), (Nat.le_of_ble_eq_true rfl)⟩, (Nat.le_of_ble_eq_true rfl), (Nat.le_of_ble_eq_true rfl), (Nat.le_of_ble_eq_true rfl)⟩ (fun v23 s23 h23 => ?_) (fun _ _ _ h => h.elim)
          obtain ⟨z2, M2, O2, N2, p2, k2, m2, g2⟩ := h23
          rcases hr : pn_ss inp N D.length sA with e | x
          · obtain ⟨rfl, mm⟩ := m2 e hr
            rw [if_neg h19, hr] at hs
            have hsc := hs
            have P2 := mo_QS_t P_ p2
            have K2 := mo_kq_t K k2
            have b2 := mo_PS_0 P2
            refine ri_istore_n C dX4_playScript_26 rfl (by decide) ?_
            refine ri_goto C 11 dX4_playScript_27 rfl ?_
            refine ri_iload_n C dX4_playScript_11 rfl ?_
            first | refine ri_if_eqB C 30 dX4_playScript_12 rfl (fun h12 => ?_) (fun h12 => ?_) | refine ri_if_eqN C 30 dX4_playScript_12 rfl (by omega) (fun h12 => ?_) (fun h12 => ?_) | refine ri_if_eq C 30 dX4_playScript_12 rfl (fun h12 => ?_) (fun h12 => ?_)
            · first | refine ri_aload_n C dX4_playScript_30 rfl ?_ | refine ri_aload_nQ C dX4_playScript_30 rfl ?_ | refine ri_aload_nN C dX4_playScript_30 rfl ?_
              refine ri_callV C km_X4_endsText q3166 qs80 dX4_playScript_31 (mt_X4_endsText htr b2) rfl rfl (kx_rcN C (by first | assumption | (repeat (first | assumption | exact kx_rs (by assumption) | exact kx_ne2 (by omega) | exact kx_ne1 (by omega) | refine kx_ro (by assumption) ?_ ?_ | exact kx_rs rfl | refine kx_ro rfl ?_ ?_))) rfl) ⟨⟨(Nat.le_of_ble_eq_true rfl), (Nat.le_of_ble_eq_true rfl)⟩, (Nat.le_of_ble_eq_true rfl), (Nat.le_of_ble_eq_true rfl), (Nat.le_of_ble_eq_true rfl)⟩ (fun v31 s31 h31 => ?_) (fun _ _ _ h => h.elim)
              obtain ⟨rfl, e31⟩ := h31
              have R5 := mo_7_0 (mo_7_q P2 hw hp hl6) e31
              refine ri_iload_n C dX4_playScript_34 rfl ?_
              first | refine ri_if_neB C 40 dX4_playScript_35 rfl (fun h35 => ?_) (fun h35 => ?_) | refine ri_if_neN C 40 dX4_playScript_35 rfl (by omega) (fun h35 => ?_) (fun h35 => ?_) | refine ri_if_ne C 40 dX4_playScript_35 rfl (fun h35 => ?_) (fun h35 => ?_)
              · exact absurd rfl h35 --dead
              · refine ri_iconst C dX4_playScript_38 kc_im1 ?_
                exact ri_iret C hQ dX4_playScript_39 rfl (Nat.le_of_ble_eq_true rfl) (Nat.le_of_ble_eq_true rfl) ⟨_, _, _, _, _, _, _, R5, (mo_en_k (by decide)).trans ((K2 9 (by omega)).trans mo_z_s), rfl, (mo_en_k (by decide)).trans (K2 8 (by omega)), (mo_en_k (by decide)).trans (K2 27 (by omega)), fun e' he => (by rw [hsc] at he; injection he with he; subst he; exact ⟨rfl, rfl, rfl, rfl, (mo_en_k (by decide)).trans (K2 7 (by omega)), mm.1, mm.2⟩), fun D' hx => (by rw [hsc] at hx; cases hx)⟩
            · exact absurd rfl h12 --dead
          · obtain ⟨rfl, at2, hz2, hD2⟩ := g2 x hr
            have hpr := pn_ss_s qs hr
            have hl2 : (D ++ [x.1]).length ≤ 30 := (by rw [List.length_append]; have := hpr.2.2.2; show D.length + 1 ≤ 30; omega)
            refine ri_istore_n C dX4_playScript_26 rfl (by decide) ?_
            refine ri_goto C 11 dX4_playScript_27 rfl ?_
            refine ri_lv2 (ih (i + 1) z2 M2 O2 N2 (D ++ [x.1]) x.2 _ (by omega) (by omega) ⟨mo_QS_t P_ p2, mo_kq_t K k2, at2, hz2, hD2, hl2, ?_, by omega⟩) ⟨rfl, rfl, trivial⟩
            rw [hs, if_neg h19, hr, show 1000 - (i + 1) = f by omega]
  refine ri_lv2 (LP 1001 0 _ M O Nn [] (pt_s inp N 0) _ (by omega) (by omega) ⟨mo_QS_i ho hnn (mo_PS_z (mo_PS_z (mo_PS_i h0 hn) e2) e6), fun j hj => mo_st_k hj, hat, rfl, fun j d hj => (by simp at hj), Nat.zero_le _, rfl, by omega⟩) ⟨rfl, rfl, trivial⟩
