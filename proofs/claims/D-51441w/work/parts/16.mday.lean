/-! the reference: a day -/
set_option maxRecDepth 100000
set_option maxHeartbeats 1000000 in
theorem mt_X4_passesIn {l : Launch} {G : kx_G} (htr : l.stackTraces = false) {σ : kx_H} {mo : Nat} {ad : Nat → Nat} {z : Nat → Int32} {u : Nat → Nat} {wi we mn : Nat} (h0 : σ (1, 0) = some (mo, .inr (3, mo_L ad z))) (hw : σ (1, 1) = some (ad 0, kx_ai G 1417 (mx_w u))) (hu : mx_ok u) (hp : wi < 16) (hm : mn < 12) (hwe : we < 5) {B : Nat} (hB : mx_le B u) (hb : B < 900000000) (hd : u 2 < 50000) : kx_SP l G yX4_passesIn (ws_ yX4_passesIn cX4_passesIn 8 (some .int)) 8 0 0 [.ref mo, .int (nI wi), .int (nI we), .int (nI mn)] σ (fun v τ => v = some (.int (mx_o (mx_told u wi mn))) ∧ τ = kx_up σ (1, 1) (ad 0, kx_ai G 1417 (mx_w (mx_pass u wi we mn)))) kx_nx := by
  refine kx_body htr (by decide +kernel) (own := "RoseProverbsModel") (nm := "passesIn") rfl rfl (Nat.le_of_ble_eq_true rfl) ?_
  intro p e s m args below meth c Q C hQ
  have gn := hu.1
  have gul : mx_cnt (mx_ul u wi mn) (u 0) ≤ u 0 := mx_cnt_le
  have hfz : ∀ b, u 0 ≤ b → (mx_f u wi mn) b = false := fun b hb => by unfold mx_f; rw [decide_eq_false (by omega)]; rfl
  have LR : ∀ (wk i : Nat) (τ : kx_H), i ≤ u 0 → u 0 < i + wk → τ = kx_up σ (1, 1) (ad 0, kx_ai G 1417 (mx_w (mx_R (mx_f u wi mn) we (mx_M (mx_f u wi mn) we u 576) i))) → kx_V G l p e (kx_rm 8 0 0) s m args below meth c 8 Q 113 [(0, .ref mo), (1, .int (nI wi)), (2, .int (nI we)), (3, .int (nI mn)), (4, .int (mx_o (mx_told u wi mn))), (5, .int (nI (mx_cnt (mx_ul u wi mn) (u 0)))), (6, .int (nI i))] [] τ 0 0 := by
    intro wk
    induction wk with
    | zero => intro i τ h1 h2; exact absurd h2 (by omega)
    | succ wk ih =>
      intro i τ hi hwk hI
      have ovi : mx_ok (mx_R (mx_f u wi mn) we (mx_M (mx_f u wi mn) we u 576) i) := mx_R_ok (mx_ok_e mx_M_eq hu) i
      have esvi : mx_es u (mx_R (mx_f u wi mn) we (mx_M (mx_f u wi mn) we u 576) i) := mx_es_t mx_M_es (mx_R_es (by omega))
      have lvi : mx_le (B + 48) (mx_R (mx_f u wi mn) we (mx_M (mx_f u wi mn) we u 576) i) := mx_le_m (mx_R_le (mx_M_le hB) i (by omega)) (by omega)
      generalize qvi : mx_R (mx_f u wi mn) we (mx_M (mx_f u wi mn) we u 576) i = vi at *
      have avi : vi 0 = u 0 := esvi.1
      have bvi := kx_ro hI h0 (kx_ne2 (by omega))
      have cvi := kx_rs hI
      have dvi : vi 6 ≤ 50 := ovi.2.2.2.1
      have fvi : vi 7 ≤ 50 := ovi.2.2.2.2
      have gvi : i < u 0 → _ := fun h => ovi.2.1 i (by omega)
      have kvi : i < u 0 → (mx_f u wi mn) i = mx_sp vi i wi mn := fun h => by rw [mx_sp_e esvi (by omega)]; unfold mx_f; rw [decide_eq_true h]; rfl
      have mvi : i < u 0 → mx_p vi i 4 = mx_p u i 4 := fun h => esvi.2 i 4 (by omega) (by omega)
      have wvi : i < u 0 → mx_p vi i 7 ≤ B + 48 := fun h => lvi _ (by omega)
      have yvi : i < u 0 → mx_p vi i 8 ≤ B + 48 := fun h => lvi _ (by omega)
      refine ri_iload C dX4_passesIn_113 rfl ?_
      first | refine ri_aload_n C dX4_passesIn_115 rfl ?_ | refine ri_aload_nQ C dX4_passesIn_115 rfl ?_ | refine ri_aload_nN C dX4_passesIn_115 rfl ?_
      refine ri_getf C dX4_passesIn_116 fr_q2970_3 (by first | assumption | (repeat (first | assumption | exact kx_rs (by assumption) | exact kx_ne2 (by omega) | exact kx_ne1 (by omega) | refine kx_ro (by assumption) ?_ ?_ | exact kx_rs rfl | refine kx_ro rfl ?_ ?_))) (by rfl) ?_
      refine ri_iconst C dX4_passesIn_119 kc_i0 ?_
      first | refine ri_ialoadN C dX4_passesIn_120 (by first | assumption | (repeat (first | assumption | exact kx_rs (by assumption) | exact kx_ne2 (by omega) | exact kx_ne1 (by omega) | refine kx_ro (by assumption) ?_ ?_ | exact kx_rs rfl | refine kx_ro rfl ?_ ?_))) rfl (by omega) ?_ | refine ri_iaload C dX4_passesIn_120 (by first | assumption | (repeat (first | assumption | exact kx_rs (by assumption) | exact kx_ne2 (by omega) | exact kx_ne1 (by omega) | refine kx_ro (by assumption) ?_ ?_ | exact kx_rs rfl | refine kx_ro rfl ?_ ?_))) rfl (by omega) ?_
      first | refine ri_icmp_geN C 170 dX4_passesIn_121 rfl (by omega) (by omega) (fun h121 => ?_) (fun h121 => ?_) | refine ri_icmp_ge C 170 dX4_passesIn_121 rfl (fun h121 => ?_) (fun h121 => ?_)
      · obtain rfl : i = u 0 := by omega
        first | refine ri_aload_n C dX4_passesIn_170 rfl ?_ | refine ri_aload_nQ C dX4_passesIn_170 rfl ?_ | refine ri_aload_nN C dX4_passesIn_170 rfl ?_
        refine ri_bipush C dX4_passesIn_171 kc_b8 ?_
        refine ri_iload C dX4_passesIn_173 rfl ?_
        first | refine ri_if_leN C 182 dX4_passesIn_175 rfl (by omega) (fun h175 => ?_) (fun h175 => ?_) | refine ri_if_le C 182 dX4_passesIn_175 rfl (fun h175 => ?_) (fun h175 => ?_)
        · refine ri_iconst C dX4_passesIn_182 kc_i0 ?_
          refine ri_callS C km_X4_one q3247 dX4_passesIn_183 (mt_X4_one htr (b := false)) rfl rfl ⟨⟨(Nat.le_of_ble_eq_true rfl), (Nat.le_of_ble_eq_true rfl)⟩, (Nat.le_of_ble_eq_true rfl), (Nat.le_of_ble_eq_true rfl), (Nat.le_of_ble_eq_true rfl)⟩ (fun v183 s183 h183 => ?_) (fun _ _ _ h => h.elim)
          obtain ⟨rfl, rfl⟩ := h183
          refine ri_callV C km_X4_counts q3255 qs97 dX4_passesIn_186 (mt_X4_counts htr (by first | assumption | (repeat (first | assumption | exact kx_rs (by assumption) | exact kx_ne2 (by omega) | exact kx_ne1 (by omega) | refine kx_ro (by assumption) ?_ ?_ | exact kx_rs rfl | refine kx_ro rfl ?_ ?_))) (by first | assumption | (repeat (first | assumption | exact kx_rs (by assumption) | exact kx_ne2 (by omega) | exact kx_ne1 (by omega) | refine kx_ro (by assumption) ?_ ?_ | exact kx_rs rfl | refine kx_ro rfl ?_ ?_))) (by omega)) rfl rfl (kx_rcN C (by first | assumption | (repeat (first | assumption | exact kx_rs (by assumption) | exact kx_ne2 (by omega) | exact kx_ne1 (by omega) | refine kx_ro (by assumption) ?_ ?_ | exact kx_rs rfl | refine kx_ro rfl ?_ ?_))) rfl) ⟨⟨(Nat.le_of_ble_eq_true rfl), (Nat.le_of_ble_eq_true rfl)⟩, (Nat.le_of_ble_eq_true rfl), (Nat.le_of_ble_eq_true rfl), (Nat.le_of_ble_eq_true rfl)⟩ (fun v186 s186 h186 => ?_) (fun _ _ _ h => h.elim)
          obtain ⟨rfl, e186⟩ := h186
          first | refine ri_aload_n C dX4_passesIn_189 rfl ?_ | refine ri_aload_nQ C dX4_passesIn_189 rfl ?_ | refine ri_aload_nN C dX4_passesIn_189 rfl ?_
          refine ri_iload C dX4_passesIn_190 rfl ?_
          refine ri_iload_n C dX4_passesIn_192 rfl ?_
          refine ri_callV C km_X4_countsYear q3263 qs99 dX4_passesIn_193 (mt_X4_countsYear htr (by first | assumption | (repeat (first | assumption | exact kx_rs (by assumption) | exact kx_ne2 (by omega) | exact kx_ne1 (by omega) | refine kx_ro (by assumption) ?_ ?_ | exact kx_rs rfl | refine kx_ro rfl ?_ ?_))) (by first | assumption | (repeat (first | assumption | exact kx_rs (by assumption) | exact kx_ne2 (by omega) | exact kx_ne1 (by omega) | refine kx_ro (by assumption) ?_ ?_ | exact kx_rs rfl | refine kx_ro rfl ?_ ?_))) (by rw [mx_cn_i (by omega)]; have e2 : vi 2 = u 2 := (by rw [← qvi, mx_R_o (by omega) (by omega) (by omega) _ gn, mx_M_i (by omega)]); omega) (fun b => mx_told_b) hwe (fun i h1 h2 => Nat.lt_of_le_of_lt (mx_cn_le lvi (Bool.toNat_le _) i (by omega)) (by omega))) rfl rfl (kx_rcN C (by first | assumption | (repeat (first | assumption | exact kx_rs (by assumption) | exact kx_ne2 (by omega) | exact kx_ne1 (by omega) | refine kx_ro (by assumption) ?_ ?_ | exact kx_rs rfl | refine kx_ro rfl ?_ ?_))) rfl) ⟨⟨(Nat.le_of_ble_eq_true rfl), (Nat.le_of_ble_eq_true rfl)⟩, (Nat.le_of_ble_eq_true rfl), (Nat.le_of_ble_eq_true rfl), (Nat.le_of_ble_eq_true rfl)⟩ (fun v193 s193 h193 => ?_) (fun _ _ _ h => h.elim)
          obtain ⟨rfl, e193⟩ := h193
          first | refine ri_aload_n C dX4_passesIn_196 rfl ?_ | refine ri_aload_nQ C dX4_passesIn_196 rfl ?_ | refine ri_aload_nN C dX4_passesIn_196 rfl ?_
          refine ri_getf C dX4_passesIn_197 fr_q2970_3 (by first | assumption | (repeat (first | assumption | exact kx_rs (by assumption) | exact kx_ne2 (by omega) | exact kx_ne1 (by omega) | refine kx_ro (by assumption) ?_ ?_ | exact kx_rs rfl | refine kx_ro rfl ?_ ?_))) (by rfl) ?_
          refine ri_iconst C dX4_passesIn_200 kc_i2 ?_
          refine ri_dup2 C dX4_passesIn_201 rfl rfl ?_
          first | refine ri_ialoadN C dX4_passesIn_202 (by first | assumption | (repeat (first | assumption | exact kx_rs (by assumption) | exact kx_ne2 (by omega) | exact kx_ne1 (by omega) | refine kx_ro (by assumption) ?_ ?_ | exact kx_rs rfl | refine kx_ro rfl ?_ ?_))) rfl (by omega) ?_ | refine ri_iaload C dX4_passesIn_202 (by first | assumption | (repeat (first | assumption | exact kx_rs (by assumption) | exact kx_ne2 (by omega) | exact kx_ne1 (by omega) | refine kx_ro (by assumption) ?_ ?_ | exact kx_rs rfl | refine kx_ro rfl ?_ ?_))) rfl (by omega) ?_
          refine ri_iconst C dX4_passesIn_203 kc_i1 ?_
          first | refine ri_iaddN C dX4_passesIn_204 ?_ | refine ri_iadd C dX4_passesIn_204 ?_
          refine ri_iastore C dX4_passesIn_205 (by first | assumption | (repeat (first | assumption | exact kx_rs (by assumption) | exact kx_ne2 (by omega) | exact kx_ne1 (by omega) | refine kx_ro (by assumption) ?_ ?_ | exact kx_rs rfl | refine kx_ro rfl ?_ ?_))) rfl (by omega) (fun s205 e205 => ?_)
          rw [mx_upd] at e205
          refine ri_iload C dX4_passesIn_206 rfl ?_
          exact ri_iret C hQ dX4_passesIn_208 rfl (Nat.le_of_ble_eq_true rfl) (Nat.le_of_ble_eq_true rfl) ⟨rfl, by rw [e205, e193, e186, hI]; simp only [kx_up_u]; unfold mx_pass mx_inc; rw [qvi]; first | (rw [decide_eq_true (show 0 < mx_cnt (mx_ul u wi mn) (u 0) by omega)]) | (rw [decide_eq_false (show ¬ 0 < mx_cnt (mx_ul u wi mn) (u 0) by omega)])⟩
        · refine ri_iconst C dX4_passesIn_178 kc_i1 ?_
          refine ri_goto C 183 dX4_passesIn_179 rfl ?_
          refine ri_callS C km_X4_one q3247 dX4_passesIn_183 (mt_X4_one htr (b := true)) rfl rfl ⟨⟨(Nat.le_of_ble_eq_true rfl), (Nat.le_of_ble_eq_true rfl)⟩, (Nat.le_of_ble_eq_true rfl), (Nat.le_of_ble_eq_true rfl), (Nat.le_of_ble_eq_true rfl)⟩ (fun v183 s183 h183 => ?_) (fun _ _ _ h => h.elim)
          obtain ⟨rfl, rfl⟩ := h183
          refine ri_callV C km_X4_counts q3255 qs97 dX4_passesIn_186 (mt_X4_counts htr (by first | assumption | (repeat (first | assumption | exact kx_rs (by assumption) | exact kx_ne2 (by omega) | exact kx_ne1 (by omega) | refine kx_ro (by assumption) ?_ ?_ | exact kx_rs rfl | refine kx_ro rfl ?_ ?_))) (by first | assumption | (repeat (first | assumption | exact kx_rs (by assumption) | exact kx_ne2 (by omega) | exact kx_ne1 (by omega) | refine kx_ro (by assumption) ?_ ?_ | exact kx_rs rfl | refine kx_ro rfl ?_ ?_))) (by omega)) rfl rfl (kx_rcN C (by first | assumption | (repeat (first | assumption | exact kx_rs (by assumption) | exact kx_ne2 (by omega) | exact kx_ne1 (by omega) | refine kx_ro (by assumption) ?_ ?_ | exact kx_rs rfl | refine kx_ro rfl ?_ ?_))) rfl) ⟨⟨(Nat.le_of_ble_eq_true rfl), (Nat.le_of_ble_eq_true rfl)⟩, (Nat.le_of_ble_eq_true rfl), (Nat.le_of_ble_eq_true rfl), (Nat.le_of_ble_eq_true rfl)⟩ (fun v186 s186 h186 => ?_) (fun _ _ _ h => h.elim)
          obtain ⟨rfl, e186⟩ := h186
          first | refine ri_aload_n C dX4_passesIn_189 rfl ?_ | refine ri_aload_nQ C dX4_passesIn_189 rfl ?_ | refine ri_aload_nN C dX4_passesIn_189 rfl ?_
          refine ri_iload C dX4_passesIn_190 rfl ?_
          refine ri_iload_n C dX4_passesIn_192 rfl ?_
          refine ri_callV C km_X4_countsYear q3263 qs99 dX4_passesIn_193 (mt_X4_countsYear htr (by first | assumption | (repeat (first | assumption | exact kx_rs (by assumption) | exact kx_ne2 (by omega) | exact kx_ne1 (by omega) | refine kx_ro (by assumption) ?_ ?_ | exact kx_rs rfl | refine kx_ro rfl ?_ ?_))) (by first | assumption | (repeat (first | assumption | exact kx_rs (by assumption) | exact kx_ne2 (by omega) | exact kx_ne1 (by omega) | refine kx_ro (by assumption) ?_ ?_ | exact kx_rs rfl | refine kx_ro rfl ?_ ?_))) (by rw [mx_cn_i (by omega)]; have e2 : vi 2 = u 2 := (by rw [← qvi, mx_R_o (by omega) (by omega) (by omega) _ gn, mx_M_i (by omega)]); omega) (fun b => mx_told_b) hwe (fun i h1 h2 => Nat.lt_of_le_of_lt (mx_cn_le lvi (Bool.toNat_le _) i (by omega)) (by omega))) rfl rfl (kx_rcN C (by first | assumption | (repeat (first | assumption | exact kx_rs (by assumption) | exact kx_ne2 (by omega) | exact kx_ne1 (by omega) | refine kx_ro (by assumption) ?_ ?_ | exact kx_rs rfl | refine kx_ro rfl ?_ ?_))) rfl) ⟨⟨(Nat.le_of_ble_eq_true rfl), (Nat.le_of_ble_eq_true rfl)⟩, (Nat.le_of_ble_eq_true rfl), (Nat.le_of_ble_eq_true rfl), (Nat.le_of_ble_eq_true rfl)⟩ (fun v193 s193 h193 => ?_) (fun _ _ _ h => h.elim)
          obtain ⟨rfl, e193⟩ := h193
          first | refine ri_aload_n C dX4_passesIn_196 rfl ?_ | refine ri_aload_nQ C dX4_passesIn_196 rfl ?_ | refine ri_aload_nN C dX4_passesIn_196 rfl ?_
          refine ri_getf C dX4_passesIn_197 fr_q2970_3 (by first | assumption | (repeat (first | assumption | exact kx_rs (by assumption) | exact kx_ne2 (by omega) | exact kx_ne1 (by omega) | refine kx_ro (by assumption) ?_ ?_ | exact kx_rs rfl | refine kx_ro rfl ?_ ?_))) (by rfl) ?_
          refine ri_iconst C dX4_passesIn_200 kc_i2 ?_
          refine ri_dup2 C dX4_passesIn_201 rfl rfl ?_
          first | refine ri_ialoadN C dX4_passesIn_202 (by first | assumption | (repeat (first | assumption | exact kx_rs (by assumption) | exact kx_ne2 (by omega) | exact kx_ne1 (by omega) | refine kx_ro (by assumption) ?_ ?_ | exact kx_rs rfl | refine kx_ro rfl ?_ ?_))) rfl (by omega) ?_ | refine ri_iaload C dX4_passesIn_202 (by first | assumption | (repeat (first | assumption | exact kx_rs (by assumption) | exact kx_ne2 (by omega) | exact kx_ne1 (by omega) | refine kx_ro (by assumption) ?_ ?_ | exact kx_rs rfl | refine kx_ro rfl ?_ ?_))) rfl (by omega) ?_
          refine ri_iconst C dX4_passesIn_203 kc_i1 ?_
          first | refine ri_iaddN C dX4_passesIn_204 ?_ | refine ri_iadd C dX4_passesIn_204 ?_
          refine ri_iastore C dX4_passesIn_205 (by first | assumption | (repeat (first | assumption | exact kx_rs (by assumption) | exact kx_ne2 (by omega) | exact kx_ne1 (by omega) | refine kx_ro (by assumption) ?_ ?_ | exact kx_rs rfl | refine kx_ro rfl ?_ ?_))) rfl (by omega) (fun s205 e205 => ?_)
          rw [mx_upd] at e205
          refine ri_iload C dX4_passesIn_206 rfl ?_
          exact ri_iret C hQ dX4_passesIn_208 rfl (Nat.le_of_ble_eq_true rfl) (Nat.le_of_ble_eq_true rfl) ⟨rfl, by rw [e205, e193, e186, hI]; simp only [kx_up_u]; unfold mx_pass mx_inc; rw [qvi]; first | (rw [decide_eq_true (show 0 < mx_cnt (mx_ul u wi mn) (u 0) by omega)]) | (rw [decide_eq_false (show ¬ 0 < mx_cnt (mx_ul u wi mn) (u 0) by omega)])⟩
      · have gi := gvi (by omega)
        have gw := wvi (by omega)
        have gy := yvi (by omega)
        first | refine ri_aload_n C dX4_passesIn_124 rfl ?_ | refine ri_aload_nQ C dX4_passesIn_124 rfl ?_ | refine ri_aload_nN C dX4_passesIn_124 rfl ?_
        refine ri_iload C dX4_passesIn_125 rfl ?_
        refine ri_iload_n C dX4_passesIn_127 rfl ?_
        refine ri_iload_n C dX4_passesIn_128 rfl ?_
        refine ri_callV C km_X4_isSpeaking q3221 qs92 dX4_passesIn_129 (mt_X4_isSpeaking htr bvi cvi ovi (by omega) hp hm) rfl rfl (kx_rcN C (by first | assumption | (repeat (first | assumption | exact kx_rs (by assumption) | exact kx_ne2 (by omega) | exact kx_ne1 (by omega) | refine kx_ro (by assumption) ?_ ?_ | exact kx_rs rfl | refine kx_ro rfl ?_ ?_))) rfl) ⟨⟨(Nat.le_of_ble_eq_true rfl), (Nat.le_of_ble_eq_true rfl)⟩, (Nat.le_of_ble_eq_true rfl), (Nat.le_of_ble_eq_true rfl), (Nat.le_of_ble_eq_true rfl)⟩ (fun v129 s129 h129 => ?_) (fun _ _ _ h => h.elim)
        obtain ⟨rfl, rfl⟩ := h129
        first | refine ri_if_neB C 138 dX4_passesIn_132 rfl (fun h132 => ?_) (fun h132 => ?_) | refine ri_if_neN C 138 dX4_passesIn_132 rfl (by omega) (fun h132 => ?_) (fun h132 => ?_) | refine ri_if_ne C 138 dX4_passesIn_132 rfl (fun h132 => ?_) (fun h132 => ?_)
        · first | refine ri_aload_n C dX4_passesIn_138 rfl ?_ | refine ri_aload_nQ C dX4_passesIn_138 rfl ?_ | refine ri_aload_nN C dX4_passesIn_138 rfl ?_
          refine ri_iload C dX4_passesIn_139 rfl ?_
          refine ri_iconst C dX4_passesIn_141 kc_i4 ?_
          refine ri_callV C km_X4_of q3140 qs75 dX4_passesIn_142 (mt_X4_of htr bvi cvi (by omega)) rfl rfl (kx_rcN C (by first | assumption | (repeat (first | assumption | exact kx_rs (by assumption) | exact kx_ne2 (by omega) | exact kx_ne1 (by omega) | refine kx_ro (by assumption) ?_ ?_ | exact kx_rs rfl | refine kx_ro rfl ?_ ?_))) rfl) ⟨⟨(Nat.le_of_ble_eq_true rfl), (Nat.le_of_ble_eq_true rfl)⟩, (Nat.le_of_ble_eq_true rfl), (Nat.le_of_ble_eq_true rfl), (Nat.le_of_ble_eq_true rfl)⟩ (fun v142 s142 h142 => ?_) (fun _ _ _ h => h.elim)
          obtain ⟨rfl, rfl⟩ := h142
          refine ri_iload_n C dX4_passesIn_145 rfl ?_
          first | refine ri_icmp_neN C 158 dX4_passesIn_146 rfl (by omega) (by omega) (fun h146 => ?_) (fun h146 => ?_) | refine ri_icmp_ne C 158 dX4_passesIn_146 rfl (fun h146 => ?_) (fun h146 => ?_)
          · first | refine ri_aload_n C dX4_passesIn_158 rfl ?_ | refine ri_aload_nQ C dX4_passesIn_158 rfl ?_ | refine ri_aload_nN C dX4_passesIn_158 rfl ?_
            refine ri_iload C dX4_passesIn_159 rfl ?_
            refine ri_callV C km_X4_falls q3259 qs98 dX4_passesIn_161 (mt_X4_falls htr bvi cvi (by omega) (by omega) fvi (by omega)) rfl rfl (kx_rcN C (by first | assumption | (repeat (first | assumption | exact kx_rs (by assumption) | exact kx_ne2 (by omega) | exact kx_ne1 (by omega) | refine kx_ro (by assumption) ?_ ?_ | exact kx_rs rfl | refine kx_ro rfl ?_ ?_))) rfl) ⟨⟨(Nat.le_of_ble_eq_true rfl), (Nat.le_of_ble_eq_true rfl)⟩, (Nat.le_of_ble_eq_true rfl), (Nat.le_of_ble_eq_true rfl), (Nat.le_of_ble_eq_true rfl)⟩ (fun v161 s161 h161 => ?_) (fun _ _ _ h => h.elim)
            obtain ⟨rfl, e161⟩ := h161
            first | refine ri_iincN C dX4_passesIn_164 rfl rfl (by decide) ?_ | refine ri_iinc C dX4_passesIn_164 rfl rfl rfl (by decide) ?_
            refine ri_goto C 113 dX4_passesIn_167 rfl ?_
            refine ri_lv2 (ih (i + 1) _ (by omega) (by omega) ?_) ⟨rfl, rfl, rfl, rfl, rfl, rfl, rfl, trivial⟩
            first
              | (rw [mx_R_t (by rw [kvi (by omega)]; assumption), qvi]; unfold mx_L; first | (rw [if_pos (by assumption), e152, hI, kx_up_u]) | (rw [if_neg (by assumption), e161, hI, kx_up_u]))
              | (rw [mx_R_f (by rw [kvi (by omega)]; assumption), qvi]; exact hI)
          · first | refine ri_aload_n C dX4_passesIn_149 rfl ?_ | refine ri_aload_nQ C dX4_passesIn_149 rfl ?_ | refine ri_aload_nN C dX4_passesIn_149 rfl ?_
            refine ri_iload C dX4_passesIn_150 rfl ?_
            refine ri_callV C km_X4_rises q3250 qs96 dX4_passesIn_152 (mt_X4_rises htr bvi cvi (by omega) (by omega) dvi (by omega)) rfl rfl (kx_rcN C (by first | assumption | (repeat (first | assumption | exact kx_rs (by assumption) | exact kx_ne2 (by omega) | exact kx_ne1 (by omega) | refine kx_ro (by assumption) ?_ ?_ | exact kx_rs rfl | refine kx_ro rfl ?_ ?_))) rfl) ⟨⟨(Nat.le_of_ble_eq_true rfl), (Nat.le_of_ble_eq_true rfl)⟩, (Nat.le_of_ble_eq_true rfl), (Nat.le_of_ble_eq_true rfl), (Nat.le_of_ble_eq_true rfl)⟩ (fun v152 s152 h152 => ?_) (fun _ _ _ h => h.elim)
            obtain ⟨rfl, e152⟩ := h152
            refine ri_goto C 164 dX4_passesIn_155 rfl ?_
            first | refine ri_iincN C dX4_passesIn_164 rfl rfl (by decide) ?_ | refine ri_iinc C dX4_passesIn_164 rfl rfl rfl (by decide) ?_
            refine ri_goto C 113 dX4_passesIn_167 rfl ?_
            refine ri_lv2 (ih (i + 1) _ (by omega) (by omega) ?_) ⟨rfl, rfl, rfl, rfl, rfl, rfl, rfl, trivial⟩
            first
              | (rw [mx_R_t (by rw [kvi (by omega)]; assumption), qvi]; unfold mx_L; first | (rw [if_pos (by assumption), e152, hI, kx_up_u]) | (rw [if_neg (by assumption), e161, hI, kx_up_u]))
              | (rw [mx_R_f (by rw [kvi (by omega)]; assumption), qvi]; exact hI)
        · refine ri_goto C 164 dX4_passesIn_135 rfl ?_
          first | refine ri_iincN C dX4_passesIn_164 rfl rfl (by decide) ?_ | refine ri_iinc C dX4_passesIn_164 rfl rfl rfl (by decide) ?_
          refine ri_goto C 113 dX4_passesIn_167 rfl ?_
          refine ri_lv2 (ih (i + 1) _ (by omega) (by omega) ?_) ⟨rfl, rfl, rfl, rfl, rfl, rfl, rfl, trivial⟩
          first
            | (rw [mx_R_t (by rw [kvi (by omega)]; assumption), qvi]; unfold mx_L; first | (rw [if_pos (by assumption), e152, hI, kx_up_u]) | (rw [if_neg (by assumption), e161, hI, kx_up_u]))
            | (rw [mx_R_f (by rw [kvi (by omega)]; assumption), qvi]; exact hI)
  have LP : ∀ (wk i : Nat) (τ : kx_H), i ≤ u 0 → u 0 < i + wk → τ = kx_up σ (1, 1) (ad 0, kx_ai G 1417 (mx_w (mx_M (mx_f u wi mn) we u (24 * i)))) → kx_V G l p e (kx_rm 8 0 0) s m args below meth c 8 Q 14 [(0, .ref mo), (1, .int (nI wi)), (2, .int (nI we)), (3, .int (nI mn)), (4, .int (mx_o (mx_told u wi mn))), (5, .int (nI (mx_cnt (mx_ul u wi mn) (i)))), (6, .int (nI i))] [] τ 0 0 := by
    intro wk
    induction wk with
    | zero => intro i τ h1 h2; exact absurd h2 (by omega)
    | succ wk ih =>
      intro i τ hi hwk hI
      have ovi : mx_ok (mx_M (mx_f u wi mn) we u (24 * i)) := mx_ok_e mx_M_eq hu
      have esvi : mx_es u (mx_M (mx_f u wi mn) we u (24 * i)) := mx_M_es
      have lvi : mx_le (B + 48) (mx_M (mx_f u wi mn) we u (24 * i)) := mx_le_m (mx_M_le hB) (by omega)
      generalize qvi : mx_M (mx_f u wi mn) we u (24 * i) = vi at *
      have avi : vi 0 = u 0 := esvi.1
      have bvi := kx_ro hI h0 (kx_ne2 (by omega))
      have cvi := kx_rs hI
      have dvi : vi 6 ≤ 50 := ovi.2.2.2.1
      have fvi : vi 7 ≤ 50 := ovi.2.2.2.2
      have gvi : i < u 0 → _ := fun h => ovi.2.1 i (by omega)
      have kvi : i < u 0 → (mx_f u wi mn) i = mx_sp vi i wi mn := fun h => by rw [mx_sp_e esvi (by omega)]; unfold mx_f; rw [decide_eq_true h]; rfl
      have mvi : i < u 0 → mx_p vi i 4 = mx_p u i 4 := fun h => esvi.2 i 4 (by omega) (by omega)
      have wvi : i < u 0 → mx_p vi i 7 ≤ B + 48 := fun h => lvi _ (by omega)
      have yvi : i < u 0 → mx_p vi i 8 ≤ B + 48 := fun h => lvi _ (by omega)
      refine ri_iload C dX4_passesIn_14 rfl ?_
      first | refine ri_aload_n C dX4_passesIn_16 rfl ?_ | refine ri_aload_nQ C dX4_passesIn_16 rfl ?_ | refine ri_aload_nN C dX4_passesIn_16 rfl ?_
      refine ri_getf C dX4_passesIn_17 fr_q2970_3 (by first | assumption | (repeat (first | assumption | exact kx_rs (by assumption) | exact kx_ne2 (by omega) | exact kx_ne1 (by omega) | refine kx_ro (by assumption) ?_ ?_ | exact kx_rs rfl | refine kx_ro rfl ?_ ?_))) (by rfl) ?_
      refine ri_iconst C dX4_passesIn_20 kc_i0 ?_
      first | refine ri_ialoadN C dX4_passesIn_21 (by first | assumption | (repeat (first | assumption | exact kx_rs (by assumption) | exact kx_ne2 (by omega) | exact kx_ne1 (by omega) | refine kx_ro (by assumption) ?_ ?_ | exact kx_rs rfl | refine kx_ro rfl ?_ ?_))) rfl (by omega) ?_ | refine ri_iaload C dX4_passesIn_21 (by first | assumption | (repeat (first | assumption | exact kx_rs (by assumption) | exact kx_ne2 (by omega) | exact kx_ne1 (by omega) | refine kx_ro (by assumption) ?_ ?_ | exact kx_rs rfl | refine kx_ro rfl ?_ ?_))) rfl (by omega) ?_
      first | refine ri_icmp_geN C 110 dX4_passesIn_22 rfl (by omega) (by omega) (fun h22 => ?_) (fun h22 => ?_) | refine ri_icmp_ge C 110 dX4_passesIn_22 rfl (fun h22 => ?_) (fun h22 => ?_)
      · obtain rfl : i = u 0 := by omega
        refine ri_iconst C dX4_passesIn_110 kc_i0 ?_
        refine ri_istore C dX4_passesIn_111 rfl (by decide) ?_
        refine ri_lv2 (LR (u 0 + 1) 0 _ (by omega) (by omega) ?_) ⟨rfl, rfl, rfl, rfl, rfl, rfl, rfl, trivial⟩
        rw [← mx_M_n (n := u 0) hfz 24 (by omega)] at qvi
        rw [mx_R, qvi]; exact hI
      · have gi := gvi (by omega)
        have ki := kvi (by omega)
        first | refine ri_aload_n C dX4_passesIn_25 rfl ?_ | refine ri_aload_nQ C dX4_passesIn_25 rfl ?_ | refine ri_aload_nN C dX4_passesIn_25 rfl ?_
        refine ri_iload C dX4_passesIn_26 rfl ?_
        refine ri_iload_n C dX4_passesIn_28 rfl ?_
        refine ri_iload_n C dX4_passesIn_29 rfl ?_
        refine ri_callV C km_X4_isSpeaking q3221 qs92 dX4_passesIn_30 (mt_X4_isSpeaking htr bvi cvi ovi (by omega) hp hm) rfl rfl (kx_rcN C (by first | assumption | (repeat (first | assumption | exact kx_rs (by assumption) | exact kx_ne2 (by omega) | exact kx_ne1 (by omega) | refine kx_ro (by assumption) ?_ ?_ | exact kx_rs rfl | refine kx_ro rfl ?_ ?_))) rfl) ⟨⟨(Nat.le_of_ble_eq_true rfl), (Nat.le_of_ble_eq_true rfl)⟩, (Nat.le_of_ble_eq_true rfl), (Nat.le_of_ble_eq_true rfl), (Nat.le_of_ble_eq_true rfl)⟩ (fun v30 s30 h30 => ?_) (fun _ _ _ h => h.elim)
        obtain ⟨rfl, rfl⟩ := h30
        first | refine ri_if_neB C 39 dX4_passesIn_33 rfl (fun h33 => ?_) (fun h33 => ?_) | refine ri_if_neN C 39 dX4_passesIn_33 rfl (by omega) (fun h33 => ?_) (fun h33 => ?_) | refine ri_if_ne C 39 dX4_passesIn_33 rfl (fun h33 => ?_) (fun h33 => ?_)
        · have hfi : (mx_f u wi mn) i = true := by rw [kvi (by omega)]; assumption
          refine ri_iconst C dX4_passesIn_39 kc_i0 ?_
          refine ri_istore C dX4_passesIn_40 rfl (by decide) ?_
          have LQ : ∀ (wkq j : Nat) (τ : kx_H), j ≤ u 0 → u 0 < j + wkq → τ = kx_up σ (1, 1) (ad 0, kx_ai G 1417 (mx_w (mx_M (mx_f u wi mn) we u (24 * i + j)))) → kx_V G l p e (kx_rm 8 0 0) s m args below meth c 8 Q 42 [(0, .ref mo), (1, .int (nI wi)), (2, .int (nI we)), (3, .int (nI mn)), (4, .int (mx_o (mx_told u wi mn))), (5, .int (nI (mx_cnt (mx_ul u wi mn) (i)))), (6, .int (nI i)), (7, .int (nI j))] [] τ 0 0 := by
            intro wkq
            induction wkq with
            | zero => intro j τ h1q h2q; exact absurd h2q (by omega)
            | succ wkq ihq =>
              intro j τ hiq hwkq hQI
              have ovj : mx_ok (mx_M (mx_f u wi mn) we u (24 * i + j)) := mx_ok_e mx_M_eq hu
              have esvj : mx_es u (mx_M (mx_f u wi mn) we u (24 * i + j)) := mx_M_es
              have lvj : mx_le (B + 48) (mx_M (mx_f u wi mn) we u (24 * i + j)) := mx_le_m (mx_M_le hB) (by omega)
              generalize qvj : mx_M (mx_f u wi mn) we u (24 * i + j) = vj at *
              have avj : vj 0 = u 0 := esvj.1
              have bvj := kx_ro hQI h0 (kx_ne2 (by omega))
              have cvj := kx_rs hQI
              have dvj : vj 6 ≤ 50 := ovj.2.2.2.1
              have fvj : vj 7 ≤ 50 := ovj.2.2.2.2
              have gvj : j < u 0 → _ := fun h => ovj.2.1 j (by omega)
              have kvj : j < u 0 → (mx_f u wi mn) j = mx_sp vj j wi mn := fun h => by rw [mx_sp_e esvj (by omega)]; unfold mx_f; rw [decide_eq_true h]; rfl
              have mvj : j < u 0 → mx_p vj j 4 = mx_p u j 4 := fun h => esvj.2 j 4 (by omega) (by omega)
              have wvj : j < u 0 → mx_p vj j 7 ≤ B + 48 := fun h => lvj _ (by omega)
              have yvj : j < u 0 → mx_p vj j 8 ≤ B + 48 := fun h => lvj _ (by omega)
              have gj : i < u 0 → _ := fun h => ovj.2.1 i (by omega)
              have mi : mx_p vj i 4 = mx_p u i 4 := esvj.2 i 4 (by omega) (by omega)
              refine ri_iload C dX4_passesIn_42 rfl ?_
              first | refine ri_aload_n C dX4_passesIn_44 rfl ?_ | refine ri_aload_nQ C dX4_passesIn_44 rfl ?_ | refine ri_aload_nN C dX4_passesIn_44 rfl ?_
              refine ri_getf C dX4_passesIn_45 fr_q2970_3 (by first | assumption | (repeat (first | assumption | exact kx_rs (by assumption) | exact kx_ne2 (by omega) | exact kx_ne1 (by omega) | refine kx_ro (by assumption) ?_ ?_ | exact kx_rs rfl | refine kx_ro rfl ?_ ?_))) (by rfl) ?_
              refine ri_iconst C dX4_passesIn_48 kc_i0 ?_
              first | refine ri_ialoadN C dX4_passesIn_49 (by first | assumption | (repeat (first | assumption | exact kx_rs (by assumption) | exact kx_ne2 (by omega) | exact kx_ne1 (by omega) | refine kx_ro (by assumption) ?_ ?_ | exact kx_rs rfl | refine kx_ro rfl ?_ ?_))) rfl (by omega) ?_ | refine ri_iaload C dX4_passesIn_49 (by first | assumption | (repeat (first | assumption | exact kx_rs (by assumption) | exact kx_ne2 (by omega) | exact kx_ne1 (by omega) | refine kx_ro (by assumption) ?_ ?_ | exact kx_rs rfl | refine kx_ro rfl ?_ ?_))) rfl (by omega) ?_
              first | refine ri_icmp_geN C 79 dX4_passesIn_50 rfl (by omega) (by omega) (fun h50 => ?_) (fun h50 => ?_) | refine ri_icmp_ge C 79 dX4_passesIn_50 rfl (fun h50 => ?_) (fun h50 => ?_)
              · have ej : j = u 0 := by omega
                refine ri_iload C dX4_passesIn_79 rfl ?_
                first | refine ri_aload_n C dX4_passesIn_81 rfl ?_ | refine ri_aload_nQ C dX4_passesIn_81 rfl ?_ | refine ri_aload_nN C dX4_passesIn_81 rfl ?_
                refine ri_iload C dX4_passesIn_82 rfl ?_
                refine ri_iconst C dX4_passesIn_84 kc_i4 ?_
                refine ri_callV C km_X4_of q3140 qs75 dX4_passesIn_85 (mt_X4_of htr bvj cvj (by omega)) rfl rfl (kx_rcN C (by first | assumption | (repeat (first | assumption | exact kx_rs (by assumption) | exact kx_ne2 (by omega) | exact kx_ne1 (by omega) | refine kx_ro (by assumption) ?_ ?_ | exact kx_rs rfl | refine kx_ro rfl ?_ ?_))) rfl) ⟨⟨(Nat.le_of_ble_eq_true rfl), (Nat.le_of_ble_eq_true rfl)⟩, (Nat.le_of_ble_eq_true rfl), (Nat.le_of_ble_eq_true rfl), (Nat.le_of_ble_eq_true rfl)⟩ (fun v85 s85 h85 => ?_) (fun _ _ _ h => h.elim)
                obtain ⟨rfl, rfl⟩ := h85
                refine ri_iload C dX4_passesIn_88 rfl ?_
                have htl : ∀ a, mx_told u wi mn = some a → a < 5 := fun a => mx_told_b
                have gj1 := gj (by omega)
                refine ri_icmp_eq C 97 dX4_passesIn_90 rfl (fun h90 => ?_) (fun h90 => ?_)
                · rw [mx_o_eq htl (by omega)] at h90
                  refine ri_iconst C dX4_passesIn_97 kc_i0 ?_
                  refine ri_callS C km_X4_one q3247 dX4_passesIn_98 (mt_X4_one htr (b := false)) rfl rfl ⟨⟨(Nat.le_of_ble_eq_true rfl), (Nat.le_of_ble_eq_true rfl)⟩, (Nat.le_of_ble_eq_true rfl), (Nat.le_of_ble_eq_true rfl), (Nat.le_of_ble_eq_true rfl)⟩ (fun v98 s98 h98 => ?_) (fun _ _ _ h => h.elim)
                  obtain ⟨rfl, rfl⟩ := h98
                  first | refine ri_iaddN C dX4_passesIn_101 ?_ | refine ri_iadd C dX4_passesIn_101 ?_
                  refine ri_istore C dX4_passesIn_102 rfl (by decide) ?_
                  first | refine ri_iincN C dX4_passesIn_104 rfl rfl (by decide) ?_ | refine ri_iinc C dX4_passesIn_104 rfl rfl rfl (by decide) ?_
                  refine ri_goto C 14 dX4_passesIn_107 rfl ?_
                  first
                    | (refine ri_lv2 (ih (i + 1) _ (by omega) (by omega) ?_) ⟨rfl, rfl, rfl, rfl, rfl, ?_, rfl, trivial⟩
                       · rw [show 24 * (i + 1) = 24 * i + 24 by omega, mx_M_e hfz 24 (by omega) (by omega), ← ej, qvj]; exact hQI
                       · first | (rw [mx_cnt_t (by unfold mx_ul; rw [hfi, ← mi]; simp [htl, h90])]; rfl) | (rw [mx_cnt_f (by unfold mx_ul; rw [← mi]; simp [htl, h90])]; rfl))
                    | (refine ri_lv2 (ih (i + 1) _ (by omega) (by omega) ?_) ⟨rfl, rfl, rfl, rfl, rfl, ?_, rfl, trivial⟩
                       · rw [show 24 * (i + 1) = 24 * i + 24 by omega, mx_M_g (by rw [kvi (by omega)]; assumption) 24 (by omega), qvi]; exact hI
                       · (rw [mx_cnt_f (by unfold mx_ul; rw [kvi (by omega), h33]; rfl)]; rfl))
                · rw [mx_o_eq htl (by omega)] at h90
                  refine ri_iconst C dX4_passesIn_93 kc_i1 ?_
                  refine ri_goto C 98 dX4_passesIn_94 rfl ?_
                  refine ri_callS C km_X4_one q3247 dX4_passesIn_98 (mt_X4_one htr (b := true)) rfl rfl ⟨⟨(Nat.le_of_ble_eq_true rfl), (Nat.le_of_ble_eq_true rfl)⟩, (Nat.le_of_ble_eq_true rfl), (Nat.le_of_ble_eq_true rfl), (Nat.le_of_ble_eq_true rfl)⟩ (fun v98 s98 h98 => ?_) (fun _ _ _ h => h.elim)
                  obtain ⟨rfl, rfl⟩ := h98
                  first | refine ri_iaddN C dX4_passesIn_101 ?_ | refine ri_iadd C dX4_passesIn_101 ?_
                  refine ri_istore C dX4_passesIn_102 rfl (by decide) ?_
                  first | refine ri_iincN C dX4_passesIn_104 rfl rfl (by decide) ?_ | refine ri_iinc C dX4_passesIn_104 rfl rfl rfl (by decide) ?_
                  refine ri_goto C 14 dX4_passesIn_107 rfl ?_
                  first
                    | (refine ri_lv2 (ih (i + 1) _ (by omega) (by omega) ?_) ⟨rfl, rfl, rfl, rfl, rfl, ?_, rfl, trivial⟩
                       · rw [show 24 * (i + 1) = 24 * i + 24 by omega, mx_M_e hfz 24 (by omega) (by omega), ← ej, qvj]; exact hQI
                       · first | (rw [mx_cnt_t (by unfold mx_ul; rw [hfi, ← mi]; simp [htl, h90])]; rfl) | (rw [mx_cnt_f (by unfold mx_ul; rw [← mi]; simp [htl, h90])]; rfl))
                    | (refine ri_lv2 (ih (i + 1) _ (by omega) (by omega) ?_) ⟨rfl, rfl, rfl, rfl, rfl, ?_, rfl, trivial⟩
                       · rw [show 24 * (i + 1) = 24 * i + 24 by omega, mx_M_g (by rw [kvi (by omega)]; assumption) 24 (by omega), qvi]; exact hI
                       · (rw [mx_cnt_f (by unfold mx_ul; rw [kvi (by omega), h33]; rfl)]; rfl))
              · have gj1 := gvj (by omega)
                first | refine ri_aload_n C dX4_passesIn_53 rfl ?_ | refine ri_aload_nQ C dX4_passesIn_53 rfl ?_ | refine ri_aload_nN C dX4_passesIn_53 rfl ?_
                refine ri_iload C dX4_passesIn_54 rfl ?_
                refine ri_iload_n C dX4_passesIn_56 rfl ?_
                refine ri_iload_n C dX4_passesIn_57 rfl ?_
                refine ri_callV C km_X4_isSpeaking q3221 qs92 dX4_passesIn_58 (mt_X4_isSpeaking htr bvj cvj ovj (by omega) hp hm) rfl rfl (kx_rcN C (by first | assumption | (repeat (first | assumption | exact kx_rs (by assumption) | exact kx_ne2 (by omega) | exact kx_ne1 (by omega) | refine kx_ro (by assumption) ?_ ?_ | exact kx_rs rfl | refine kx_ro rfl ?_ ?_))) rfl) ⟨⟨(Nat.le_of_ble_eq_true rfl), (Nat.le_of_ble_eq_true rfl)⟩, (Nat.le_of_ble_eq_true rfl), (Nat.le_of_ble_eq_true rfl), (Nat.le_of_ble_eq_true rfl)⟩ (fun v58 s58 h58 => ?_) (fun _ _ _ h => h.elim)
                obtain ⟨rfl, rfl⟩ := h58
                first | refine ri_if_eqB C 73 dX4_passesIn_61 rfl (fun h61 => ?_) (fun h61 => ?_) | refine ri_if_eqN C 73 dX4_passesIn_61 rfl (by omega) (fun h61 => ?_) (fun h61 => ?_) | refine ri_if_eq C 73 dX4_passesIn_61 rfl (fun h61 => ?_) (fun h61 => ?_)
                · first | refine ri_iincN C dX4_passesIn_73 rfl rfl (by decide) ?_ | refine ri_iinc C dX4_passesIn_73 rfl rfl rfl (by decide) ?_
                  refine ri_goto C 42 dX4_passesIn_76 rfl ?_
                  refine ri_lv2 (ihq (j + 1) _ (by omega) (by omega) ?_) ⟨rfl, rfl, rfl, rfl, rfl, rfl, rfl, rfl, trivial⟩
                  first
                    | (rw [mx_M_t (by omega) hfi (by rw [kvj (by omega)]; assumption), qvj, e70, hQI, kx_up_u])
                    | (rw [mx_M_f (by omega) (by rw [kvj (by omega)]; assumption), qvj]; exact hQI)
                · first | refine ri_aload_n C dX4_passesIn_64 rfl ?_ | refine ri_aload_nQ C dX4_passesIn_64 rfl ?_ | refine ri_aload_nN C dX4_passesIn_64 rfl ?_
                  refine ri_iload C dX4_passesIn_65 rfl ?_
                  refine ri_iload C dX4_passesIn_67 rfl ?_
                  refine ri_iload_n C dX4_passesIn_69 rfl ?_
                  refine ri_callV C km_X4_meets q3243 qs95 dX4_passesIn_70 (mt_X4_meets htr bvj cvj (by omega) (by omega) (by have := gj (by omega); omega)) rfl rfl (kx_rcN C (by first | assumption | (repeat (first | assumption | exact kx_rs (by assumption) | exact kx_ne2 (by omega) | exact kx_ne1 (by omega) | refine kx_ro (by assumption) ?_ ?_ | exact kx_rs rfl | refine kx_ro rfl ?_ ?_))) rfl) ⟨⟨(Nat.le_of_ble_eq_true rfl), (Nat.le_of_ble_eq_true rfl)⟩, (Nat.le_of_ble_eq_true rfl), (Nat.le_of_ble_eq_true rfl), (Nat.le_of_ble_eq_true rfl)⟩ (fun v70 s70 h70 => ?_) (fun _ _ _ h => h.elim)
                  obtain ⟨rfl, e70⟩ := h70
                  first | refine ri_iincN C dX4_passesIn_73 rfl rfl (by decide) ?_ | refine ri_iinc C dX4_passesIn_73 rfl rfl rfl (by decide) ?_
                  refine ri_goto C 42 dX4_passesIn_76 rfl ?_
                  refine ri_lv2 (ihq (j + 1) _ (by omega) (by omega) ?_) ⟨rfl, rfl, rfl, rfl, rfl, rfl, rfl, rfl, trivial⟩
                  first
                    | (rw [mx_M_t (by omega) hfi (by rw [kvj (by omega)]; assumption), qvj, e70, hQI, kx_up_u])
                    | (rw [mx_M_f (by omega) (by rw [kvj (by omega)]; assumption), qvj]; exact hQI)
          refine ri_lv2 (LQ (u 0 + 1) 0 _ (by omega) (by omega) ?_) ⟨rfl, rfl, rfl, rfl, rfl, rfl, rfl, rfl, trivial⟩
          rw [Nat.add_zero, qvi]; exact hI
        · refine ri_goto C 104 dX4_passesIn_36 rfl ?_
          first | refine ri_iincN C dX4_passesIn_104 rfl rfl (by decide) ?_ | refine ri_iinc C dX4_passesIn_104 rfl rfl rfl (by decide) ?_
          refine ri_goto C 14 dX4_passesIn_107 rfl ?_
          first
            | (refine ri_lv2 (ih (i + 1) _ (by omega) (by omega) ?_) ⟨rfl, rfl, rfl, rfl, rfl, ?_, rfl, trivial⟩
               · rw [show 24 * (i + 1) = 24 * i + 24 by omega, mx_M_e hfz 24 (by omega) (by omega), ← ej, qvj]; exact hQI
               · first | (rw [mx_cnt_t (by unfold mx_ul; rw [hfi, ← mi]; simp [htl, h90])]; rfl) | (rw [mx_cnt_f (by unfold mx_ul; rw [← mi]; simp [htl, h90])]; rfl))
            | (refine ri_lv2 (ih (i + 1) _ (by omega) (by omega) ?_) ⟨rfl, rfl, rfl, rfl, rfl, ?_, rfl, trivial⟩
               · rw [show 24 * (i + 1) = 24 * i + 24 by omega, mx_M_g (by rw [kvi (by omega)]; assumption) 24 (by omega), qvi]; exact hI
               · (rw [mx_cnt_f (by unfold mx_ul; rw [kvi (by omega), h33]; rfl)]; rfl))
  first | refine ri_aload_n C dX4_passesIn_0 rfl ?_ | refine ri_aload_nQ C dX4_passesIn_0 rfl ?_ | refine ri_aload_nN C dX4_passesIn_0 rfl ?_
  refine ri_iload_n C dX4_passesIn_1 rfl ?_
  refine ri_iload_n C dX4_passesIn_2 rfl ?_
  refine ri_callV C km_X4_toldAt q3213 qs90 dX4_passesIn_3 (mt_X4_toldAt htr h0 hw hu hp hm) rfl rfl (kx_rcN C (by first | assumption | (repeat (first | assumption | exact kx_rs (by assumption) | exact kx_ne2 (by omega) | exact kx_ne1 (by omega) | refine kx_ro (by assumption) ?_ ?_ | exact kx_rs rfl | refine kx_ro rfl ?_ ?_))) rfl) ⟨⟨(Nat.le_of_ble_eq_true rfl), (Nat.le_of_ble_eq_true rfl)⟩, (Nat.le_of_ble_eq_true rfl), (Nat.le_of_ble_eq_true rfl), (Nat.le_of_ble_eq_true rfl)⟩ (fun v3 s3 h3 => ?_) (fun _ _ _ h => h.elim)
  obtain ⟨rfl, rfl⟩ := h3
  refine ri_istore C dX4_passesIn_6 rfl (by decide) ?_
  refine ri_iconst C dX4_passesIn_8 kc_i0 ?_
  refine ri_istore C dX4_passesIn_9 rfl (by decide) ?_
  refine ri_iconst C dX4_passesIn_11 kc_i0 ?_
  refine ri_istore C dX4_passesIn_12 rfl (by decide) ?_
  refine ri_lv2 (LP (u 0 + 1) 0 _ (by omega) (by omega) ?_) ⟨rfl, rfl, rfl, rfl, rfl, rfl, rfl, trivial⟩
  rw [Nat.mul_zero, mx_M_0]; exact (kx_up_i hw).symm
