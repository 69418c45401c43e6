/-! the JDK: a TreeMap after a deletion -/
set_option maxRecDepth 100000
set_option maxHeartbeats 8000000 in
theorem mt_J19_fixAfterDeletion {l : Launch} {G : kx_G} (htr : l.stackTraces = false) {σ : kx_H} {ct mp : Nat} {K V : Nat → Nat} {D : Nat → Int32} {vals : Option Nat} {sz : Nat} {md : Int32} {Bx : tt_C} {xa : Nat} {xl xr : tt_T} (h : tm_H σ ct mp (tt_p Bx (.branch xa xl xr)) K V D vals sz md) : kx_SP l G yJ19_fixAfterDeletion (ws_ yJ19_fixAfterDeletion cJ19_fixAfterDeletion 3 none) 2 0 0 [.ref mp, .ref xa] σ (fun v τ => v = none ∧ ∃ B' D', tm_H τ ct mp (tt_p B' (.branch xa xl xr)) K V D' vals sz md ∧ tt_i (tt_p B' (.branch xa xl xr)) = tt_i (tt_p Bx (.branch xa xl xr)) ∧ kx_Fr (tm_T ct (tt_i (tt_p Bx (.branch xa xl xr)))) σ τ) kx_nx := by
  refine kx_body htr (by decide +kernel) (own := "java/util/TreeMap") (nm := "fixAfterDeletion") rfl rfl (Nat.le_of_ble_eq_true rfl) ?_
  intro p e s m args below meth c Q C hQ
  obtain ⟨P0, hP0⟩ : ∃ P0 : tt_T, P0 = .branch xa xl xr := ⟨_, rfl⟩
  obtain ⟨L0, hL0⟩ : ∃ L0, L0 = tt_i (tt_p Bx (.branch xa xl xr)) := ⟨_, rfl⟩
  rw [← hL0, ← hP0] at hQ
  have hlen : Bx.length ≤ L0.length := by rw [hL0]; exact tt_len2
  have LP : ∀ (wk i : Nat) (Bx : tt_C) (xa : Nat) (xl xr : tt_T) (D1 : Nat → Int32) (τ : kx_H), i ≤ L0.length + 5 → L0.length + 5 < i + wk → (tm_H τ ct mp (tt_p Bx (.branch xa xl xr)) K V D1 vals sz md ∧ (∃ A, (.branch xa xl xr : tt_T) = tt_p A P0) ∧ tt_i (tt_p Bx (.branch xa xl xr)) = L0 ∧ kx_Fr (tm_T ct L0) σ τ ∧ (Bx.length + i + 2 ≤ L0.length + 5 ∨ (i + 1 ≤ L0.length + 5 ∧ (D1 xa = nI 0 ∨ Bx = [])))) → kx_V G l p e (kx_rm 2 0 0) s m args below meth c 3 Q 0 [(0, .ref mp), (1, .ref xa)] [] τ 0 0 := by
    intro wk
    induction wk with
    | zero => intro i Bx xa xl xr D1 τ h1 h2; exact absurd h2 (by omega)
    | succ wk ih =>
      intro i Bx xa xl xr D1 τ hi hwk hJ
      obtain ⟨hh1, ⟨A, hA⟩, hh2, hh3, hms⟩ := hJ
      rcases Bx with _ | ⟨⟨_ | _, pn, sb⟩, Bx⟩
      · have h0 : tm_H τ ct mp (tt_p [] (.branch xa xl xr)) K V D1 vals sz md := hh1
        have i0 : tt_i (tt_p [] (.branch xa xl xr)) = L0 := hh2
        have F0 := hh3
        obtain ⟨⟨f0_xa, f0_xl, f0_xr⟩, fK0⟩ := (tt_H_p [] (.branch xa xl xr)).mp h0.2.1
        refine ri_aload_n C dJ19_fixAfterDeletion_0 rfl ?_
        refine ri_aload_n C dJ19_fixAfterDeletion_1 rfl ?_
        refine ri_getf C dJ19_fixAfterDeletion_2 fr_q577_18 h0.1 (by rfl) ?_
        refine ri_acmp_eqQ (rx := (some xa)) (ry := (some xa)) C 345 dJ19_fixAfterDeletion_5 rfl (fun h5 => ?_) (fun h5 => ?_)
        · refine ri_aload_n C dJ19_fixAfterDeletion_345 rfl ?_
          refine ri_iconst C dJ19_fixAfterDeletion_346 kc_i1 ?_
          refine ri_callS C km_J19_setColor q1128 dJ19_fixAfterDeletion_347 (mt_J19_setColorT htr h0 (an := xa) (by simp [tt_i_p, tt_p, tt_i]) (Or.inr rfl)) rfl rfl ⟨⟨(Nat.le_of_ble_eq_true rfl), (Nat.le_of_ble_eq_true rfl)⟩, (Nat.le_of_ble_eq_true rfl), (Nat.le_of_ble_eq_true rfl), (Nat.le_of_ble_eq_true rfl)⟩ (fun v347 z347 q347 => ?_) (fun _ _ _ h => h.elim)
          obtain ⟨rfl, h1001, e1001⟩ := q347
          rw [i0] at e1001
          have i1001 := i0
          have F1001 := kx_Fr.tr F0 e1001
          obtain ⟨⟨f1001_xa, f1001_xl, f1001_xr⟩, fK1001⟩ := (tt_H_p [] (.branch xa xl xr)).mp h1001.2.1
          have hT9 : tt_p [] (.branch xa xl xr) = tt_p (A ++ ([])) P0 := (by rw [tt_p_a, ← hA] <;> rfl)
          rw [hT9] at h1001 i1001
          exact ri_vret C hQ dJ19_fixAfterDeletion_350 (Nat.le_of_ble_eq_true rfl) (Nat.le_of_ble_eq_true rfl) ⟨rfl, (A ++ ([])), _, h1001, i1001, F1001⟩
        · exact absurd rfl h5
      · have h0 : tm_H τ ct mp (tt_p Bx (.branch pn sb (.branch xa xl xr))) K V D1 vals sz md := hh1
        have i0 : tt_i (tt_p Bx (.branch pn sb (.branch xa xl xr))) = L0 := hh2
        have F0 := hh3
        obtain ⟨⟨f0_pn, f0_sb, ⟨f0_xa, f0_xl, f0_xr⟩⟩, fK0⟩ := (tt_H_p Bx (.branch pn sb (.branch xa xl xr))).mp h0.2.1
        refine ri_aload_n C dJ19_fixAfterDeletion_0 rfl ?_
        refine ri_aload_n C dJ19_fixAfterDeletion_1 rfl ?_
        refine ri_getf C dJ19_fixAfterDeletion_2 fr_q577_18 h0.1 (by rfl) ?_
        refine ri_acmp_eqQ (rx := (some xa)) (ry := (tt_r (tt_p Bx (.branch pn sb (.branch xa xl xr))))) C 345 dJ19_fixAfterDeletion_5 rfl (fun h5 => ?_) (fun h5 => ?_)
        · refine ri_aload_n C dJ19_fixAfterDeletion_345 rfl ?_
          refine ri_iconst C dJ19_fixAfterDeletion_346 kc_i1 ?_
          refine ri_callS C km_J19_setColor q1128 dJ19_fixAfterDeletion_347 (mt_J19_setColorT htr h0 (an := xa) (by simp [tt_i_p, tt_p, tt_i]) (Or.inr rfl)) rfl rfl ⟨⟨(Nat.le_of_ble_eq_true rfl), (Nat.le_of_ble_eq_true rfl)⟩, (Nat.le_of_ble_eq_true rfl), (Nat.le_of_ble_eq_true rfl), (Nat.le_of_ble_eq_true rfl)⟩ (fun v347 z347 q347 => ?_) (fun _ _ _ h => h.elim)
          obtain ⟨rfl, h1002, e1002⟩ := q347
          rw [i0] at e1002
          have i1002 := i0
          have F1002 := kx_Fr.tr F0 e1002
          obtain ⟨⟨f1002_pn, f1002_sb, ⟨f1002_xa, f1002_xl, f1002_xr⟩⟩, fK1002⟩ := (tt_H_p Bx (.branch pn sb (.branch xa xl xr))).mp h1002.2.1
          have hT9 : tt_p Bx (.branch pn sb (.branch xa xl xr)) = tt_p (A ++ ((false, pn, sb) :: Bx)) P0 := (by rw [tt_p_a, ← hA] <;> rfl)
          rw [hT9] at h1002 i1002
          exact ri_vret C hQ dJ19_fixAfterDeletion_350 (Nat.le_of_ble_eq_true rfl) (Nat.le_of_ble_eq_true rfl) ⟨rfl, (A ++ ((false, pn, sb) :: Bx)), _, h1002, i1002, F1002⟩
        · refine ri_aload_n C dJ19_fixAfterDeletion_8 rfl ?_
          refine ri_callS C km_J19_colorOf q1125 dJ19_fixAfterDeletion_9 (mt_J19_colorOfR htr f0_xa (h0.2.2.2 xa)) rfl rfl ⟨⟨(Nat.le_of_ble_eq_true rfl), (Nat.le_of_ble_eq_true rfl)⟩, (Nat.le_of_ble_eq_true rfl), (Nat.le_of_ble_eq_true rfl), (Nat.le_of_ble_eq_true rfl)⟩ (fun v9 z9 q9 => ?_) (fun _ _ _ h => h.elim)
          obtain ⟨rfl, rfl⟩ := q9
          refine ri_iconst C dJ19_fixAfterDeletion_12 kc_i1 ?_
          refine ri_icmp_ne C 345 dJ19_fixAfterDeletion_13 rfl (fun h13 => ?_) (fun h13 => ?_)
          · refine ri_aload_n C dJ19_fixAfterDeletion_345 rfl ?_
            refine ri_iconst C dJ19_fixAfterDeletion_346 kc_i1 ?_
            refine ri_callS C km_J19_setColor q1128 dJ19_fixAfterDeletion_347 (mt_J19_setColorT htr h0 (an := xa) (by simp [tt_i_p, tt_p, tt_i]) (Or.inr rfl)) rfl rfl ⟨⟨(Nat.le_of_ble_eq_true rfl), (Nat.le_of_ble_eq_true rfl)⟩, (Nat.le_of_ble_eq_true rfl), (Nat.le_of_ble_eq_true rfl), (Nat.le_of_ble_eq_true rfl)⟩ (fun v347 z347 q347 => ?_) (fun _ _ _ h => h.elim)
            obtain ⟨rfl, h1003, e1003⟩ := q347
            rw [i0] at e1003
            have i1003 := i0
            have F1003 := kx_Fr.tr F0 e1003
            obtain ⟨⟨f1003_pn, f1003_sb, ⟨f1003_xa, f1003_xl, f1003_xr⟩⟩, fK1003⟩ := (tt_H_p Bx (.branch pn sb (.branch xa xl xr))).mp h1003.2.1
            have hT9 : tt_p Bx (.branch pn sb (.branch xa xl xr)) = tt_p (A ++ ((false, pn, sb) :: Bx)) P0 := (by rw [tt_p_a, ← hA] <;> rfl)
            rw [hT9] at h1003 i1003
            exact ri_vret C hQ dJ19_fixAfterDeletion_350 (Nat.le_of_ble_eq_true rfl) (Nat.le_of_ble_eq_true rfl) ⟨rfl, (A ++ ((false, pn, sb) :: Bx)), _, h1003, i1003, F1003⟩
          · have hln := hms.resolve_right (fun q => by
              rcases q.2 with q | q
              · exact absurd (q.symm.trans h13) (by decide)
              · cases q)
            refine ri_aload_n C dJ19_fixAfterDeletion_16 rfl ?_
            refine ri_aload_n C dJ19_fixAfterDeletion_17 rfl ?_
            refine ri_callS C km_J19_parentOf q1116 dJ19_fixAfterDeletion_18 (mt_J19_parentOfR htr (y := (some pn)) f0_xa) rfl rfl ⟨⟨(Nat.le_of_ble_eq_true rfl), (Nat.le_of_ble_eq_true rfl)⟩, (Nat.le_of_ble_eq_true rfl), (Nat.le_of_ble_eq_true rfl), (Nat.le_of_ble_eq_true rfl)⟩ (fun v18 z18 q18 => ?_) (fun _ _ _ h => h.elim)
            obtain ⟨rfl, rfl⟩ := q18
            refine ri_callS C km_J19_leftOf q1119 dJ19_fixAfterDeletion_21 (mt_J19_leftOfR htr (y := (tt_r sb)) f0_pn) rfl rfl ⟨⟨(Nat.le_of_ble_eq_true rfl), (Nat.le_of_ble_eq_true rfl)⟩, (Nat.le_of_ble_eq_true rfl), (Nat.le_of_ble_eq_true rfl), (Nat.le_of_ble_eq_true rfl)⟩ (fun v21 z21 q21 => ?_) (fun _ _ _ h => h.elim)
            obtain ⟨rfl, rfl⟩ := q21
            refine ri_acmp_neQ (rx := (some xa)) (ry := (tt_r sb)) C 186 dJ19_fixAfterDeletion_24 rfl (fun h24 => ?_) (fun h24 => ?_)
            · refine ri_aload_n C dJ19_fixAfterDeletion_186 rfl ?_
              refine ri_callS C km_J19_parentOf q1116 dJ19_fixAfterDeletion_187 (mt_J19_parentOfR htr (y := (some pn)) f0_xa) rfl rfl ⟨⟨(Nat.le_of_ble_eq_true rfl), (Nat.le_of_ble_eq_true rfl)⟩, (Nat.le_of_ble_eq_true rfl), (Nat.le_of_ble_eq_true rfl), (Nat.le_of_ble_eq_true rfl)⟩ (fun v187 z187 q187 => ?_) (fun _ _ _ h => h.elim)
              obtain ⟨rfl, rfl⟩ := q187
              refine ri_callS C km_J19_leftOf q1119 dJ19_fixAfterDeletion_190 (mt_J19_leftOfR htr (y := (tt_r sb)) f0_pn) rfl rfl ⟨⟨(Nat.le_of_ble_eq_true rfl), (Nat.le_of_ble_eq_true rfl)⟩, (Nat.le_of_ble_eq_true rfl), (Nat.le_of_ble_eq_true rfl), (Nat.le_of_ble_eq_true rfl)⟩ (fun v190 z190 q190 => ?_) (fun _ _ _ h => h.elim)
              obtain ⟨rfl, rfl⟩ := q190
              refine ri_astore_nQ (x := (tt_r sb)) C dJ19_fixAfterDeletion_193 rfl (by decide) ?_
              refine ri_aload_nQ (x := (tt_r sb)) C dJ19_fixAfterDeletion_194 rfl ?_
              rcases sb with ⟨_⟩ | ⟨sbn, sbl, sbr⟩
              · have h1004 : tm_H z190 ct mp (tt_p Bx (.branch pn tt_n (.branch xa xl xr))) K V D1 vals sz md := h0
                have i1004 : tt_i (tt_p Bx (.branch pn tt_n (.branch xa xl xr))) = L0 := i0
                have F1004 := F0
                obtain ⟨⟨f1004_pn, -, ⟨f1004_xa, f1004_xl, f1004_xr⟩⟩, fK1004⟩ := (tt_H_p Bx (.branch pn tt_n (.branch xa xl xr))).mp h1004.2.1
                refine ri_callS C km_J19_colorOf q1125 dJ19_fixAfterDeletion_195 (mt_J19_colorOfN htr) rfl rfl ⟨⟨(Nat.le_of_ble_eq_true rfl), (Nat.le_of_ble_eq_true rfl)⟩, (Nat.le_of_ble_eq_true rfl), (Nat.le_of_ble_eq_true rfl), (Nat.le_of_ble_eq_true rfl)⟩ (fun v195 z195 q195 => ?_) (fun _ _ _ h => h.elim)
                obtain ⟨rfl, rfl⟩ := q195
                refine ri_if_ne C 230 dJ19_fixAfterDeletion_198 rfl (fun h198 => ?_) (fun h198 => ?_)
                · refine ri_aload_nN C dJ19_fixAfterDeletion_230 rfl ?_
                  refine ri_callS C km_J19_rightOf q1122 dJ19_fixAfterDeletion_231 (mt_J19_rightOfN htr) rfl rfl ⟨⟨(Nat.le_of_ble_eq_true rfl), (Nat.le_of_ble_eq_true rfl)⟩, (Nat.le_of_ble_eq_true rfl), (Nat.le_of_ble_eq_true rfl), (Nat.le_of_ble_eq_true rfl)⟩ (fun v231 z231 q231 => ?_) (fun _ _ _ h => h.elim)
                  obtain ⟨rfl, rfl⟩ := q231
                  refine ri_callS C km_J19_colorOf q1125 dJ19_fixAfterDeletion_234 (mt_J19_colorOfN htr) rfl rfl ⟨⟨(Nat.le_of_ble_eq_true rfl), (Nat.le_of_ble_eq_true rfl)⟩, (Nat.le_of_ble_eq_true rfl), (Nat.le_of_ble_eq_true rfl), (Nat.le_of_ble_eq_true rfl)⟩ (fun v234 z234 q234 => ?_) (fun _ _ _ h => h.elim)
                  obtain ⟨rfl, rfl⟩ := q234
                  refine ri_iconst C dJ19_fixAfterDeletion_237 kc_i1 ?_
                  refine ri_icmp_ne C 265 dJ19_fixAfterDeletion_238 rfl (fun h238 => ?_) (fun h238 => ?_)
                  · exact absurd rfl h238
                  · refine ri_aload_nN C dJ19_fixAfterDeletion_241 rfl ?_
                    refine ri_callS C km_J19_leftOf q1119 dJ19_fixAfterDeletion_242 (mt_J19_leftOfN htr) rfl rfl ⟨⟨(Nat.le_of_ble_eq_true rfl), (Nat.le_of_ble_eq_true rfl)⟩, (Nat.le_of_ble_eq_true rfl), (Nat.le_of_ble_eq_true rfl), (Nat.le_of_ble_eq_true rfl)⟩ (fun v242 z242 q242 => ?_) (fun _ _ _ h => h.elim)
                    obtain ⟨rfl, rfl⟩ := q242
                    refine ri_callS C km_J19_colorOf q1125 dJ19_fixAfterDeletion_245 (mt_J19_colorOfN htr) rfl rfl ⟨⟨(Nat.le_of_ble_eq_true rfl), (Nat.le_of_ble_eq_true rfl)⟩, (Nat.le_of_ble_eq_true rfl), (Nat.le_of_ble_eq_true rfl), (Nat.le_of_ble_eq_true rfl)⟩ (fun v245 z245 q245 => ?_) (fun _ _ _ h => h.elim)
                    obtain ⟨rfl, rfl⟩ := q245
                    refine ri_iconst C dJ19_fixAfterDeletion_248 kc_i1 ?_
                    refine ri_icmp_ne C 265 dJ19_fixAfterDeletion_249 rfl (fun h249 => ?_) (fun h249 => ?_)
                    · exact absurd rfl h249
                    · refine ri_aload_nN C dJ19_fixAfterDeletion_252 rfl ?_
                      refine ri_iconst C dJ19_fixAfterDeletion_253 kc_i0 ?_
                      refine ri_callS C km_J19_setColor q1128 dJ19_fixAfterDeletion_254 (mt_J19_setColorN htr) rfl rfl ⟨⟨(Nat.le_of_ble_eq_true rfl), (Nat.le_of_ble_eq_true rfl)⟩, (Nat.le_of_ble_eq_true rfl), (Nat.le_of_ble_eq_true rfl), (Nat.le_of_ble_eq_true rfl)⟩ (fun v254 z254 q254 => ?_) (fun _ _ _ h => h.elim)
                      obtain ⟨rfl, rfl⟩ := q254
                      refine ri_aload_n C dJ19_fixAfterDeletion_257 rfl ?_
                      refine ri_callS C km_J19_parentOf q1116 dJ19_fixAfterDeletion_258 (mt_J19_parentOfR htr (y := (some pn)) f1004_xa) rfl rfl ⟨⟨(Nat.le_of_ble_eq_true rfl), (Nat.le_of_ble_eq_true rfl)⟩, (Nat.le_of_ble_eq_true rfl), (Nat.le_of_ble_eq_true rfl), (Nat.le_of_ble_eq_true rfl)⟩ (fun v258 z258 q258 => ?_) (fun _ _ _ h => h.elim)
                      obtain ⟨rfl, rfl⟩ := q258
                      refine ri_astore_n (x := pn) C dJ19_fixAfterDeletion_261 rfl (by decide) ?_
                      refine ri_goto C 342 dJ19_fixAfterDeletion_262 rfl ?_
                      refine ri_goto C 0 dJ19_fixAfterDeletion_342 rfl ?_
                      refine ri_lv2 (ih (i + 1) (Bx) pn tt_n (.branch xa xl xr) _ _ (by omega) (by omega) ⟨h1004, ⟨A ++ [(false, pn, tt_n)], by rw [tt_p_a, ← hA] <;> rfl⟩, i1004, F1004, ?_⟩) ⟨rfl, rfl, trivial⟩
                      first
                        | exact Or.inl (by simp only [List.length_cons, List.length_nil] at hln ⊢; omega)
                        | exact Or.inr ⟨by simp only [List.length_cons, List.length_nil] at hln; omega, Or.inr rfl⟩
                        | exact Or.inr ⟨by simp only [List.length_cons, List.length_nil] at hln; omega, Or.inl (by simp [tm_c])⟩
                · exact absurd h198 (by decide)
              · have h1005 : tm_H z190 ct mp (tt_p Bx (.branch pn (.branch sbn sbl sbr) (.branch xa xl xr))) K V D1 vals sz md := h0
                have i1005 : tt_i (tt_p Bx (.branch pn (.branch sbn sbl sbr) (.branch xa xl xr))) = L0 := i0
                have F1005 := F0
                have nd1005 := h1005.2.2.1
                obtain ⟨⟨f1005_pn, ⟨f1005_sbn, f1005_sbl, f1005_sbr⟩, ⟨f1005_xa, f1005_xl, f1005_xr⟩⟩, fK1005⟩ := (tt_H_p Bx (.branch pn (.branch sbn sbl sbr) (.branch xa xl xr))).mp h1005.2.1
                refine ri_callS C km_J19_colorOf q1125 dJ19_fixAfterDeletion_195 (mt_J19_colorOfR htr f1005_sbn (h1005.2.2.2 sbn)) rfl rfl ⟨⟨(Nat.le_of_ble_eq_true rfl), (Nat.le_of_ble_eq_true rfl)⟩, (Nat.le_of_ble_eq_true rfl), (Nat.le_of_ble_eq_true rfl), (Nat.le_of_ble_eq_true rfl)⟩ (fun v195 z195 q195 => ?_) (fun _ _ _ h => h.elim)
                obtain ⟨rfl, rfl⟩ := q195
                refine ri_if_ne C 230 dJ19_fixAfterDeletion_198 rfl (fun h198 => ?_) (fun h198 => ?_)
                · refine ri_aload_n C dJ19_fixAfterDeletion_230 rfl ?_
                  refine ri_callS C km_J19_rightOf q1122 dJ19_fixAfterDeletion_231 (mt_J19_rightOfR htr (y := (tt_r sbr)) f1005_sbn) rfl rfl ⟨⟨(Nat.le_of_ble_eq_true rfl), (Nat.le_of_ble_eq_true rfl)⟩, (Nat.le_of_ble_eq_true rfl), (Nat.le_of_ble_eq_true rfl), (Nat.le_of_ble_eq_true rfl)⟩ (fun v231 z231 q231 => ?_) (fun _ _ _ h => h.elim)
                  obtain ⟨rfl, rfl⟩ := q231
                  rcases sbr with ⟨_⟩ | ⟨sbrn, sbrl, sbrr⟩
                  · have h1006 : tm_H z231 ct mp (tt_p Bx (.branch pn (.branch sbn sbl tt_n) (.branch xa xl xr))) K V D1 vals sz md := h1005
                    have i1006 : tt_i (tt_p Bx (.branch pn (.branch sbn sbl tt_n) (.branch xa xl xr))) = L0 := i1005
                    have F1006 := F1005
                    obtain ⟨⟨f1006_pn, ⟨f1006_sbn, f1006_sbl, -⟩, ⟨f1006_xa, f1006_xl, f1006_xr⟩⟩, fK1006⟩ := (tt_H_p Bx (.branch pn (.branch sbn sbl tt_n) (.branch xa xl xr))).mp h1006.2.1
                    refine ri_callS C km_J19_colorOf q1125 dJ19_fixAfterDeletion_234 (mt_J19_colorOfN htr) rfl rfl ⟨⟨(Nat.le_of_ble_eq_true rfl), (Nat.le_of_ble_eq_true rfl)⟩, (Nat.le_of_ble_eq_true rfl), (Nat.le_of_ble_eq_true rfl), (Nat.le_of_ble_eq_true rfl)⟩ (fun v234 z234 q234 => ?_) (fun _ _ _ h => h.elim)
                    obtain ⟨rfl, rfl⟩ := q234
                    refine ri_iconst C dJ19_fixAfterDeletion_237 kc_i1 ?_
                    refine ri_icmp_ne C 265 dJ19_fixAfterDeletion_238 rfl (fun h238 => ?_) (fun h238 => ?_)
                    · exact absurd rfl h238
                    · refine ri_aload_n C dJ19_fixAfterDeletion_241 rfl ?_
                      refine ri_callS C km_J19_leftOf q1119 dJ19_fixAfterDeletion_242 (mt_J19_leftOfR htr (y := (tt_r sbl)) f1006_sbn) rfl rfl ⟨⟨(Nat.le_of_ble_eq_true rfl), (Nat.le_of_ble_eq_true rfl)⟩, (Nat.le_of_ble_eq_true rfl), (Nat.le_of_ble_eq_true rfl), (Nat.le_of_ble_eq_true rfl)⟩ (fun v242 z242 q242 => ?_) (fun _ _ _ h => h.elim)
                      obtain ⟨rfl, rfl⟩ := q242
                      rcases sbl with ⟨_⟩ | ⟨sbln, sbll, sblr⟩
                      · have h1007 : tm_H z242 ct mp (tt_p Bx (.branch pn (.branch sbn tt_n tt_n) (.branch xa xl xr))) K V D1 vals sz md := h1006
                        have i1007 : tt_i (tt_p Bx (.branch pn (.branch sbn tt_n tt_n) (.branch xa xl xr))) = L0 := i1006
                        have F1007 := F1006
                        obtain ⟨⟨f1007_pn, ⟨f1007_sbn, -, -⟩, ⟨f1007_xa, f1007_xl, f1007_xr⟩⟩, fK1007⟩ := (tt_H_p Bx (.branch pn (.branch sbn tt_n tt_n) (.branch xa xl xr))).mp h1007.2.1
                        refine ri_callS C km_J19_colorOf q1125 dJ19_fixAfterDeletion_245 (mt_J19_colorOfN htr) rfl rfl ⟨⟨(Nat.le_of_ble_eq_true rfl), (Nat.le_of_ble_eq_true rfl)⟩, (Nat.le_of_ble_eq_true rfl), (Nat.le_of_ble_eq_true rfl), (Nat.le_of_ble_eq_true rfl)⟩ (fun v245 z245 q245 => ?_) (fun _ _ _ h => h.elim)
                        obtain ⟨rfl, rfl⟩ := q245
                        refine ri_iconst C dJ19_fixAfterDeletion_248 kc_i1 ?_
                        refine ri_icmp_ne C 265 dJ19_fixAfterDeletion_249 rfl (fun h249 => ?_) (fun h249 => ?_)
                        · exact absurd rfl h249
                        · refine ri_aload_n C dJ19_fixAfterDeletion_252 rfl ?_
                          refine ri_iconst C dJ19_fixAfterDeletion_253 kc_i0 ?_
                          refine ri_callS C km_J19_setColor q1128 dJ19_fixAfterDeletion_254 (mt_J19_setColorT htr h1007 (an := sbn) (by simp [tt_i_p, tt_p, tt_i]) (Or.inl rfl)) rfl rfl ⟨⟨(Nat.le_of_ble_eq_true rfl), (Nat.le_of_ble_eq_true rfl)⟩, (Nat.le_of_ble_eq_true rfl), (Nat.le_of_ble_eq_true rfl), (Nat.le_of_ble_eq_true rfl)⟩ (fun v254 z254 q254 => ?_) (fun _ _ _ h => h.elim)
                          obtain ⟨rfl, h1008, e1008⟩ := q254
                          rw [i1007] at e1008
                          have i1008 := i1007
                          have F1008 := kx_Fr.tr F1007 e1008
                          obtain ⟨⟨f1008_pn, ⟨f1008_sbn, -, -⟩, ⟨f1008_xa, f1008_xl, f1008_xr⟩⟩, fK1008⟩ := (tt_H_p Bx (.branch pn (.branch sbn tt_n tt_n) (.branch xa xl xr))).mp h1008.2.1
                          refine ri_aload_n C dJ19_fixAfterDeletion_257 rfl ?_
                          refine ri_callS C km_J19_parentOf q1116 dJ19_fixAfterDeletion_258 (mt_J19_parentOfR htr (y := (some pn)) f1008_xa) rfl rfl ⟨⟨(Nat.le_of_ble_eq_true rfl), (Nat.le_of_ble_eq_true rfl)⟩, (Nat.le_of_ble_eq_true rfl), (Nat.le_of_ble_eq_true rfl), (Nat.le_of_ble_eq_true rfl)⟩ (fun v258 z258 q258 => ?_) (fun _ _ _ h => h.elim)
                          obtain ⟨rfl, rfl⟩ := q258
                          refine ri_astore_n (x := pn) C dJ19_fixAfterDeletion_261 rfl (by decide) ?_
                          refine ri_goto C 342 dJ19_fixAfterDeletion_262 rfl ?_
                          refine ri_goto C 0 dJ19_fixAfterDeletion_342 rfl ?_
                          refine ri_lv2 (ih (i + 1) (Bx) pn (.branch sbn tt_n tt_n) (.branch xa xl xr) _ _ (by omega) (by omega) ⟨h1008, ⟨A ++ [(false, pn, (.branch sbn tt_n tt_n))], by rw [tt_p_a, ← hA] <;> rfl⟩, i1008, F1008, ?_⟩) ⟨rfl, rfl, trivial⟩
                          first
                            | exact Or.inl (by simp only [List.length_cons, List.length_nil] at hln ⊢; omega)
                            | exact Or.inr ⟨by simp only [List.length_cons, List.length_nil] at hln; omega, Or.inr rfl⟩
                            | exact Or.inr ⟨by simp only [List.length_cons, List.length_nil] at hln; omega, Or.inl (by simp [tm_c])⟩
                      · have h1009 : tm_H z242 ct mp (tt_p Bx (.branch pn (.branch sbn (.branch sbln sbll sblr) tt_n) (.branch xa xl xr))) K V D1 vals sz md := h1006
                        have i1009 : tt_i (tt_p Bx (.branch pn (.branch sbn (.branch sbln sbll sblr) tt_n) (.branch xa xl xr))) = L0 := i1006
                        have F1009 := F1006
                        have nd1009 := h1009.2.2.1
                        obtain ⟨⟨f1009_pn, ⟨f1009_sbn, ⟨f1009_sbln, f1009_sbll, f1009_sblr⟩, -⟩, ⟨f1009_xa, f1009_xl, f1009_xr⟩⟩, fK1009⟩ := (tt_H_p Bx (.branch pn (.branch sbn (.branch sbln sbll sblr) tt_n) (.branch xa xl xr))).mp h1009.2.1
                        refine ri_callS C km_J19_colorOf q1125 dJ19_fixAfterDeletion_245 (mt_J19_colorOfR htr f1009_sbln (h1009.2.2.2 sbln)) rfl rfl ⟨⟨(Nat.le_of_ble_eq_true rfl), (Nat.le_of_ble_eq_true rfl)⟩, (Nat.le_of_ble_eq_true rfl), (Nat.le_of_ble_eq_true rfl), (Nat.le_of_ble_eq_true rfl)⟩ (fun v245 z245 q245 => ?_) (fun _ _ _ h => h.elim)
                        obtain ⟨rfl, rfl⟩ := q245
                        refine ri_iconst C dJ19_fixAfterDeletion_248 kc_i1 ?_
                        refine ri_icmp_ne C 265 dJ19_fixAfterDeletion_249 rfl (fun h249 => ?_) (fun h249 => ?_)
                        · refine ri_aload_n C dJ19_fixAfterDeletion_265 rfl ?_
                          refine ri_callS C km_J19_leftOf q1119 dJ19_fixAfterDeletion_266 (mt_J19_leftOfR htr (y := (some sbln)) f1009_sbn) rfl rfl ⟨⟨(Nat.le_of_ble_eq_true rfl), (Nat.le_of_ble_eq_true rfl)⟩, (Nat.le_of_ble_eq_true rfl), (Nat.le_of_ble_eq_true rfl), (Nat.le_of_ble_eq_true rfl)⟩ (fun v266 z266 q266 => ?_) (fun _ _ _ h => h.elim)
                          obtain ⟨rfl, rfl⟩ := q266
                          refine ri_callS C km_J19_colorOf q1125 dJ19_fixAfterDeletion_269 (mt_J19_colorOfR htr f1009_sbln (h1009.2.2.2 sbln)) rfl rfl ⟨⟨(Nat.le_of_ble_eq_true rfl), (Nat.le_of_ble_eq_true rfl)⟩, (Nat.le_of_ble_eq_true rfl), (Nat.le_of_ble_eq_true rfl), (Nat.le_of_ble_eq_true rfl)⟩ (fun v269 z269 q269 => ?_) (fun _ _ _ h => h.elim)
                          obtain ⟨rfl, rfl⟩ := q269
                          refine ri_iconst C dJ19_fixAfterDeletion_272 kc_i1 ?_
                          refine ri_icmp_ne C 302 dJ19_fixAfterDeletion_273 rfl (fun h273 => ?_) (fun h273 => ?_)
                          · refine ri_aload_n C dJ19_fixAfterDeletion_302 rfl ?_
                            refine ri_aload_n C dJ19_fixAfterDeletion_303 rfl ?_
                            refine ri_callS C km_J19_parentOf q1116 dJ19_fixAfterDeletion_304 (mt_J19_parentOfR htr (y := (some pn)) f1009_xa) rfl rfl ⟨⟨(Nat.le_of_ble_eq_true rfl), (Nat.le_of_ble_eq_true rfl)⟩, (Nat.le_of_ble_eq_true rfl), (Nat.le_of_ble_eq_true rfl), (Nat.le_of_ble_eq_true rfl)⟩ (fun v304 z304 q304 => ?_) (fun _ _ _ h => h.elim)
                            obtain ⟨rfl, rfl⟩ := q304
                            refine ri_callS C km_J19_colorOf q1125 dJ19_fixAfterDeletion_307 (mt_J19_colorOfR htr f1009_pn (h1009.2.2.2 pn)) rfl rfl ⟨⟨(Nat.le_of_ble_eq_true rfl), (Nat.le_of_ble_eq_true rfl)⟩, (Nat.le_of_ble_eq_true rfl), (Nat.le_of_ble_eq_true rfl), (Nat.le_of_ble_eq_true rfl)⟩ (fun v307 z307 q307 => ?_) (fun _ _ _ h => h.elim)
                            obtain ⟨rfl, rfl⟩ := q307
                            refine ri_callS C km_J19_setColor q1128 dJ19_fixAfterDeletion_310 (mt_J19_setColorT htr h1009 (an := sbn) (by simp [tt_i_p, tt_p, tt_i]) (h1009.2.2.2 _)) rfl rfl ⟨⟨(Nat.le_of_ble_eq_true rfl), (Nat.le_of_ble_eq_true rfl)⟩, (Nat.le_of_ble_eq_true rfl), (Nat.le_of_ble_eq_true rfl), (Nat.le_of_ble_eq_true rfl)⟩ (fun v310 z310 q310 => ?_) (fun _ _ _ h => h.elim)
                            obtain ⟨rfl, h1010, e1010⟩ := q310
                            rw [i1009] at e1010
                            have i1010 := i1009
                            have F1010 := kx_Fr.tr F1009 e1010
                            obtain ⟨⟨f1010_pn, ⟨f1010_sbn, ⟨f1010_sbln, f1010_sbll, f1010_sblr⟩, -⟩, ⟨f1010_xa, f1010_xl, f1010_xr⟩⟩, fK1010⟩ := (tt_H_p Bx (.branch pn (.branch sbn (.branch sbln sbll sblr) tt_n) (.branch xa xl xr))).mp h1010.2.1
                            refine ri_aload_n C dJ19_fixAfterDeletion_313 rfl ?_
                            refine ri_callS C km_J19_parentOf q1116 dJ19_fixAfterDeletion_314 (mt_J19_parentOfR htr (y := (some pn)) f1010_xa) rfl rfl ⟨⟨(Nat.le_of_ble_eq_true rfl), (Nat.le_of_ble_eq_true rfl)⟩, (Nat.le_of_ble_eq_true rfl), (Nat.le_of_ble_eq_true rfl), (Nat.le_of_ble_eq_true rfl)⟩ (fun v314 z314 q314 => ?_) (fun _ _ _ h => h.elim)
                            obtain ⟨rfl, rfl⟩ := q314
                            refine ri_iconst C dJ19_fixAfterDeletion_317 kc_i1 ?_
                            refine ri_callS C km_J19_setColor q1128 dJ19_fixAfterDeletion_318 (mt_J19_setColorT htr h1010 (an := pn) (by simp [tt_i_p, tt_p, tt_i]) (Or.inr rfl)) rfl rfl ⟨⟨(Nat.le_of_ble_eq_true rfl), (Nat.le_of_ble_eq_true rfl)⟩, (Nat.le_of_ble_eq_true rfl), (Nat.le_of_ble_eq_true rfl), (Nat.le_of_ble_eq_true rfl)⟩ (fun v318 z318 q318 => ?_) (fun _ _ _ h => h.elim)
                            obtain ⟨rfl, h1011, e1011⟩ := q318
                            rw [i1010] at e1011
                            have i1011 := i1010
                            have F1011 := kx_Fr.tr F1010 e1011
                            obtain ⟨⟨f1011_pn, ⟨f1011_sbn, ⟨f1011_sbln, f1011_sbll, f1011_sblr⟩, -⟩, ⟨f1011_xa, f1011_xl, f1011_xr⟩⟩, fK1011⟩ := (tt_H_p Bx (.branch pn (.branch sbn (.branch sbln sbll sblr) tt_n) (.branch xa xl xr))).mp h1011.2.1
                            refine ri_aload_n C dJ19_fixAfterDeletion_321 rfl ?_
                            refine ri_callS C km_J19_leftOf q1119 dJ19_fixAfterDeletion_322 (mt_J19_leftOfR htr (y := (some sbln)) f1011_sbn) rfl rfl ⟨⟨(Nat.le_of_ble_eq_true rfl), (Nat.le_of_ble_eq_true rfl)⟩, (Nat.le_of_ble_eq_true rfl), (Nat.le_of_ble_eq_true rfl), (Nat.le_of_ble_eq_true rfl)⟩ (fun v322 z322 q322 => ?_) (fun _ _ _ h => h.elim)
                            obtain ⟨rfl, rfl⟩ := q322
                            refine ri_iconst C dJ19_fixAfterDeletion_325 kc_i1 ?_
                            refine ri_callS C km_J19_setColor q1128 dJ19_fixAfterDeletion_326 (mt_J19_setColorT htr h1011 (an := sbln) (by simp [tt_i_p, tt_p, tt_i]) (Or.inr rfl)) rfl rfl ⟨⟨(Nat.le_of_ble_eq_true rfl), (Nat.le_of_ble_eq_true rfl)⟩, (Nat.le_of_ble_eq_true rfl), (Nat.le_of_ble_eq_true rfl), (Nat.le_of_ble_eq_true rfl)⟩ (fun v326 z326 q326 => ?_) (fun _ _ _ h => h.elim)
                            obtain ⟨rfl, h1012, e1012⟩ := q326
                            rw [i1011] at e1012
                            have i1012 := i1011
                            have F1012 := kx_Fr.tr F1011 e1012
                            obtain ⟨⟨f1012_pn, ⟨f1012_sbn, ⟨f1012_sbln, f1012_sbll, f1012_sblr⟩, -⟩, ⟨f1012_xa, f1012_xl, f1012_xr⟩⟩, fK1012⟩ := (tt_H_p Bx (.branch pn (.branch sbn (.branch sbln sbll sblr) tt_n) (.branch xa xl xr))).mp h1012.2.1
                            refine ri_aload_n C dJ19_fixAfterDeletion_329 rfl ?_
                            refine ri_aload_n C dJ19_fixAfterDeletion_330 rfl ?_
                            refine ri_callS C km_J19_parentOf q1116 dJ19_fixAfterDeletion_331 (mt_J19_parentOfR htr (y := (some pn)) f1012_xa) rfl rfl ⟨⟨(Nat.le_of_ble_eq_true rfl), (Nat.le_of_ble_eq_true rfl)⟩, (Nat.le_of_ble_eq_true rfl), (Nat.le_of_ble_eq_true rfl), (Nat.le_of_ble_eq_true rfl)⟩ (fun v331 z331 q331 => ?_) (fun _ _ _ h => h.elim)
                            obtain ⟨rfl, rfl⟩ := q331
                            refine ri_callV C km_J19_rotateRight q1135 qs10 dJ19_fixAfterDeletion_334 (mt_J19_rotateRight htr (Bx := (Bx)) (pn := pn) (rn := sbn) (ta := (.branch xa xl xr)) (tb := tt_n) (td := (.branch sbln sbll sblr)) h1012) rfl rfl (kx_rcN C h1012.1 rfl) ⟨⟨(Nat.le_of_ble_eq_true rfl), (Nat.le_of_ble_eq_true rfl)⟩, (Nat.le_of_ble_eq_true rfl), (Nat.le_of_ble_eq_true rfl), (Nat.le_of_ble_eq_true rfl)⟩ (fun v334 z334 q334 => ?_) (fun _ _ _ h => h.elim)
                            obtain ⟨rfl, H1013, e1013⟩ := q334
                            have h1013 : tm_H z334 ct mp (tt_p Bx (.branch sbn (.branch sbln sbll sblr) (.branch pn tt_n (.branch xa xl xr)))) K V (tm_c (tm_c (tm_c D1 sbn (D1 pn)) pn (nI 1)) sbln (nI 1)) vals sz md := H1013
                            have e1013 : kx_Fr (tm_T ct (tt_i (tt_p Bx (.branch pn (.branch sbn (.branch sbln sbll sblr) tt_n) (.branch xa xl xr))))) z331 z334 := e1013
                            rw [i1012] at e1013
                            have i1013 : tt_i (tt_p Bx (.branch sbn (.branch sbln sbll sblr) (.branch pn tt_n (.branch xa xl xr)))) = L0 := (by rw [← i1012]; simp [tt_i_p, tt_p, tt_i])
                            have F1013 := kx_Fr.tr F1012 e1013
                            obtain ⟨⟨f1013_sbn, ⟨f1013_sbln, f1013_sbll, f1013_sblr⟩, ⟨f1013_pn, -, ⟨f1013_xa, f1013_xl, f1013_xr⟩⟩⟩, fK1013⟩ := (tt_H_p Bx (.branch sbn (.branch sbln sbll sblr) (.branch pn tt_n (.branch xa xl xr)))).mp h1013.2.1
                            refine ri_aload_n C dJ19_fixAfterDeletion_337 rfl ?_
                            refine ri_getf C dJ19_fixAfterDeletion_338 fr_q577_18 h1013.1 (by rfl) ?_
                            refine ri_astore_nQ (x := (tt_r (tt_p Bx (.branch sbn (.branch sbln sbll sblr) (.branch pn tt_n (.branch xa xl xr)))))) C dJ19_fixAfterDeletion_341 rfl (by decide) ?_
                            refine ri_goto C 0 dJ19_fixAfterDeletion_342 rfl ?_
                            obtain ⟨rn9, rl9, rr9, hr9⟩ : ∃ rn rl rr, (tt_p Bx (.branch sbn (.branch sbln sbll sblr) (.branch pn tt_n (.branch xa xl xr)))) = .branch rn rl rr := tt_rt Bx
                            have hh9 : tm_H z334 ct mp (tt_p [] (.branch rn9 rl9 rr9)) K V (tm_c (tm_c (tm_c D1 sbn (D1 pn)) pn (nI 1)) sbln (nI 1)) vals sz md := (by show tm_H _ _ _ (.branch rn9 rl9 rr9) _ _ _ _ _ _; rw [← hr9]; exact h1013)
                            have ii9 : tt_i (tt_p [] (.branch rn9 rl9 rr9)) = L0 := (by show tt_i (.branch rn9 rl9 rr9) = L0; rw [← hr9]; exact i1013)
                            rw [hr9]
                            refine ri_lv2 (ih (i + 1) [] rn9 rl9 rr9 _ _ (by omega) (by omega) ⟨hh9, ⟨A ++ ((false, pn, tt_n) :: (false, sbn, (.branch sbln sbll sblr)) :: Bx), by rw [tt_p_a, ← hA, ← hr9] <;> rfl⟩, ii9, F1013, ?_⟩) ⟨rfl, rfl, trivial⟩
                            first
                              | exact Or.inl (by simp only [List.length_cons, List.length_nil] at hln ⊢; omega)
                              | exact Or.inr ⟨by simp only [List.length_cons, List.length_nil] at hln; omega, Or.inr rfl⟩
                              | exact Or.inr ⟨by simp only [List.length_cons, List.length_nil] at hln; omega, Or.inl (by simp [tm_c])⟩
                          · exact absurd h273 h249
                        · refine ri_aload_n C dJ19_fixAfterDeletion_252 rfl ?_
                          refine ri_iconst C dJ19_fixAfterDeletion_253 kc_i0 ?_
                          refine ri_callS C km_J19_setColor q1128 dJ19_fixAfterDeletion_254 (mt_J19_setColorT htr h1009 (an := sbn) (by simp [tt_i_p, tt_p, tt_i]) (Or.inl rfl)) rfl rfl ⟨⟨(Nat.le_of_ble_eq_true rfl), (Nat.le_of_ble_eq_true rfl)⟩, (Nat.le_of_ble_eq_true rfl), (Nat.le_of_ble_eq_true rfl), (Nat.le_of_ble_eq_true rfl)⟩ (fun v254 z254 q254 => ?_) (fun _ _ _ h => h.elim)
                          obtain ⟨rfl, h1014, e1014⟩ := q254
                          rw [i1009] at e1014
                          have i1014 := i1009
                          have F1014 := kx_Fr.tr F1009 e1014
                          obtain ⟨⟨f1014_pn, ⟨f1014_sbn, ⟨f1014_sbln, f1014_sbll, f1014_sblr⟩, -⟩, ⟨f1014_xa, f1014_xl, f1014_xr⟩⟩, fK1014⟩ := (tt_H_p Bx (.branch pn (.branch sbn (.branch sbln sbll sblr) tt_n) (.branch xa xl xr))).mp h1014.2.1
                          refine ri_aload_n C dJ19_fixAfterDeletion_257 rfl ?_
                          refine ri_callS C km_J19_parentOf q1116 dJ19_fixAfterDeletion_258 (mt_J19_parentOfR htr (y := (some pn)) f1014_xa) rfl rfl ⟨⟨(Nat.le_of_ble_eq_true rfl), (Nat.le_of_ble_eq_true rfl)⟩, (Nat.le_of_ble_eq_true rfl), (Nat.le_of_ble_eq_true rfl), (Nat.le_of_ble_eq_true rfl)⟩ (fun v258 z258 q258 => ?_) (fun _ _ _ h => h.elim)
                          obtain ⟨rfl, rfl⟩ := q258
                          refine ri_astore_n (x := pn) C dJ19_fixAfterDeletion_261 rfl (by decide) ?_
                          refine ri_goto C 342 dJ19_fixAfterDeletion_262 rfl ?_
                          refine ri_goto C 0 dJ19_fixAfterDeletion_342 rfl ?_
                          refine ri_lv2 (ih (i + 1) (Bx) pn (.branch sbn (.branch sbln sbll sblr) tt_n) (.branch xa xl xr) _ _ (by omega) (by omega) ⟨h1014, ⟨A ++ [(false, pn, (.branch sbn (.branch sbln sbll sblr) tt_n))], by rw [tt_p_a, ← hA] <;> rfl⟩, i1014, F1014, ?_⟩) ⟨rfl, rfl, trivial⟩
                          first
                            | exact Or.inl (by simp only [List.length_cons, List.length_nil] at hln ⊢; omega)
                            | exact Or.inr ⟨by simp only [List.length_cons, List.length_nil] at hln; omega, Or.inr rfl⟩
                            | exact Or.inr ⟨by simp only [List.length_cons, List.length_nil] at hln; omega, Or.inl (by simp [tm_c])⟩
                  · have h1015 : tm_H z231 ct mp (tt_p Bx (.branch pn (.branch sbn sbl (.branch sbrn sbrl sbrr)) (.branch xa xl xr))) K V D1 vals sz md := h1005
                    have i1015 : tt_i (tt_p Bx (.branch pn (.branch sbn sbl (.branch sbrn sbrl sbrr)) (.branch xa xl xr))) = L0 := i1005
                    have F1015 := F1005
                    have nd1015 := h1015.2.2.1
                    obtain ⟨⟨f1015_pn, ⟨f1015_sbn, f1015_sbl, ⟨f1015_sbrn, f1015_sbrl, f1015_sbrr⟩⟩, ⟨f1015_xa, f1015_xl, f1015_xr⟩⟩, fK1015⟩ := (tt_H_p Bx (.branch pn (.branch sbn sbl (.branch sbrn sbrl sbrr)) (.branch xa xl xr))).mp h1015.2.1
                    refine ri_callS C km_J19_colorOf q1125 dJ19_fixAfterDeletion_234 (mt_J19_colorOfR htr f1015_sbrn (h1015.2.2.2 sbrn)) rfl rfl ⟨⟨(Nat.le_of_ble_eq_true rfl), (Nat.le_of_ble_eq_true rfl)⟩, (Nat.le_of_ble_eq_true rfl), (Nat.le_of_ble_eq_true rfl), (Nat.le_of_ble_eq_true rfl)⟩ (fun v234 z234 q234 => ?_) (fun _ _ _ h => h.elim)
                    obtain ⟨rfl, rfl⟩ := q234
                    refine ri_iconst C dJ19_fixAfterDeletion_237 kc_i1 ?_
                    refine ri_icmp_ne C 265 dJ19_fixAfterDeletion_238 rfl (fun h238 => ?_) (fun h238 => ?_)
                    · refine ri_aload_n C dJ19_fixAfterDeletion_265 rfl ?_
                      refine ri_callS C km_J19_leftOf q1119 dJ19_fixAfterDeletion_266 (mt_J19_leftOfR htr (y := (tt_r sbl)) f1015_sbn) rfl rfl ⟨⟨(Nat.le_of_ble_eq_true rfl), (Nat.le_of_ble_eq_true rfl)⟩, (Nat.le_of_ble_eq_true rfl), (Nat.le_of_ble_eq_true rfl), (Nat.le_of_ble_eq_true rfl)⟩ (fun v266 z266 q266 => ?_) (fun _ _ _ h => h.elim)
                      obtain ⟨rfl, rfl⟩ := q266
                      rcases sbl with ⟨_⟩ | ⟨sbln, sbll, sblr⟩
                      · have h1016 : tm_H z266 ct mp (tt_p Bx (.branch pn (.branch sbn tt_n (.branch sbrn sbrl sbrr)) (.branch xa xl xr))) K V D1 vals sz md := h1015
                        have i1016 : tt_i (tt_p Bx (.branch pn (.branch sbn tt_n (.branch sbrn sbrl sbrr)) (.branch xa xl xr))) = L0 := i1015
                        have F1016 := F1015
                        obtain ⟨⟨f1016_pn, ⟨f1016_sbn, -, ⟨f1016_sbrn, f1016_sbrl, f1016_sbrr⟩⟩, ⟨f1016_xa, f1016_xl, f1016_xr⟩⟩, fK1016⟩ := (tt_H_p Bx (.branch pn (.branch sbn tt_n (.branch sbrn sbrl sbrr)) (.branch xa xl xr))).mp h1016.2.1
                        refine ri_callS C km_J19_colorOf q1125 dJ19_fixAfterDeletion_269 (mt_J19_colorOfN htr) rfl rfl ⟨⟨(Nat.le_of_ble_eq_true rfl), (Nat.le_of_ble_eq_true rfl)⟩, (Nat.le_of_ble_eq_true rfl), (Nat.le_of_ble_eq_true rfl), (Nat.le_of_ble_eq_true rfl)⟩ (fun v269 z269 q269 => ?_) (fun _ _ _ h => h.elim)
                        obtain ⟨rfl, rfl⟩ := q269
                        refine ri_iconst C dJ19_fixAfterDeletion_272 kc_i1 ?_
                        refine ri_icmp_ne C 302 dJ19_fixAfterDeletion_273 rfl (fun h273 => ?_) (fun h273 => ?_)
                        · exact absurd rfl h273
                        · refine ri_aload_n C dJ19_fixAfterDeletion_276 rfl ?_
                          refine ri_callS C km_J19_rightOf q1122 dJ19_fixAfterDeletion_277 (mt_J19_rightOfR htr (y := (some sbrn)) f1016_sbn) rfl rfl ⟨⟨(Nat.le_of_ble_eq_true rfl), (Nat.le_of_ble_eq_true rfl)⟩, (Nat.le_of_ble_eq_true rfl), (Nat.le_of_ble_eq_true rfl), (Nat.le_of_ble_eq_true rfl)⟩ (fun v277 z277 q277 => ?_) (fun _ _ _ h => h.elim)
                          obtain ⟨rfl, rfl⟩ := q277
                          refine ri_iconst C dJ19_fixAfterDeletion_280 kc_i1 ?_
                          refine ri_callS C km_J19_setColor q1128 dJ19_fixAfterDeletion_281 (mt_J19_setColorT htr h1016 (an := sbrn) (by simp [tt_i_p, tt_p, tt_i]) (Or.inr rfl)) rfl rfl ⟨⟨(Nat.le_of_ble_eq_true rfl), (Nat.le_of_ble_eq_true rfl)⟩, (Nat.le_of_ble_eq_true rfl), (Nat.le_of_ble_eq_true rfl), (Nat.le_of_ble_eq_true rfl)⟩ (fun v281 z281 q281 => ?_) (fun _ _ _ h => h.elim)
                          obtain ⟨rfl, h1017, e1017⟩ := q281
                          rw [i1016] at e1017
                          have i1017 := i1016
                          have F1017 := kx_Fr.tr F1016 e1017
                          obtain ⟨⟨f1017_pn, ⟨f1017_sbn, -, ⟨f1017_sbrn, f1017_sbrl, f1017_sbrr⟩⟩, ⟨f1017_xa, f1017_xl, f1017_xr⟩⟩, fK1017⟩ := (tt_H_p Bx (.branch pn (.branch sbn tt_n (.branch sbrn sbrl sbrr)) (.branch xa xl xr))).mp h1017.2.1
                          refine ri_aload_n C dJ19_fixAfterDeletion_284 rfl ?_
                          refine ri_iconst C dJ19_fixAfterDeletion_285 kc_i0 ?_
                          refine ri_callS C km_J19_setColor q1128 dJ19_fixAfterDeletion_286 (mt_J19_setColorT htr h1017 (an := sbn) (by simp [tt_i_p, tt_p, tt_i]) (Or.inl rfl)) rfl rfl ⟨⟨(Nat.le_of_ble_eq_true rfl), (Nat.le_of_ble_eq_true rfl)⟩, (Nat.le_of_ble_eq_true rfl), (Nat.le_of_ble_eq_true rfl), (Nat.le_of_ble_eq_true rfl)⟩ (fun v286 z286 q286 => ?_) (fun _ _ _ h => h.elim)
                          obtain ⟨rfl, h1018, e1018⟩ := q286
                          rw [i1017] at e1018
                          have i1018 := i1017
                          have F1018 := kx_Fr.tr F1017 e1018
                          obtain ⟨⟨f1018_pn, ⟨f1018_sbn, -, ⟨f1018_sbrn, f1018_sbrl, f1018_sbrr⟩⟩, ⟨f1018_xa, f1018_xl, f1018_xr⟩⟩, fK1018⟩ := (tt_H_p Bx (.branch pn (.branch sbn tt_n (.branch sbrn sbrl sbrr)) (.branch xa xl xr))).mp h1018.2.1
                          refine ri_aload_n C dJ19_fixAfterDeletion_289 rfl ?_
                          refine ri_aload_n C dJ19_fixAfterDeletion_290 rfl ?_
                          refine ri_callV C km_J19_rotateLeft q1131 qs9 dJ19_fixAfterDeletion_291 (mt_J19_rotateLeft htr (Bx := ((true, pn, (.branch xa xl xr)) :: Bx)) (pn := sbn) (rn := sbrn) (ta := tt_n) (tb := sbrl) (td := sbrr) h1018) rfl rfl (kx_rcN C h1018.1 rfl) ⟨⟨(Nat.le_of_ble_eq_true rfl), (Nat.le_of_ble_eq_true rfl)⟩, (Nat.le_of_ble_eq_true rfl), (Nat.le_of_ble_eq_true rfl), (Nat.le_of_ble_eq_true rfl)⟩ (fun v291 z291 q291 => ?_) (fun _ _ _ h => h.elim)
                          obtain ⟨rfl, H1019, e1019⟩ := q291
                          have h1019 : tm_H z291 ct mp (tt_p Bx (.branch pn (.branch sbrn (.branch sbn tt_n sbrl) sbrr) (.branch xa xl xr))) K V (tm_c (tm_c D1 sbrn (nI 1)) sbn (nI 0)) vals sz md := H1019
                          have e1019 : kx_Fr (tm_T ct (tt_i (tt_p Bx (.branch pn (.branch sbn tt_n (.branch sbrn sbrl sbrr)) (.branch xa xl xr))))) z286 z291 := e1019
                          rw [i1018] at e1019
                          have i1019 : tt_i (tt_p Bx (.branch pn (.branch sbrn (.branch sbn tt_n sbrl) sbrr) (.branch xa xl xr))) = L0 := (by rw [← i1018]; simp [tt_i_p, tt_p, tt_i])
                          have F1019 := kx_Fr.tr F1018 e1019
                          obtain ⟨⟨f1019_pn, ⟨f1019_sbrn, ⟨f1019_sbn, -, f1019_sbrl⟩, f1019_sbrr⟩, ⟨f1019_xa, f1019_xl, f1019_xr⟩⟩, fK1019⟩ := (tt_H_p Bx (.branch pn (.branch sbrn (.branch sbn tt_n sbrl) sbrr) (.branch xa xl xr))).mp h1019.2.1
                          refine ri_aload_n C dJ19_fixAfterDeletion_294 rfl ?_
                          refine ri_callS C km_J19_parentOf q1116 dJ19_fixAfterDeletion_295 (mt_J19_parentOfR htr (y := (some pn)) f1019_xa) rfl rfl ⟨⟨(Nat.le_of_ble_eq_true rfl), (Nat.le_of_ble_eq_true rfl)⟩, (Nat.le_of_ble_eq_true rfl), (Nat.le_of_ble_eq_true rfl), (Nat.le_of_ble_eq_true rfl)⟩ (fun v295 z295 q295 => ?_) (fun _ _ _ h => h.elim)
                          obtain ⟨rfl, rfl⟩ := q295
                          refine ri_callS C km_J19_leftOf q1119 dJ19_fixAfterDeletion_298 (mt_J19_leftOfR htr (y := (some sbrn)) f1019_pn) rfl rfl ⟨⟨(Nat.le_of_ble_eq_true rfl), (Nat.le_of_ble_eq_true rfl)⟩, (Nat.le_of_ble_eq_true rfl), (Nat.le_of_ble_eq_true rfl), (Nat.le_of_ble_eq_true rfl)⟩ (fun v298 z298 q298 => ?_) (fun _ _ _ h => h.elim)
                          obtain ⟨rfl, rfl⟩ := q298
                          refine ri_astore_n (x := sbrn) C dJ19_fixAfterDeletion_301 rfl (by decide) ?_
                          refine ri_aload_n C dJ19_fixAfterDeletion_302 rfl ?_
                          refine ri_aload_n C dJ19_fixAfterDeletion_303 rfl ?_
                          refine ri_callS C km_J19_parentOf q1116 dJ19_fixAfterDeletion_304 (mt_J19_parentOfR htr (y := (some pn)) f1019_xa) rfl rfl ⟨⟨(Nat.le_of_ble_eq_true rfl), (Nat.le_of_ble_eq_true rfl)⟩, (Nat.le_of_ble_eq_true rfl), (Nat.le_of_ble_eq_true rfl), (Nat.le_of_ble_eq_true rfl)⟩ (fun v304 z304 q304 => ?_) (fun _ _ _ h => h.elim)
                          obtain ⟨rfl, rfl⟩ := q304
                          refine ri_callS C km_J19_colorOf q1125 dJ19_fixAfterDeletion_307 (mt_J19_colorOfR htr f1019_pn (h1019.2.2.2 pn)) rfl rfl ⟨⟨(Nat.le_of_ble_eq_true rfl), (Nat.le_of_ble_eq_true rfl)⟩, (Nat.le_of_ble_eq_true rfl), (Nat.le_of_ble_eq_true rfl), (Nat.le_of_ble_eq_true rfl)⟩ (fun v307 z307 q307 => ?_) (fun _ _ _ h => h.elim)
                          obtain ⟨rfl, rfl⟩ := q307
                          refine ri_callS C km_J19_setColor q1128 dJ19_fixAfterDeletion_310 (mt_J19_setColorT htr h1019 (an := sbrn) (by simp [tt_i_p, tt_p, tt_i]) (h1019.2.2.2 _)) rfl rfl ⟨⟨(Nat.le_of_ble_eq_true rfl), (Nat.le_of_ble_eq_true rfl)⟩, (Nat.le_of_ble_eq_true rfl), (Nat.le_of_ble_eq_true rfl), (Nat.le_of_ble_eq_true rfl)⟩ (fun v310 z310 q310 => ?_) (fun _ _ _ h => h.elim)
                          obtain ⟨rfl, h1020, e1020⟩ := q310
                          rw [i1019] at e1020
                          have i1020 := i1019
                          have F1020 := kx_Fr.tr F1019 e1020
                          obtain ⟨⟨f1020_pn, ⟨f1020_sbrn, ⟨f1020_sbn, -, f1020_sbrl⟩, f1020_sbrr⟩, ⟨f1020_xa, f1020_xl, f1020_xr⟩⟩, fK1020⟩ := (tt_H_p Bx (.branch pn (.branch sbrn (.branch sbn tt_n sbrl) sbrr) (.branch xa xl xr))).mp h1020.2.1
                          refine ri_aload_n C dJ19_fixAfterDeletion_313 rfl ?_
                          refine ri_callS C km_J19_parentOf q1116 dJ19_fixAfterDeletion_314 (mt_J19_parentOfR htr (y := (some pn)) f1020_xa) rfl rfl ⟨⟨(Nat.le_of_ble_eq_true rfl), (Nat.le_of_ble_eq_true rfl)⟩, (Nat.le_of_ble_eq_true rfl), (Nat.le_of_ble_eq_true rfl), (Nat.le_of_ble_eq_true rfl)⟩ (fun v314 z314 q314 => ?_) (fun _ _ _ h => h.elim)
                          obtain ⟨rfl, rfl⟩ := q314
                          refine ri_iconst C dJ19_fixAfterDeletion_317 kc_i1 ?_
                          refine ri_callS C km_J19_setColor q1128 dJ19_fixAfterDeletion_318 (mt_J19_setColorT htr h1020 (an := pn) (by simp [tt_i_p, tt_p, tt_i]) (Or.inr rfl)) rfl rfl ⟨⟨(Nat.le_of_ble_eq_true rfl), (Nat.le_of_ble_eq_true rfl)⟩, (Nat.le_of_ble_eq_true rfl), (Nat.le_of_ble_eq_true rfl), (Nat.le_of_ble_eq_true rfl)⟩ (fun v318 z318 q318 => ?_) (fun _ _ _ h => h.elim)
                          obtain ⟨rfl, h1021, e1021⟩ := q318
                          rw [i1020] at e1021
                          have i1021 := i1020
                          have F1021 := kx_Fr.tr F1020 e1021
                          obtain ⟨⟨f1021_pn, ⟨f1021_sbrn, ⟨f1021_sbn, -, f1021_sbrl⟩, f1021_sbrr⟩, ⟨f1021_xa, f1021_xl, f1021_xr⟩⟩, fK1021⟩ := (tt_H_p Bx (.branch pn (.branch sbrn (.branch sbn tt_n sbrl) sbrr) (.branch xa xl xr))).mp h1021.2.1
                          refine ri_aload_n C dJ19_fixAfterDeletion_321 rfl ?_
                          refine ri_callS C km_J19_leftOf q1119 dJ19_fixAfterDeletion_322 (mt_J19_leftOfR htr (y := (some sbn)) f1021_sbrn) rfl rfl ⟨⟨(Nat.le_of_ble_eq_true rfl), (Nat.le_of_ble_eq_true rfl)⟩, (Nat.le_of_ble_eq_true rfl), (Nat.le_of_ble_eq_true rfl), (Nat.le_of_ble_eq_true rfl)⟩ (fun v322 z322 q322 => ?_) (fun _ _ _ h => h.elim)
                          obtain ⟨rfl, rfl⟩ := q322
                          refine ri_iconst C dJ19_fixAfterDeletion_325 kc_i1 ?_
                          refine ri_callS C km_J19_setColor q1128 dJ19_fixAfterDeletion_326 (mt_J19_setColorT htr h1021 (an := sbn) (by simp [tt_i_p, tt_p, tt_i]) (Or.inr rfl)) rfl rfl ⟨⟨(Nat.le_of_ble_eq_true rfl), (Nat.le_of_ble_eq_true rfl)⟩, (Nat.le_of_ble_eq_true rfl), (Nat.le_of_ble_eq_true rfl), (Nat.le_of_ble_eq_true rfl)⟩ (fun v326 z326 q326 => ?_) (fun _ _ _ h => h.elim)
                          obtain ⟨rfl, h1022, e1022⟩ := q326
                          rw [i1021] at e1022
                          have i1022 := i1021
                          have F1022 := kx_Fr.tr F1021 e1022
                          obtain ⟨⟨f1022_pn, ⟨f1022_sbrn, ⟨f1022_sbn, -, f1022_sbrl⟩, f1022_sbrr⟩, ⟨f1022_xa, f1022_xl, f1022_xr⟩⟩, fK1022⟩ := (tt_H_p Bx (.branch pn (.branch sbrn (.branch sbn tt_n sbrl) sbrr) (.branch xa xl xr))).mp h1022.2.1
                          refine ri_aload_n C dJ19_fixAfterDeletion_329 rfl ?_
                          refine ri_aload_n C dJ19_fixAfterDeletion_330 rfl ?_
                          refine ri_callS C km_J19_parentOf q1116 dJ19_fixAfterDeletion_331 (mt_J19_parentOfR htr (y := (some pn)) f1022_xa) rfl rfl ⟨⟨(Nat.le_of_ble_eq_true rfl), (Nat.le_of_ble_eq_true rfl)⟩, (Nat.le_of_ble_eq_true rfl), (Nat.le_of_ble_eq_true rfl), (Nat.le_of_ble_eq_true rfl)⟩ (fun v331 z331 q331 => ?_) (fun _ _ _ h => h.elim)
                          obtain ⟨rfl, rfl⟩ := q331
                          refine ri_callV C km_J19_rotateRight q1135 qs10 dJ19_fixAfterDeletion_334 (mt_J19_rotateRight htr (Bx := (Bx)) (pn := pn) (rn := sbrn) (ta := (.branch xa xl xr)) (tb := sbrr) (td := (.branch sbn tt_n sbrl)) h1022) rfl rfl (kx_rcN C h1022.1 rfl) ⟨⟨(Nat.le_of_ble_eq_true rfl), (Nat.le_of_ble_eq_true rfl)⟩, (Nat.le_of_ble_eq_true rfl), (Nat.le_of_ble_eq_true rfl), (Nat.le_of_ble_eq_true rfl)⟩ (fun v334 z334 q334 => ?_) (fun _ _ _ h => h.elim)
                          obtain ⟨rfl, H1023, e1023⟩ := q334
                          have h1023 : tm_H z334 ct mp (tt_p Bx (.branch sbrn (.branch sbn tt_n sbrl) (.branch pn sbrr (.branch xa xl xr)))) K V (tm_c (tm_c (tm_c (tm_c (tm_c D1 sbrn (nI 1)) sbn (nI 0)) sbrn ((tm_c (tm_c D1 sbrn (nI 1)) sbn (nI 0)) pn)) pn (nI 1)) sbn (nI 1)) vals sz md := H1023
                          have e1023 : kx_Fr (tm_T ct (tt_i (tt_p Bx (.branch pn (.branch sbrn (.branch sbn tt_n sbrl) sbrr) (.branch xa xl xr))))) z331 z334 := e1023
                          rw [i1022] at e1023
                          have i1023 : tt_i (tt_p Bx (.branch sbrn (.branch sbn tt_n sbrl) (.branch pn sbrr (.branch xa xl xr)))) = L0 := (by rw [← i1022]; simp [tt_i_p, tt_p, tt_i])
                          have F1023 := kx_Fr.tr F1022 e1023
                          obtain ⟨⟨f1023_sbrn, ⟨f1023_sbn, -, f1023_sbrl⟩, ⟨f1023_pn, f1023_sbrr, ⟨f1023_xa, f1023_xl, f1023_xr⟩⟩⟩, fK1023⟩ := (tt_H_p Bx (.branch sbrn (.branch sbn tt_n sbrl) (.branch pn sbrr (.branch xa xl xr)))).mp h1023.2.1
                          refine ri_aload_n C dJ19_fixAfterDeletion_337 rfl ?_
                          refine ri_getf C dJ19_fixAfterDeletion_338 fr_q577_18 h1023.1 (by rfl) ?_
                          refine ri_astore_nQ (x := (tt_r (tt_p Bx (.branch sbrn (.branch sbn tt_n sbrl) (.branch pn sbrr (.branch xa xl xr)))))) C dJ19_fixAfterDeletion_341 rfl (by decide) ?_
                          refine ri_goto C 0 dJ19_fixAfterDeletion_342 rfl ?_
                          obtain ⟨rn9, rl9, rr9, hr9⟩ : ∃ rn rl rr, (tt_p Bx (.branch sbrn (.branch sbn tt_n sbrl) (.branch pn sbrr (.branch xa xl xr)))) = .branch rn rl rr := tt_rt Bx
                          have hh9 : tm_H z334 ct mp (tt_p [] (.branch rn9 rl9 rr9)) K V (tm_c (tm_c (tm_c (tm_c (tm_c D1 sbrn (nI 1)) sbn (nI 0)) sbrn ((tm_c (tm_c D1 sbrn (nI 1)) sbn (nI 0)) pn)) pn (nI 1)) sbn (nI 1)) vals sz md := (by show tm_H _ _ _ (.branch rn9 rl9 rr9) _ _ _ _ _ _; rw [← hr9]; exact h1023)
                          have ii9 : tt_i (tt_p [] (.branch rn9 rl9 rr9)) = L0 := (by show tt_i (.branch rn9 rl9 rr9) = L0; rw [← hr9]; exact i1023)
                          rw [hr9]
                          refine ri_lv2 (ih (i + 1) [] rn9 rl9 rr9 _ _ (by omega) (by omega) ⟨hh9, ⟨A ++ ((false, pn, sbrr) :: (false, sbrn, (.branch sbn tt_n sbrl)) :: Bx), by rw [tt_p_a, ← hA, ← hr9] <;> rfl⟩, ii9, F1023, ?_⟩) ⟨rfl, rfl, trivial⟩
                          first
                            | exact Or.inl (by simp only [List.length_cons, List.length_nil] at hln ⊢; omega)
                            | exact Or.inr ⟨by simp only [List.length_cons, List.length_nil] at hln; omega, Or.inr rfl⟩
                            | exact Or.inr ⟨by simp only [List.length_cons, List.length_nil] at hln; omega, Or.inl (by simp [tm_c])⟩
                      · have h1024 : tm_H z266 ct mp (tt_p Bx (.branch pn (.branch sbn (.branch sbln sbll sblr) (.branch sbrn sbrl sbrr)) (.branch xa xl xr))) K V D1 vals sz md := h1015
                        have i1024 : tt_i (tt_p Bx (.branch pn (.branch sbn (.branch sbln sbll sblr) (.branch sbrn sbrl sbrr)) (.branch xa xl xr))) = L0 := i1015
                        have F1024 := F1015
                        have nd1024 := h1024.2.2.1
                        obtain ⟨⟨f1024_pn, ⟨f1024_sbn, ⟨f1024_sbln, f1024_sbll, f1024_sblr⟩, ⟨f1024_sbrn, f1024_sbrl, f1024_sbrr⟩⟩, ⟨f1024_xa, f1024_xl, f1024_xr⟩⟩, fK1024⟩ := (tt_H_p Bx (.branch pn (.branch sbn (.branch sbln sbll sblr) (.branch sbrn sbrl sbrr)) (.branch xa xl xr))).mp h1024.2.1
                        refine ri_callS C km_J19_colorOf q1125 dJ19_fixAfterDeletion_269 (mt_J19_colorOfR htr f1024_sbln (h1024.2.2.2 sbln)) rfl rfl ⟨⟨(Nat.le_of_ble_eq_true rfl), (Nat.le_of_ble_eq_true rfl)⟩, (Nat.le_of_ble_eq_true rfl), (Nat.le_of_ble_eq_true rfl), (Nat.le_of_ble_eq_true rfl)⟩ (fun v269 z269 q269 => ?_) (fun _ _ _ h => h.elim)
                        obtain ⟨rfl, rfl⟩ := q269
                        refine ri_iconst C dJ19_fixAfterDeletion_272 kc_i1 ?_
                        refine ri_icmp_ne C 302 dJ19_fixAfterDeletion_273 rfl (fun h273 => ?_) (fun h273 => ?_)
                        · refine ri_aload_n C dJ19_fixAfterDeletion_302 rfl ?_
                          refine ri_aload_n C dJ19_fixAfterDeletion_303 rfl ?_
                          refine ri_callS C km_J19_parentOf q1116 dJ19_fixAfterDeletion_304 (mt_J19_parentOfR htr (y := (some pn)) f1024_xa) rfl rfl ⟨⟨(Nat.le_of_ble_eq_true rfl), (Nat.le_of_ble_eq_true rfl)⟩, (Nat.le_of_ble_eq_true rfl), (Nat.le_of_ble_eq_true rfl), (Nat.le_of_ble_eq_true rfl)⟩ (fun v304 z304 q304 => ?_) (fun _ _ _ h => h.elim)
                          obtain ⟨rfl, rfl⟩ := q304
                          refine ri_callS C km_J19_colorOf q1125 dJ19_fixAfterDeletion_307 (mt_J19_colorOfR htr f1024_pn (h1024.2.2.2 pn)) rfl rfl ⟨⟨(Nat.le_of_ble_eq_true rfl), (Nat.le_of_ble_eq_true rfl)⟩, (Nat.le_of_ble_eq_true rfl), (Nat.le_of_ble_eq_true rfl), (Nat.le_of_ble_eq_true rfl)⟩ (fun v307 z307 q307 => ?_) (fun _ _ _ h => h.elim)
                          obtain ⟨rfl, rfl⟩ := q307
                          refine ri_callS C km_J19_setColor q1128 dJ19_fixAfterDeletion_310 (mt_J19_setColorT htr h1024 (an := sbn) (by simp [tt_i_p, tt_p, tt_i]) (h1024.2.2.2 _)) rfl rfl ⟨⟨(Nat.le_of_ble_eq_true rfl), (Nat.le_of_ble_eq_true rfl)⟩, (Nat.le_of_ble_eq_true rfl), (Nat.le_of_ble_eq_true rfl), (Nat.le_of_ble_eq_true rfl)⟩ (fun v310 z310 q310 => ?_) (fun _ _ _ h => h.elim)
                          obtain ⟨rfl, h1025, e1025⟩ := q310
                          rw [i1024] at e1025
                          have i1025 := i1024
                          have F1025 := kx_Fr.tr F1024 e1025
                          obtain ⟨⟨f1025_pn, ⟨f1025_sbn, ⟨f1025_sbln, f1025_sbll, f1025_sblr⟩, ⟨f1025_sbrn, f1025_sbrl, f1025_sbrr⟩⟩, ⟨f1025_xa, f1025_xl, f1025_xr⟩⟩, fK1025⟩ := (tt_H_p Bx (.branch pn (.branch sbn (.branch sbln sbll sblr) (.branch sbrn sbrl sbrr)) (.branch xa xl xr))).mp h1025.2.1
                          refine ri_aload_n C dJ19_fixAfterDeletion_313 rfl ?_
                          refine ri_callS C km_J19_parentOf q1116 dJ19_fixAfterDeletion_314 (mt_J19_parentOfR htr (y := (some pn)) f1025_xa) rfl rfl ⟨⟨(Nat.le_of_ble_eq_true rfl), (Nat.le_of_ble_eq_true rfl)⟩, (Nat.le_of_ble_eq_true rfl), (Nat.le_of_ble_eq_true rfl), (Nat.le_of_ble_eq_true rfl)⟩ (fun v314 z314 q314 => ?_) (fun _ _ _ h => h.elim)
                          obtain ⟨rfl, rfl⟩ := q314
                          refine ri_iconst C dJ19_fixAfterDeletion_317 kc_i1 ?_
                          refine ri_callS C km_J19_setColor q1128 dJ19_fixAfterDeletion_318 (mt_J19_setColorT htr h1025 (an := pn) (by simp [tt_i_p, tt_p, tt_i]) (Or.inr rfl)) rfl rfl ⟨⟨(Nat.le_of_ble_eq_true rfl), (Nat.le_of_ble_eq_true rfl)⟩, (Nat.le_of_ble_eq_true rfl), (Nat.le_of_ble_eq_true rfl), (Nat.le_of_ble_eq_true rfl)⟩ (fun v318 z318 q318 => ?_) (fun _ _ _ h => h.elim)
                          obtain ⟨rfl, h1026, e1026⟩ := q318
                          rw [i1025] at e1026
                          have i1026 := i1025
                          have F1026 := kx_Fr.tr F1025 e1026
                          obtain ⟨⟨f1026_pn, ⟨f1026_sbn, ⟨f1026_sbln, f1026_sbll, f1026_sblr⟩, ⟨f1026_sbrn, f1026_sbrl, f1026_sbrr⟩⟩, ⟨f1026_xa, f1026_xl, f1026_xr⟩⟩, fK1026⟩ := (tt_H_p Bx (.branch pn (.branch sbn (.branch sbln sbll sblr) (.branch sbrn sbrl sbrr)) (.branch xa xl xr))).mp h1026.2.1
                          refine ri_aload_n C dJ19_fixAfterDeletion_321 rfl ?_
                          refine ri_callS C km_J19_leftOf q1119 dJ19_fixAfterDeletion_322 (mt_J19_leftOfR htr (y := (some sbln)) f1026_sbn) rfl rfl ⟨⟨(Nat.le_of_ble_eq_true rfl), (Nat.le_of_ble_eq_true rfl)⟩, (Nat.le_of_ble_eq_true rfl), (Nat.le_of_ble_eq_true rfl), (Nat.le_of_ble_eq_true rfl)⟩ (fun v322 z322 q322 => ?_) (fun _ _ _ h => h.elim)
                          obtain ⟨rfl, rfl⟩ := q322
                          refine ri_iconst C dJ19_fixAfterDeletion_325 kc_i1 ?_
                          refine ri_callS C km_J19_setColor q1128 dJ19_fixAfterDeletion_326 (mt_J19_setColorT htr h1026 (an := sbln) (by simp [tt_i_p, tt_p, tt_i]) (Or.inr rfl)) rfl rfl ⟨⟨(Nat.le_of_ble_eq_true rfl), (Nat.le_of_ble_eq_true rfl)⟩, (Nat.le_of_ble_eq_true rfl), (Nat.le_of_ble_eq_true rfl), (Nat.le_of_ble_eq_true rfl)⟩ (fun v326 z326 q326 => ?_) (fun _ _ _ h => h.elim)
                          obtain ⟨rfl, h1027, e1027⟩ := q326
                          rw [i1026] at e1027
                          have i1027 := i1026
                          have F1027 := kx_Fr.tr F1026 e1027
                          obtain ⟨⟨f1027_pn, ⟨f1027_sbn, ⟨f1027_sbln, f1027_sbll, f1027_sblr⟩, ⟨f1027_sbrn, f1027_sbrl, f1027_sbrr⟩⟩, ⟨f1027_xa, f1027_xl, f1027_xr⟩⟩, fK1027⟩ := (tt_H_p Bx (.branch pn (.branch sbn (.branch sbln sbll sblr) (.branch sbrn sbrl sbrr)) (.branch xa xl xr))).mp h1027.2.1
                          refine ri_aload_n C dJ19_fixAfterDeletion_329 rfl ?_
                          refine ri_aload_n C dJ19_fixAfterDeletion_330 rfl ?_
                          refine ri_callS C km_J19_parentOf q1116 dJ19_fixAfterDeletion_331 (mt_J19_parentOfR htr (y := (some pn)) f1027_xa) rfl rfl ⟨⟨(Nat.le_of_ble_eq_true rfl), (Nat.le_of_ble_eq_true rfl)⟩, (Nat.le_of_ble_eq_true rfl), (Nat.le_of_ble_eq_true rfl), (Nat.le_of_ble_eq_true rfl)⟩ (fun v331 z331 q331 => ?_) (fun _ _ _ h => h.elim)
                          obtain ⟨rfl, rfl⟩ := q331
                          refine ri_callV C km_J19_rotateRight q1135 qs10 dJ19_fixAfterDeletion_334 (mt_J19_rotateRight htr (Bx := (Bx)) (pn := pn) (rn := sbn) (ta := (.branch xa xl xr)) (tb := (.branch sbrn sbrl sbrr)) (td := (.branch sbln sbll sblr)) h1027) rfl rfl (kx_rcN C h1027.1 rfl) ⟨⟨(Nat.le_of_ble_eq_true rfl), (Nat.le_of_ble_eq_true rfl)⟩, (Nat.le_of_ble_eq_true rfl), (Nat.le_of_ble_eq_true rfl), (Nat.le_of_ble_eq_true rfl)⟩ (fun v334 z334 q334 => ?_) (fun _ _ _ h => h.elim)
                          obtain ⟨rfl, H1028, e1028⟩ := q334
                          have h1028 : tm_H z334 ct mp (tt_p Bx (.branch sbn (.branch sbln sbll sblr) (.branch pn (.branch sbrn sbrl sbrr) (.branch xa xl xr)))) K V (tm_c (tm_c (tm_c D1 sbn (D1 pn)) pn (nI 1)) sbln (nI 1)) vals sz md := H1028
                          have e1028 : kx_Fr (tm_T ct (tt_i (tt_p Bx (.branch pn (.branch sbn (.branch sbln sbll sblr) (.branch sbrn sbrl sbrr)) (.branch xa xl xr))))) z331 z334 := e1028
                          rw [i1027] at e1028
                          have i1028 : tt_i (tt_p Bx (.branch sbn (.branch sbln sbll sblr) (.branch pn (.branch sbrn sbrl sbrr) (.branch xa xl xr)))) = L0 := (by rw [← i1027]; simp [tt_i_p, tt_p, tt_i])
                          have F1028 := kx_Fr.tr F1027 e1028
                          obtain ⟨⟨f1028_sbn, ⟨f1028_sbln, f1028_sbll, f1028_sblr⟩, ⟨f1028_pn, ⟨f1028_sbrn, f1028_sbrl, f1028_sbrr⟩, ⟨f1028_xa, f1028_xl, f1028_xr⟩⟩⟩, fK1028⟩ := (tt_H_p Bx (.branch sbn (.branch sbln sbll sblr) (.branch pn (.branch sbrn sbrl sbrr) (.branch xa xl xr)))).mp h1028.2.1
                          refine ri_aload_n C dJ19_fixAfterDeletion_337 rfl ?_
                          refine ri_getf C dJ19_fixAfterDeletion_338 fr_q577_18 h1028.1 (by rfl) ?_
                          refine ri_astore_nQ (x := (tt_r (tt_p Bx (.branch sbn (.branch sbln sbll sblr) (.branch pn (.branch sbrn sbrl sbrr) (.branch xa xl xr)))))) C dJ19_fixAfterDeletion_341 rfl (by decide) ?_
                          refine ri_goto C 0 dJ19_fixAfterDeletion_342 rfl ?_
                          obtain ⟨rn9, rl9, rr9, hr9⟩ : ∃ rn rl rr, (tt_p Bx (.branch sbn (.branch sbln sbll sblr) (.branch pn (.branch sbrn sbrl sbrr) (.branch xa xl xr)))) = .branch rn rl rr := tt_rt Bx
                          have hh9 : tm_H z334 ct mp (tt_p [] (.branch rn9 rl9 rr9)) K V (tm_c (tm_c (tm_c D1 sbn (D1 pn)) pn (nI 1)) sbln (nI 1)) vals sz md := (by show tm_H _ _ _ (.branch rn9 rl9 rr9) _ _ _ _ _ _; rw [← hr9]; exact h1028)
                          have ii9 : tt_i (tt_p [] (.branch rn9 rl9 rr9)) = L0 := (by show tt_i (.branch rn9 rl9 rr9) = L0; rw [← hr9]; exact i1028)
                          rw [hr9]
                          refine ri_lv2 (ih (i + 1) [] rn9 rl9 rr9 _ _ (by omega) (by omega) ⟨hh9, ⟨A ++ ((false, pn, (.branch sbrn sbrl sbrr)) :: (false, sbn, (.branch sbln sbll sblr)) :: Bx), by rw [tt_p_a, ← hA, ← hr9] <;> rfl⟩, ii9, F1028, ?_⟩) ⟨rfl, rfl, trivial⟩
                          first
                            | exact Or.inl (by simp only [List.length_cons, List.length_nil] at hln ⊢; omega)
                            | exact Or.inr ⟨by simp only [List.length_cons, List.length_nil] at hln; omega, Or.inr rfl⟩
                            | exact Or.inr ⟨by simp only [List.length_cons, List.length_nil] at hln; omega, Or.inl (by simp [tm_c])⟩
                        · refine ri_aload_n C dJ19_fixAfterDeletion_276 rfl ?_
                          refine ri_callS C km_J19_rightOf q1122 dJ19_fixAfterDeletion_277 (mt_J19_rightOfR htr (y := (some sbrn)) f1024_sbn) rfl rfl ⟨⟨(Nat.le_of_ble_eq_true rfl), (Nat.le_of_ble_eq_true rfl)⟩, (Nat.le_of_ble_eq_true rfl), (Nat.le_of_ble_eq_true rfl), (Nat.le_of_ble_eq_true rfl)⟩ (fun v277 z277 q277 => ?_) (fun _ _ _ h => h.elim)
                          obtain ⟨rfl, rfl⟩ := q277
                          refine ri_iconst C dJ19_fixAfterDeletion_280 kc_i1 ?_
                          refine ri_callS C km_J19_setColor q1128 dJ19_fixAfterDeletion_281 (mt_J19_setColorT htr h1024 (an := sbrn) (by simp [tt_i_p, tt_p, tt_i]) (Or.inr rfl)) rfl rfl ⟨⟨(Nat.le_of_ble_eq_true rfl), (Nat.le_of_ble_eq_true rfl)⟩, (Nat.le_of_ble_eq_true rfl), (Nat.le_of_ble_eq_true rfl), (Nat.le_of_ble_eq_true rfl)⟩ (fun v281 z281 q281 => ?_) (fun _ _ _ h => h.elim)
                          obtain ⟨rfl, h1029, e1029⟩ := q281
                          rw [i1024] at e1029
                          have i1029 := i1024
                          have F1029 := kx_Fr.tr F1024 e1029
                          obtain ⟨⟨f1029_pn, ⟨f1029_sbn, ⟨f1029_sbln, f1029_sbll, f1029_sblr⟩, ⟨f1029_sbrn, f1029_sbrl, f1029_sbrr⟩⟩, ⟨f1029_xa, f1029_xl, f1029_xr⟩⟩, fK1029⟩ := (tt_H_p Bx (.branch pn (.branch sbn (.branch sbln sbll sblr) (.branch sbrn sbrl sbrr)) (.branch xa xl xr))).mp h1029.2.1
                          refine ri_aload_n C dJ19_fixAfterDeletion_284 rfl ?_
                          refine ri_iconst C dJ19_fixAfterDeletion_285 kc_i0 ?_
                          refine ri_callS C km_J19_setColor q1128 dJ19_fixAfterDeletion_286 (mt_J19_setColorT htr h1029 (an := sbn) (by simp [tt_i_p, tt_p, tt_i]) (Or.inl rfl)) rfl rfl ⟨⟨(Nat.le_of_ble_eq_true rfl), (Nat.le_of_ble_eq_true rfl)⟩, (Nat.le_of_ble_eq_true rfl), (Nat.le_of_ble_eq_true rfl), (Nat.le_of_ble_eq_true rfl)⟩ (fun v286 z286 q286 => ?_) (fun _ _ _ h => h.elim)
                          obtain ⟨rfl, h1030, e1030⟩ := q286
                          rw [i1029] at e1030
                          have i1030 := i1029
                          have F1030 := kx_Fr.tr F1029 e1030
                          obtain ⟨⟨f1030_pn, ⟨f1030_sbn, ⟨f1030_sbln, f1030_sbll, f1030_sblr⟩, ⟨f1030_sbrn, f1030_sbrl, f1030_sbrr⟩⟩, ⟨f1030_xa, f1030_xl, f1030_xr⟩⟩, fK1030⟩ := (tt_H_p Bx (.branch pn (.branch sbn (.branch sbln sbll sblr) (.branch sbrn sbrl sbrr)) (.branch xa xl xr))).mp h1030.2.1
                          refine ri_aload_n C dJ19_fixAfterDeletion_289 rfl ?_
                          refine ri_aload_n C dJ19_fixAfterDeletion_290 rfl ?_
                          refine ri_callV C km_J19_rotateLeft q1131 qs9 dJ19_fixAfterDeletion_291 (mt_J19_rotateLeft htr (Bx := ((true, pn, (.branch xa xl xr)) :: Bx)) (pn := sbn) (rn := sbrn) (ta := (.branch sbln sbll sblr)) (tb := sbrl) (td := sbrr) h1030) rfl rfl (kx_rcN C h1030.1 rfl) ⟨⟨(Nat.le_of_ble_eq_true rfl), (Nat.le_of_ble_eq_true rfl)⟩, (Nat.le_of_ble_eq_true rfl), (Nat.le_of_ble_eq_true rfl), (Nat.le_of_ble_eq_true rfl)⟩ (fun v291 z291 q291 => ?_) (fun _ _ _ h => h.elim)
                          obtain ⟨rfl, H1031, e1031⟩ := q291
                          have h1031 : tm_H z291 ct mp (tt_p Bx (.branch pn (.branch sbrn (.branch sbn (.branch sbln sbll sblr) sbrl) sbrr) (.branch xa xl xr))) K V (tm_c (tm_c D1 sbrn (nI 1)) sbn (nI 0)) vals sz md := H1031
                          have e1031 : kx_Fr (tm_T ct (tt_i (tt_p Bx (.branch pn (.branch sbn (.branch sbln sbll sblr) (.branch sbrn sbrl sbrr)) (.branch xa xl xr))))) z286 z291 := e1031
                          rw [i1030] at e1031
                          have i1031 : tt_i (tt_p Bx (.branch pn (.branch sbrn (.branch sbn (.branch sbln sbll sblr) sbrl) sbrr) (.branch xa xl xr))) = L0 := (by rw [← i1030]; simp [tt_i_p, tt_p, tt_i])
                          have F1031 := kx_Fr.tr F1030 e1031
                          obtain ⟨⟨f1031_pn, ⟨f1031_sbrn, ⟨f1031_sbn, ⟨f1031_sbln, f1031_sbll, f1031_sblr⟩, f1031_sbrl⟩, f1031_sbrr⟩, ⟨f1031_xa, f1031_xl, f1031_xr⟩⟩, fK1031⟩ := (tt_H_p Bx (.branch pn (.branch sbrn (.branch sbn (.branch sbln sbll sblr) sbrl) sbrr) (.branch xa xl xr))).mp h1031.2.1
                          refine ri_aload_n C dJ19_fixAfterDeletion_294 rfl ?_
                          refine ri_callS C km_J19_parentOf q1116 dJ19_fixAfterDeletion_295 (mt_J19_parentOfR htr (y := (some pn)) f1031_xa) rfl rfl ⟨⟨(Nat.le_of_ble_eq_true rfl), (Nat.le_of_ble_eq_true rfl)⟩, (Nat.le_of_ble_eq_true rfl), (Nat.le_of_ble_eq_true rfl), (Nat.le_of_ble_eq_true rfl)⟩ (fun v295 z295 q295 => ?_) (fun _ _ _ h => h.elim)
                          obtain ⟨rfl, rfl⟩ := q295
                          refine ri_callS C km_J19_leftOf q1119 dJ19_fixAfterDeletion_298 (mt_J19_leftOfR htr (y := (some sbrn)) f1031_pn) rfl rfl ⟨⟨(Nat.le_of_ble_eq_true rfl), (Nat.le_of_ble_eq_true rfl)⟩, (Nat.le_of_ble_eq_true rfl), (Nat.le_of_ble_eq_true rfl), (Nat.le_of_ble_eq_true rfl)⟩ (fun v298 z298 q298 => ?_) (fun _ _ _ h => h.elim)
                          obtain ⟨rfl, rfl⟩ := q298
                          refine ri_astore_n (x := sbrn) C dJ19_fixAfterDeletion_301 rfl (by decide) ?_
                          refine ri_aload_n C dJ19_fixAfterDeletion_302 rfl ?_
                          refine ri_aload_n C dJ19_fixAfterDeletion_303 rfl ?_
                          refine ri_callS C km_J19_parentOf q1116 dJ19_fixAfterDeletion_304 (mt_J19_parentOfR htr (y := (some pn)) f1031_xa) rfl rfl ⟨⟨(Nat.le_of_ble_eq_true rfl), (Nat.le_of_ble_eq_true rfl)⟩, (Nat.le_of_ble_eq_true rfl), (Nat.le_of_ble_eq_true rfl), (Nat.le_of_ble_eq_true rfl)⟩ (fun v304 z304 q304 => ?_) (fun _ _ _ h => h.elim)
                          obtain ⟨rfl, rfl⟩ := q304
                          refine ri_callS C km_J19_colorOf q1125 dJ19_fixAfterDeletion_307 (mt_J19_colorOfR htr f1031_pn (h1031.2.2.2 pn)) rfl rfl ⟨⟨(Nat.le_of_ble_eq_true rfl), (Nat.le_of_ble_eq_true rfl)⟩, (Nat.le_of_ble_eq_true rfl), (Nat.le_of_ble_eq_true rfl), (Nat.le_of_ble_eq_true rfl)⟩ (fun v307 z307 q307 => ?_) (fun _ _ _ h => h.elim)
                          obtain ⟨rfl, rfl⟩ := q307
                          refine ri_callS C km_J19_setColor q1128 dJ19_fixAfterDeletion_310 (mt_J19_setColorT htr h1031 (an := sbrn) (by simp [tt_i_p, tt_p, tt_i]) (h1031.2.2.2 _)) rfl rfl ⟨⟨(Nat.le_of_ble_eq_true rfl), (Nat.le_of_ble_eq_true rfl)⟩, (Nat.le_of_ble_eq_true rfl), (Nat.le_of_ble_eq_true rfl), (Nat.le_of_ble_eq_true rfl)⟩ (fun v310 z310 q310 => ?_) (fun _ _ _ h => h.elim)
                          obtain ⟨rfl, h1032, e1032⟩ := q310
                          rw [i1031] at e1032
                          have i1032 := i1031
                          have F1032 := kx_Fr.tr F1031 e1032
                          obtain ⟨⟨f1032_pn, ⟨f1032_sbrn, ⟨f1032_sbn, ⟨f1032_sbln, f1032_sbll, f1032_sblr⟩, f1032_sbrl⟩, f1032_sbrr⟩, ⟨f1032_xa, f1032_xl, f1032_xr⟩⟩, fK1032⟩ := (tt_H_p Bx (.branch pn (.branch sbrn (.branch sbn (.branch sbln sbll sblr) sbrl) sbrr) (.branch xa xl xr))).mp h1032.2.1
                          refine ri_aload_n C dJ19_fixAfterDeletion_313 rfl ?_
                          refine ri_callS C km_J19_parentOf q1116 dJ19_fixAfterDeletion_314 (mt_J19_parentOfR htr (y := (some pn)) f1032_xa) rfl rfl ⟨⟨(Nat.le_of_ble_eq_true rfl), (Nat.le_of_ble_eq_true rfl)⟩, (Nat.le_of_ble_eq_true rfl), (Nat.le_of_ble_eq_true rfl), (Nat.le_of_ble_eq_true rfl)⟩ (fun v314 z314 q314 => ?_) (fun _ _ _ h => h.elim)
                          obtain ⟨rfl, rfl⟩ := q314
                          refine ri_iconst C dJ19_fixAfterDeletion_317 kc_i1 ?_
                          refine ri_callS C km_J19_setColor q1128 dJ19_fixAfterDeletion_318 (mt_J19_setColorT htr h1032 (an := pn) (by simp [tt_i_p, tt_p, tt_i]) (Or.inr rfl)) rfl rfl ⟨⟨(Nat.le_of_ble_eq_true rfl), (Nat.le_of_ble_eq_true rfl)⟩, (Nat.le_of_ble_eq_true rfl), (Nat.le_of_ble_eq_true rfl), (Nat.le_of_ble_eq_true rfl)⟩ (fun v318 z318 q318 => ?_) (fun _ _ _ h => h.elim)
                          obtain ⟨rfl, h1033, e1033⟩ := q318
                          rw [i1032] at e1033
                          have i1033 := i1032
                          have F1033 := kx_Fr.tr F1032 e1033
                          obtain ⟨⟨f1033_pn, ⟨f1033_sbrn, ⟨f1033_sbn, ⟨f1033_sbln, f1033_sbll, f1033_sblr⟩, f1033_sbrl⟩, f1033_sbrr⟩, ⟨f1033_xa, f1033_xl, f1033_xr⟩⟩, fK1033⟩ := (tt_H_p Bx (.branch pn (.branch sbrn (.branch sbn (.branch sbln sbll sblr) sbrl) sbrr) (.branch xa xl xr))).mp h1033.2.1
                          refine ri_aload_n C dJ19_fixAfterDeletion_321 rfl ?_
                          refine ri_callS C km_J19_leftOf q1119 dJ19_fixAfterDeletion_322 (mt_J19_leftOfR htr (y := (some sbn)) f1033_sbrn) rfl rfl ⟨⟨(Nat.le_of_ble_eq_true rfl), (Nat.le_of_ble_eq_true rfl)⟩, (Nat.le_of_ble_eq_true rfl), (Nat.le_of_ble_eq_true rfl), (Nat.le_of_ble_eq_true rfl)⟩ (fun v322 z322 q322 => ?_) (fun _ _ _ h => h.elim)
                          obtain ⟨rfl, rfl⟩ := q322
                          refine ri_iconst C dJ19_fixAfterDeletion_325 kc_i1 ?_
                          refine ri_callS C km_J19_setColor q1128 dJ19_fixAfterDeletion_326 (mt_J19_setColorT htr h1033 (an := sbn) (by simp [tt_i_p, tt_p, tt_i]) (Or.inr rfl)) rfl rfl ⟨⟨(Nat.le_of_ble_eq_true rfl), (Nat.le_of_ble_eq_true rfl)⟩, (Nat.le_of_ble_eq_true rfl), (Nat.le_of_ble_eq_true rfl), (Nat.le_of_ble_eq_true rfl)⟩ (fun v326 z326 q326 => ?_) (fun _ _ _ h => h.elim)
                          obtain ⟨rfl, h1034, e1034⟩ := q326
                          rw [i1033] at e1034
                          have i1034 := i1033
                          have F1034 := kx_Fr.tr F1033 e1034
                          obtain ⟨⟨f1034_pn, ⟨f1034_sbrn, ⟨f1034_sbn, ⟨f1034_sbln, f1034_sbll, f1034_sblr⟩, f1034_sbrl⟩, f1034_sbrr⟩, ⟨f1034_xa, f1034_xl, f1034_xr⟩⟩, fK1034⟩ := (tt_H_p Bx (.branch pn (.branch sbrn (.branch sbn (.branch sbln sbll sblr) sbrl) sbrr) (.branch xa xl xr))).mp h1034.2.1
                          refine ri_aload_n C dJ19_fixAfterDeletion_329 rfl ?_
                          refine ri_aload_n C dJ19_fixAfterDeletion_330 rfl ?_
                          refine ri_callS C km_J19_parentOf q1116 dJ19_fixAfterDeletion_331 (mt_J19_parentOfR htr (y := (some pn)) f1034_xa) rfl rfl ⟨⟨(Nat.le_of_ble_eq_true rfl), (Nat.le_of_ble_eq_true rfl)⟩, (Nat.le_of_ble_eq_true rfl), (Nat.le_of_ble_eq_true rfl), (Nat.le_of_ble_eq_true rfl)⟩ (fun v331 z331 q331 => ?_) (fun _ _ _ h => h.elim)
                          obtain ⟨rfl, rfl⟩ := q331
                          refine ri_callV C km_J19_rotateRight q1135 qs10 dJ19_fixAfterDeletion_334 (mt_J19_rotateRight htr (Bx := (Bx)) (pn := pn) (rn := sbrn) (ta := (.branch xa xl xr)) (tb := sbrr) (td := (.branch sbn (.branch sbln sbll sblr) sbrl)) h1034) rfl rfl (kx_rcN C h1034.1 rfl) ⟨⟨(Nat.le_of_ble_eq_true rfl), (Nat.le_of_ble_eq_true rfl)⟩, (Nat.le_of_ble_eq_true rfl), (Nat.le_of_ble_eq_true rfl), (Nat.le_of_ble_eq_true rfl)⟩ (fun v334 z334 q334 => ?_) (fun _ _ _ h => h.elim)
                          obtain ⟨rfl, H1035, e1035⟩ := q334
                          have h1035 : tm_H z334 ct mp (tt_p Bx (.branch sbrn (.branch sbn (.branch sbln sbll sblr) sbrl) (.branch pn sbrr (.branch xa xl xr)))) K V (tm_c (tm_c (tm_c (tm_c (tm_c D1 sbrn (nI 1)) sbn (nI 0)) sbrn ((tm_c (tm_c D1 sbrn (nI 1)) sbn (nI 0)) pn)) pn (nI 1)) sbn (nI 1)) vals sz md := H1035
                          have e1035 : kx_Fr (tm_T ct (tt_i (tt_p Bx (.branch pn (.branch sbrn (.branch sbn (.branch sbln sbll sblr) sbrl) sbrr) (.branch xa xl xr))))) z331 z334 := e1035
                          rw [i1034] at e1035
                          have i1035 : tt_i (tt_p Bx (.branch sbrn (.branch sbn (.branch sbln sbll sblr) sbrl) (.branch pn sbrr (.branch xa xl xr)))) = L0 := (by rw [← i1034]; simp [tt_i_p, tt_p, tt_i])
                          have F1035 := kx_Fr.tr F1034 e1035
                          obtain ⟨⟨f1035_sbrn, ⟨f1035_sbn, ⟨f1035_sbln, f1035_sbll, f1035_sblr⟩, f1035_sbrl⟩, ⟨f1035_pn, f1035_sbrr, ⟨f1035_xa, f1035_xl, f1035_xr⟩⟩⟩, fK1035⟩ := (tt_H_p Bx (.branch sbrn (.branch sbn (.branch sbln sbll sblr) sbrl) (.branch pn sbrr (.branch xa xl xr)))).mp h1035.2.1
                          refine ri_aload_n C dJ19_fixAfterDeletion_337 rfl ?_
                          refine ri_getf C dJ19_fixAfterDeletion_338 fr_q577_18 h1035.1 (by rfl) ?_
                          refine ri_astore_nQ (x := (tt_r (tt_p Bx (.branch sbrn (.branch sbn (.branch sbln sbll sblr) sbrl) (.branch pn sbrr (.branch xa xl xr)))))) C dJ19_fixAfterDeletion_341 rfl (by decide) ?_
                          refine ri_goto C 0 dJ19_fixAfterDeletion_342 rfl ?_
                          obtain ⟨rn9, rl9, rr9, hr9⟩ : ∃ rn rl rr, (tt_p Bx (.branch sbrn (.branch sbn (.branch sbln sbll sblr) sbrl) (.branch pn sbrr (.branch xa xl xr)))) = .branch rn rl rr := tt_rt Bx
                          have hh9 : tm_H z334 ct mp (tt_p [] (.branch rn9 rl9 rr9)) K V (tm_c (tm_c (tm_c (tm_c (tm_c D1 sbrn (nI 1)) sbn (nI 0)) sbrn ((tm_c (tm_c D1 sbrn (nI 1)) sbn (nI 0)) pn)) pn (nI 1)) sbn (nI 1)) vals sz md := (by show tm_H _ _ _ (.branch rn9 rl9 rr9) _ _ _ _ _ _; rw [← hr9]; exact h1035)
                          have ii9 : tt_i (tt_p [] (.branch rn9 rl9 rr9)) = L0 := (by show tt_i (.branch rn9 rl9 rr9) = L0; rw [← hr9]; exact i1035)
                          rw [hr9]
                          refine ri_lv2 (ih (i + 1) [] rn9 rl9 rr9 _ _ (by omega) (by omega) ⟨hh9, ⟨A ++ ((false, pn, sbrr) :: (false, sbrn, (.branch sbn (.branch sbln sbll sblr) sbrl)) :: Bx), by rw [tt_p_a, ← hA, ← hr9] <;> rfl⟩, ii9, F1035, ?_⟩) ⟨rfl, rfl, trivial⟩
                          first
                            | exact Or.inl (by simp only [List.length_cons, List.length_nil] at hln ⊢; omega)
                            | exact Or.inr ⟨by simp only [List.length_cons, List.length_nil] at hln; omega, Or.inr rfl⟩
                            | exact Or.inr ⟨by simp only [List.length_cons, List.length_nil] at hln; omega, Or.inl (by simp [tm_c])⟩
                    · refine ri_aload_n C dJ19_fixAfterDeletion_241 rfl ?_
                      refine ri_callS C km_J19_leftOf q1119 dJ19_fixAfterDeletion_242 (mt_J19_leftOfR htr (y := (tt_r sbl)) f1015_sbn) rfl rfl ⟨⟨(Nat.le_of_ble_eq_true rfl), (Nat.le_of_ble_eq_true rfl)⟩, (Nat.le_of_ble_eq_true rfl), (Nat.le_of_ble_eq_true rfl), (Nat.le_of_ble_eq_true rfl)⟩ (fun v242 z242 q242 => ?_) (fun _ _ _ h => h.elim)
                      obtain ⟨rfl, rfl⟩ := q242
                      rcases sbl with ⟨_⟩ | ⟨sbln, sbll, sblr⟩
                      · have h1036 : tm_H z242 ct mp (tt_p Bx (.branch pn (.branch sbn tt_n (.branch sbrn sbrl sbrr)) (.branch xa xl xr))) K V D1 vals sz md := h1015
                        have i1036 : tt_i (tt_p Bx (.branch pn (.branch sbn tt_n (.branch sbrn sbrl sbrr)) (.branch xa xl xr))) = L0 := i1015
                        have F1036 := F1015
                        obtain ⟨⟨f1036_pn, ⟨f1036_sbn, -, ⟨f1036_sbrn, f1036_sbrl, f1036_sbrr⟩⟩, ⟨f1036_xa, f1036_xl, f1036_xr⟩⟩, fK1036⟩ := (tt_H_p Bx (.branch pn (.branch sbn tt_n (.branch sbrn sbrl sbrr)) (.branch xa xl xr))).mp h1036.2.1
                        refine ri_callS C km_J19_colorOf q1125 dJ19_fixAfterDeletion_245 (mt_J19_colorOfN htr) rfl rfl ⟨⟨(Nat.le_of_ble_eq_true rfl), (Nat.le_of_ble_eq_true rfl)⟩, (Nat.le_of_ble_eq_true rfl), (Nat.le_of_ble_eq_true rfl), (Nat.le_of_ble_eq_true rfl)⟩ (fun v245 z245 q245 => ?_) (fun _ _ _ h => h.elim)
                        obtain ⟨rfl, rfl⟩ := q245
                        refine ri_iconst C dJ19_fixAfterDeletion_248 kc_i1 ?_
                        refine ri_icmp_ne C 265 dJ19_fixAfterDeletion_249 rfl (fun h249 => ?_) (fun h249 => ?_)
                        · exact absurd rfl h249
                        · refine ri_aload_n C dJ19_fixAfterDeletion_252 rfl ?_
                          refine ri_iconst C dJ19_fixAfterDeletion_253 kc_i0 ?_
                          refine ri_callS C km_J19_setColor q1128 dJ19_fixAfterDeletion_254 (mt_J19_setColorT htr h1036 (an := sbn) (by simp [tt_i_p, tt_p, tt_i]) (Or.inl rfl)) rfl rfl ⟨⟨(Nat.le_of_ble_eq_true rfl), (Nat.le_of_ble_eq_true rfl)⟩, (Nat.le_of_ble_eq_true rfl), (Nat.le_of_ble_eq_true rfl), (Nat.le_of_ble_eq_true rfl)⟩ (fun v254 z254 q254 => ?_) (fun _ _ _ h => h.elim)
                          obtain ⟨rfl, h1037, e1037⟩ := q254
                          rw [i1036] at e1037
                          have i1037 := i1036
                          have F1037 := kx_Fr.tr F1036 e1037
                          obtain ⟨⟨f1037_pn, ⟨f1037_sbn, -, ⟨f1037_sbrn, f1037_sbrl, f1037_sbrr⟩⟩, ⟨f1037_xa, f1037_xl, f1037_xr⟩⟩, fK1037⟩ := (tt_H_p Bx (.branch pn (.branch sbn tt_n (.branch sbrn sbrl sbrr)) (.branch xa xl xr))).mp h1037.2.1
                          refine ri_aload_n C dJ19_fixAfterDeletion_257 rfl ?_
                          refine ri_callS C km_J19_parentOf q1116 dJ19_fixAfterDeletion_258 (mt_J19_parentOfR htr (y := (some pn)) f1037_xa) rfl rfl ⟨⟨(Nat.le_of_ble_eq_true rfl), (Nat.le_of_ble_eq_true rfl)⟩, (Nat.le_of_ble_eq_true rfl), (Nat.le_of_ble_eq_true rfl), (Nat.le_of_ble_eq_true rfl)⟩ (fun v258 z258 q258 => ?_) (fun _ _ _ h => h.elim)
                          obtain ⟨rfl, rfl⟩ := q258
                          refine ri_astore_n (x := pn) C dJ19_fixAfterDeletion_261 rfl (by decide) ?_
                          refine ri_goto C 342 dJ19_fixAfterDeletion_262 rfl ?_
                          refine ri_goto C 0 dJ19_fixAfterDeletion_342 rfl ?_
                          refine ri_lv2 (ih (i + 1) (Bx) pn (.branch sbn tt_n (.branch sbrn sbrl sbrr)) (.branch xa xl xr) _ _ (by omega) (by omega) ⟨h1037, ⟨A ++ [(false, pn, (.branch sbn tt_n (.branch sbrn sbrl sbrr)))], by rw [tt_p_a, ← hA] <;> rfl⟩, i1037, F1037, ?_⟩) ⟨rfl, rfl, trivial⟩
                          first
                            | exact Or.inl (by simp only [List.length_cons, List.length_nil] at hln ⊢; omega)
                            | exact Or.inr ⟨by simp only [List.length_cons, List.length_nil] at hln; omega, Or.inr rfl⟩
                            | exact Or.inr ⟨by simp only [List.length_cons, List.length_nil] at hln; omega, Or.inl (by simp [tm_c])⟩
                      · have h1038 : tm_H z242 ct mp (tt_p Bx (.branch pn (.branch sbn (.branch sbln sbll sblr) (.branch sbrn sbrl sbrr)) (.branch xa xl xr))) K V D1 vals sz md := h1015
                        have i1038 : tt_i (tt_p Bx (.branch pn (.branch sbn (.branch sbln sbll sblr) (.branch sbrn sbrl sbrr)) (.branch xa xl xr))) = L0 := i1015
                        have F1038 := F1015
                        have nd1038 := h1038.2.2.1
                        obtain ⟨⟨f1038_pn, ⟨f1038_sbn, ⟨f1038_sbln, f1038_sbll, f1038_sblr⟩, ⟨f1038_sbrn, f1038_sbrl, f1038_sbrr⟩⟩, ⟨f1038_xa, f1038_xl, f1038_xr⟩⟩, fK1038⟩ := (tt_H_p Bx (.branch pn (.branch sbn (.branch sbln sbll sblr) (.branch sbrn sbrl sbrr)) (.branch xa xl xr))).mp h1038.2.1
                        refine ri_callS C km_J19_colorOf q1125 dJ19_fixAfterDeletion_245 (mt_J19_colorOfR htr f1038_sbln (h1038.2.2.2 sbln)) rfl rfl ⟨⟨(Nat.le_of_ble_eq_true rfl), (Nat.le_of_ble_eq_true rfl)⟩, (Nat.le_of_ble_eq_true rfl), (Nat.le_of_ble_eq_true rfl), (Nat.le_of_ble_eq_true rfl)⟩ (fun v245 z245 q245 => ?_) (fun _ _ _ h => h.elim)
                        obtain ⟨rfl, rfl⟩ := q245
                        refine ri_iconst C dJ19_fixAfterDeletion_248 kc_i1 ?_
                        refine ri_icmp_ne C 265 dJ19_fixAfterDeletion_249 rfl (fun h249 => ?_) (fun h249 => ?_)
                        · refine ri_aload_n C dJ19_fixAfterDeletion_265 rfl ?_
                          refine ri_callS C km_J19_leftOf q1119 dJ19_fixAfterDeletion_266 (mt_J19_leftOfR htr (y := (some sbln)) f1038_sbn) rfl rfl ⟨⟨(Nat.le_of_ble_eq_true rfl), (Nat.le_of_ble_eq_true rfl)⟩, (Nat.le_of_ble_eq_true rfl), (Nat.le_of_ble_eq_true rfl), (Nat.le_of_ble_eq_true rfl)⟩ (fun v266 z266 q266 => ?_) (fun _ _ _ h => h.elim)
                          obtain ⟨rfl, rfl⟩ := q266
                          refine ri_callS C km_J19_colorOf q1125 dJ19_fixAfterDeletion_269 (mt_J19_colorOfR htr f1038_sbln (h1038.2.2.2 sbln)) rfl rfl ⟨⟨(Nat.le_of_ble_eq_true rfl), (Nat.le_of_ble_eq_true rfl)⟩, (Nat.le_of_ble_eq_true rfl), (Nat.le_of_ble_eq_true rfl), (Nat.le_of_ble_eq_true rfl)⟩ (fun v269 z269 q269 => ?_) (fun _ _ _ h => h.elim)
                          obtain ⟨rfl, rfl⟩ := q269
                          refine ri_iconst C dJ19_fixAfterDeletion_272 kc_i1 ?_
                          refine ri_icmp_ne C 302 dJ19_fixAfterDeletion_273 rfl (fun h273 => ?_) (fun h273 => ?_)
                          · refine ri_aload_n C dJ19_fixAfterDeletion_302 rfl ?_
                            refine ri_aload_n C dJ19_fixAfterDeletion_303 rfl ?_
                            refine ri_callS C km_J19_parentOf q1116 dJ19_fixAfterDeletion_304 (mt_J19_parentOfR htr (y := (some pn)) f1038_xa) rfl rfl ⟨⟨(Nat.le_of_ble_eq_true rfl), (Nat.le_of_ble_eq_true rfl)⟩, (Nat.le_of_ble_eq_true rfl), (Nat.le_of_ble_eq_true rfl), (Nat.le_of_ble_eq_true rfl)⟩ (fun v304 z304 q304 => ?_) (fun _ _ _ h => h.elim)
                            obtain ⟨rfl, rfl⟩ := q304
                            refine ri_callS C km_J19_colorOf q1125 dJ19_fixAfterDeletion_307 (mt_J19_colorOfR htr f1038_pn (h1038.2.2.2 pn)) rfl rfl ⟨⟨(Nat.le_of_ble_eq_true rfl), (Nat.le_of_ble_eq_true rfl)⟩, (Nat.le_of_ble_eq_true rfl), (Nat.le_of_ble_eq_true rfl), (Nat.le_of_ble_eq_true rfl)⟩ (fun v307 z307 q307 => ?_) (fun _ _ _ h => h.elim)
                            obtain ⟨rfl, rfl⟩ := q307
                            refine ri_callS C km_J19_setColor q1128 dJ19_fixAfterDeletion_310 (mt_J19_setColorT htr h1038 (an := sbn) (by simp [tt_i_p, tt_p, tt_i]) (h1038.2.2.2 _)) rfl rfl ⟨⟨(Nat.le_of_ble_eq_true rfl), (Nat.le_of_ble_eq_true rfl)⟩, (Nat.le_of_ble_eq_true rfl), (Nat.le_of_ble_eq_true rfl), (Nat.le_of_ble_eq_true rfl)⟩ (fun v310 z310 q310 => ?_) (fun _ _ _ h => h.elim)
                            obtain ⟨rfl, h1039, e1039⟩ := q310
                            rw [i1038] at e1039
                            have i1039 := i1038
                            have F1039 := kx_Fr.tr F1038 e1039
                            obtain ⟨⟨f1039_pn, ⟨f1039_sbn, ⟨f1039_sbln, f1039_sbll, f1039_sblr⟩, ⟨f1039_sbrn, f1039_sbrl, f1039_sbrr⟩⟩, ⟨f1039_xa, f1039_xl, f1039_xr⟩⟩, fK1039⟩ := (tt_H_p Bx (.branch pn (.branch sbn (.branch sbln sbll sblr) (.branch sbrn sbrl sbrr)) (.branch xa xl xr))).mp h1039.2.1
                            refine ri_aload_n C dJ19_fixAfterDeletion_313 rfl ?_
                            refine ri_callS C km_J19_parentOf q1116 dJ19_fixAfterDeletion_314 (mt_J19_parentOfR htr (y := (some pn)) f1039_xa) rfl rfl ⟨⟨(Nat.le_of_ble_eq_true rfl), (Nat.le_of_ble_eq_true rfl)⟩, (Nat.le_of_ble_eq_true rfl), (Nat.le_of_ble_eq_true rfl), (Nat.le_of_ble_eq_true rfl)⟩ (fun v314 z314 q314 => ?_) (fun _ _ _ h => h.elim)
                            obtain ⟨rfl, rfl⟩ := q314
                            refine ri_iconst C dJ19_fixAfterDeletion_317 kc_i1 ?_
                            refine ri_callS C km_J19_setColor q1128 dJ19_fixAfterDeletion_318 (mt_J19_setColorT htr h1039 (an := pn) (by simp [tt_i_p, tt_p, tt_i]) (Or.inr rfl)) rfl rfl ⟨⟨(Nat.le_of_ble_eq_true rfl), (Nat.le_of_ble_eq_true rfl)⟩, (Nat.le_of_ble_eq_true rfl), (Nat.le_of_ble_eq_true rfl), (Nat.le_of_ble_eq_true rfl)⟩ (fun v318 z318 q318 => ?_) (fun _ _ _ h => h.elim)
                            obtain ⟨rfl, h1040, e1040⟩ := q318
                            rw [i1039] at e1040
                            have i1040 := i1039
                            have F1040 := kx_Fr.tr F1039 e1040
                            obtain ⟨⟨f1040_pn, ⟨f1040_sbn, ⟨f1040_sbln, f1040_sbll, f1040_sblr⟩, ⟨f1040_sbrn, f1040_sbrl, f1040_sbrr⟩⟩, ⟨f1040_xa, f1040_xl, f1040_xr⟩⟩, fK1040⟩ := (tt_H_p Bx (.branch pn (.branch sbn (.branch sbln sbll sblr) (.branch sbrn sbrl sbrr)) (.branch xa xl xr))).mp h1040.2.1
                            refine ri_aload_n C dJ19_fixAfterDeletion_321 rfl ?_
                            refine ri_callS C km_J19_leftOf q1119 dJ19_fixAfterDeletion_322 (mt_J19_leftOfR htr (y := (some sbln)) f1040_sbn) rfl rfl ⟨⟨(Nat.le_of_ble_eq_true rfl), (Nat.le_of_ble_eq_true rfl)⟩, (Nat.le_of_ble_eq_true rfl), (Nat.le_of_ble_eq_true rfl), (Nat.le_of_ble_eq_true rfl)⟩ (fun v322 z322 q322 => ?_) (fun _ _ _ h => h.elim)
                            obtain ⟨rfl, rfl⟩ := q322
                            refine ri_iconst C dJ19_fixAfterDeletion_325 kc_i1 ?_
                            refine ri_callS C km_J19_setColor q1128 dJ19_fixAfterDeletion_326 (mt_J19_setColorT htr h1040 (an := sbln) (by simp [tt_i_p, tt_p, tt_i]) (Or.inr rfl)) rfl rfl ⟨⟨(Nat.le_of_ble_eq_true rfl), (Nat.le_of_ble_eq_true rfl)⟩, (Nat.le_of_ble_eq_true rfl), (Nat.le_of_ble_eq_true rfl), (Nat.le_of_ble_eq_true rfl)⟩ (fun v326 z326 q326 => ?_) (fun _ _ _ h => h.elim)
                            obtain ⟨rfl, h1041, e1041⟩ := q326
                            rw [i1040] at e1041
                            have i1041 := i1040
                            have F1041 := kx_Fr.tr F1040 e1041
                            obtain ⟨⟨f1041_pn, ⟨f1041_sbn, ⟨f1041_sbln, f1041_sbll, f1041_sblr⟩, ⟨f1041_sbrn, f1041_sbrl, f1041_sbrr⟩⟩, ⟨f1041_xa, f1041_xl, f1041_xr⟩⟩, fK1041⟩ := (tt_H_p Bx (.branch pn (.branch sbn (.branch sbln sbll sblr) (.branch sbrn sbrl sbrr)) (.branch xa xl xr))).mp h1041.2.1
                            refine ri_aload_n C dJ19_fixAfterDeletion_329 rfl ?_
                            refine ri_aload_n C dJ19_fixAfterDeletion_330 rfl ?_
                            refine ri_callS C km_J19_parentOf q1116 dJ19_fixAfterDeletion_331 (mt_J19_parentOfR htr (y := (some pn)) f1041_xa) rfl rfl ⟨⟨(Nat.le_of_ble_eq_true rfl), (Nat.le_of_ble_eq_true rfl)⟩, (Nat.le_of_ble_eq_true rfl), (Nat.le_of_ble_eq_true rfl), (Nat.le_of_ble_eq_true rfl)⟩ (fun v331 z331 q331 => ?_) (fun _ _ _ h => h.elim)
                            obtain ⟨rfl, rfl⟩ := q331
                            refine ri_callV C km_J19_rotateRight q1135 qs10 dJ19_fixAfterDeletion_334 (mt_J19_rotateRight htr (Bx := (Bx)) (pn := pn) (rn := sbn) (ta := (.branch xa xl xr)) (tb := (.branch sbrn sbrl sbrr)) (td := (.branch sbln sbll sblr)) h1041) rfl rfl (kx_rcN C h1041.1 rfl) ⟨⟨(Nat.le_of_ble_eq_true rfl), (Nat.le_of_ble_eq_true rfl)⟩, (Nat.le_of_ble_eq_true rfl), (Nat.le_of_ble_eq_true rfl), (Nat.le_of_ble_eq_true rfl)⟩ (fun v334 z334 q334 => ?_) (fun _ _ _ h => h.elim)
                            obtain ⟨rfl, H1042, e1042⟩ := q334
                            have h1042 : tm_H z334 ct mp (tt_p Bx (.branch sbn (.branch sbln sbll sblr) (.branch pn (.branch sbrn sbrl sbrr) (.branch xa xl xr)))) K V (tm_c (tm_c (tm_c D1 sbn (D1 pn)) pn (nI 1)) sbln (nI 1)) vals sz md := H1042
                            have e1042 : kx_Fr (tm_T ct (tt_i (tt_p Bx (.branch pn (.branch sbn (.branch sbln sbll sblr) (.branch sbrn sbrl sbrr)) (.branch xa xl xr))))) z331 z334 := e1042
                            rw [i1041] at e1042
                            have i1042 : tt_i (tt_p Bx (.branch sbn (.branch sbln sbll sblr) (.branch pn (.branch sbrn sbrl sbrr) (.branch xa xl xr)))) = L0 := (by rw [← i1041]; simp [tt_i_p, tt_p, tt_i])
                            have F1042 := kx_Fr.tr F1041 e1042
                            obtain ⟨⟨f1042_sbn, ⟨f1042_sbln, f1042_sbll, f1042_sblr⟩, ⟨f1042_pn, ⟨f1042_sbrn, f1042_sbrl, f1042_sbrr⟩, ⟨f1042_xa, f1042_xl, f1042_xr⟩⟩⟩, fK1042⟩ := (tt_H_p Bx (.branch sbn (.branch sbln sbll sblr) (.branch pn (.branch sbrn sbrl sbrr) (.branch xa xl xr)))).mp h1042.2.1
                            refine ri_aload_n C dJ19_fixAfterDeletion_337 rfl ?_
                            refine ri_getf C dJ19_fixAfterDeletion_338 fr_q577_18 h1042.1 (by rfl) ?_
                            refine ri_astore_nQ (x := (tt_r (tt_p Bx (.branch sbn (.branch sbln sbll sblr) (.branch pn (.branch sbrn sbrl sbrr) (.branch xa xl xr)))))) C dJ19_fixAfterDeletion_341 rfl (by decide) ?_
                            refine ri_goto C 0 dJ19_fixAfterDeletion_342 rfl ?_
                            obtain ⟨rn9, rl9, rr9, hr9⟩ : ∃ rn rl rr, (tt_p Bx (.branch sbn (.branch sbln sbll sblr) (.branch pn (.branch sbrn sbrl sbrr) (.branch xa xl xr)))) = .branch rn rl rr := tt_rt Bx
                            have hh9 : tm_H z334 ct mp (tt_p [] (.branch rn9 rl9 rr9)) K V (tm_c (tm_c (tm_c D1 sbn (D1 pn)) pn (nI 1)) sbln (nI 1)) vals sz md := (by show tm_H _ _ _ (.branch rn9 rl9 rr9) _ _ _ _ _ _; rw [← hr9]; exact h1042)
                            have ii9 : tt_i (tt_p [] (.branch rn9 rl9 rr9)) = L0 := (by show tt_i (.branch rn9 rl9 rr9) = L0; rw [← hr9]; exact i1042)
                            rw [hr9]
                            refine ri_lv2 (ih (i + 1) [] rn9 rl9 rr9 _ _ (by omega) (by omega) ⟨hh9, ⟨A ++ ((false, pn, (.branch sbrn sbrl sbrr)) :: (false, sbn, (.branch sbln sbll sblr)) :: Bx), by rw [tt_p_a, ← hA, ← hr9] <;> rfl⟩, ii9, F1042, ?_⟩) ⟨rfl, rfl, trivial⟩
                            first
                              | exact Or.inl (by simp only [List.length_cons, List.length_nil] at hln ⊢; omega)
                              | exact Or.inr ⟨by simp only [List.length_cons, List.length_nil] at hln; omega, Or.inr rfl⟩
                              | exact Or.inr ⟨by simp only [List.length_cons, List.length_nil] at hln; omega, Or.inl (by simp [tm_c])⟩
                          · exact absurd h273 h249
                        · refine ri_aload_n C dJ19_fixAfterDeletion_252 rfl ?_
                          refine ri_iconst C dJ19_fixAfterDeletion_253 kc_i0 ?_
                          refine ri_callS C km_J19_setColor q1128 dJ19_fixAfterDeletion_254 (mt_J19_setColorT htr h1038 (an := sbn) (by simp [tt_i_p, tt_p, tt_i]) (Or.inl rfl)) rfl rfl ⟨⟨(Nat.le_of_ble_eq_true rfl), (Nat.le_of_ble_eq_true rfl)⟩, (Nat.le_of_ble_eq_true rfl), (Nat.le_of_ble_eq_true rfl), (Nat.le_of_ble_eq_true rfl)⟩ (fun v254 z254 q254 => ?_) (fun _ _ _ h => h.elim)
                          obtain ⟨rfl, h1043, e1043⟩ := q254
                          rw [i1038] at e1043
                          have i1043 := i1038
                          have F1043 := kx_Fr.tr F1038 e1043
                          obtain ⟨⟨f1043_pn, ⟨f1043_sbn, ⟨f1043_sbln, f1043_sbll, f1043_sblr⟩, ⟨f1043_sbrn, f1043_sbrl, f1043_sbrr⟩⟩, ⟨f1043_xa, f1043_xl, f1043_xr⟩⟩, fK1043⟩ := (tt_H_p Bx (.branch pn (.branch sbn (.branch sbln sbll sblr) (.branch sbrn sbrl sbrr)) (.branch xa xl xr))).mp h1043.2.1
                          refine ri_aload_n C dJ19_fixAfterDeletion_257 rfl ?_
                          refine ri_callS C km_J19_parentOf q1116 dJ19_fixAfterDeletion_258 (mt_J19_parentOfR htr (y := (some pn)) f1043_xa) rfl rfl ⟨⟨(Nat.le_of_ble_eq_true rfl), (Nat.le_of_ble_eq_true rfl)⟩, (Nat.le_of_ble_eq_true rfl), (Nat.le_of_ble_eq_true rfl), (Nat.le_of_ble_eq_true rfl)⟩ (fun v258 z258 q258 => ?_) (fun _ _ _ h => h.elim)
                          obtain ⟨rfl, rfl⟩ := q258
                          refine ri_astore_n (x := pn) C dJ19_fixAfterDeletion_261 rfl (by decide) ?_
                          refine ri_goto C 342 dJ19_fixAfterDeletion_262 rfl ?_
                          refine ri_goto C 0 dJ19_fixAfterDeletion_342 rfl ?_
                          refine ri_lv2 (ih (i + 1) (Bx) pn (.branch sbn (.branch sbln sbll sblr) (.branch sbrn sbrl sbrr)) (.branch xa xl xr) _ _ (by omega) (by omega) ⟨h1043, ⟨A ++ [(false, pn, (.branch sbn (.branch sbln sbll sblr) (.branch sbrn sbrl sbrr)))], by rw [tt_p_a, ← hA] <;> rfl⟩, i1043, F1043, ?_⟩) ⟨rfl, rfl, trivial⟩
                          first
                            | exact Or.inl (by simp only [List.length_cons, List.length_nil] at hln ⊢; omega)
                            | exact Or.inr ⟨by simp only [List.length_cons, List.length_nil] at hln; omega, Or.inr rfl⟩
                            | exact Or.inr ⟨by simp only [List.length_cons, List.length_nil] at hln; omega, Or.inl (by simp [tm_c])⟩
                · refine ri_aload_n C dJ19_fixAfterDeletion_201 rfl ?_
                  refine ri_iconst C dJ19_fixAfterDeletion_202 kc_i1 ?_
                  refine ri_callS C km_J19_setColor q1128 dJ19_fixAfterDeletion_203 (mt_J19_setColorT htr h1005 (an := sbn) (by simp [tt_i_p, tt_p, tt_i]) (Or.inr rfl)) rfl rfl ⟨⟨(Nat.le_of_ble_eq_true rfl), (Nat.le_of_ble_eq_true rfl)⟩, (Nat.le_of_ble_eq_true rfl), (Nat.le_of_ble_eq_true rfl), (Nat.le_of_ble_eq_true rfl)⟩ (fun v203 z203 q203 => ?_) (fun _ _ _ h => h.elim)
                  obtain ⟨rfl, h1044, e1044⟩ := q203
                  rw [i1005] at e1044
                  have i1044 := i1005
                  have F1044 := kx_Fr.tr F1005 e1044
                  obtain ⟨⟨f1044_pn, ⟨f1044_sbn, f1044_sbl, f1044_sbr⟩, ⟨f1044_xa, f1044_xl, f1044_xr⟩⟩, fK1044⟩ := (tt_H_p Bx (.branch pn (.branch sbn sbl sbr) (.branch xa xl xr))).mp h1044.2.1
                  refine ri_aload_n C dJ19_fixAfterDeletion_206 rfl ?_
                  refine ri_callS C km_J19_parentOf q1116 dJ19_fixAfterDeletion_207 (mt_J19_parentOfR htr (y := (some pn)) f1044_xa) rfl rfl ⟨⟨(Nat.le_of_ble_eq_true rfl), (Nat.le_of_ble_eq_true rfl)⟩, (Nat.le_of_ble_eq_true rfl), (Nat.le_of_ble_eq_true rfl), (Nat.le_of_ble_eq_true rfl)⟩ (fun v207 z207 q207 => ?_) (fun _ _ _ h => h.elim)
                  obtain ⟨rfl, rfl⟩ := q207
                  refine ri_iconst C dJ19_fixAfterDeletion_210 kc_i0 ?_
                  refine ri_callS C km_J19_setColor q1128 dJ19_fixAfterDeletion_211 (mt_J19_setColorT htr h1044 (an := pn) (by simp [tt_i_p, tt_p, tt_i]) (Or.inl rfl)) rfl rfl ⟨⟨(Nat.le_of_ble_eq_true rfl), (Nat.le_of_ble_eq_true rfl)⟩, (Nat.le_of_ble_eq_true rfl), (Nat.le_of_ble_eq_true rfl), (Nat.le_of_ble_eq_true rfl)⟩ (fun v211 z211 q211 => ?_) (fun _ _ _ h => h.elim)
                  obtain ⟨rfl, h1045, e1045⟩ := q211
                  rw [i1044] at e1045
                  have i1045 := i1044
                  have F1045 := kx_Fr.tr F1044 e1045
                  obtain ⟨⟨f1045_pn, ⟨f1045_sbn, f1045_sbl, f1045_sbr⟩, ⟨f1045_xa, f1045_xl, f1045_xr⟩⟩, fK1045⟩ := (tt_H_p Bx (.branch pn (.branch sbn sbl sbr) (.branch xa xl xr))).mp h1045.2.1
                  refine ri_aload_n C dJ19_fixAfterDeletion_214 rfl ?_
                  refine ri_aload_n C dJ19_fixAfterDeletion_215 rfl ?_
                  refine ri_callS C km_J19_parentOf q1116 dJ19_fixAfterDeletion_216 (mt_J19_parentOfR htr (y := (some pn)) f1045_xa) rfl rfl ⟨⟨(Nat.le_of_ble_eq_true rfl), (Nat.le_of_ble_eq_true rfl)⟩, (Nat.le_of_ble_eq_true rfl), (Nat.le_of_ble_eq_true rfl), (Nat.le_of_ble_eq_true rfl)⟩ (fun v216 z216 q216 => ?_) (fun _ _ _ h => h.elim)
                  obtain ⟨rfl, rfl⟩ := q216
                  refine ri_callV C km_J19_rotateRight q1135 qs10 dJ19_fixAfterDeletion_219 (mt_J19_rotateRight htr (Bx := (Bx)) (pn := pn) (rn := sbn) (ta := (.branch xa xl xr)) (tb := sbr) (td := sbl) h1045) rfl rfl (kx_rcN C h1045.1 rfl) ⟨⟨(Nat.le_of_ble_eq_true rfl), (Nat.le_of_ble_eq_true rfl)⟩, (Nat.le_of_ble_eq_true rfl), (Nat.le_of_ble_eq_true rfl), (Nat.le_of_ble_eq_true rfl)⟩ (fun v219 z219 q219 => ?_) (fun _ _ _ h => h.elim)
                  obtain ⟨rfl, H1046, e1046⟩ := q219
                  have h1046 : tm_H z219 ct mp (tt_p Bx (.branch sbn sbl (.branch pn sbr (.branch xa xl xr)))) K V (tm_c (tm_c D1 sbn (nI 1)) pn (nI 0)) vals sz md := H1046
                  have e1046 : kx_Fr (tm_T ct (tt_i (tt_p Bx (.branch pn (.branch sbn sbl sbr) (.branch xa xl xr))))) z216 z219 := e1046
                  rw [i1045] at e1046
                  have i1046 : tt_i (tt_p Bx (.branch sbn sbl (.branch pn sbr (.branch xa xl xr)))) = L0 := (by rw [← i1045]; simp [tt_i_p, tt_p, tt_i])
                  have F1046 := kx_Fr.tr F1045 e1046
                  obtain ⟨⟨f1046_sbn, f1046_sbl, ⟨f1046_pn, f1046_sbr, ⟨f1046_xa, f1046_xl, f1046_xr⟩⟩⟩, fK1046⟩ := (tt_H_p Bx (.branch sbn sbl (.branch pn sbr (.branch xa xl xr)))).mp h1046.2.1
                  refine ri_aload_n C dJ19_fixAfterDeletion_222 rfl ?_
                  refine ri_callS C km_J19_parentOf q1116 dJ19_fixAfterDeletion_223 (mt_J19_parentOfR htr (y := (some pn)) f1046_xa) rfl rfl ⟨⟨(Nat.le_of_ble_eq_true rfl), (Nat.le_of_ble_eq_true rfl)⟩, (Nat.le_of_ble_eq_true rfl), (Nat.le_of_ble_eq_true rfl), (Nat.le_of_ble_eq_true rfl)⟩ (fun v223 z223 q223 => ?_) (fun _ _ _ h => h.elim)
                  obtain ⟨rfl, rfl⟩ := q223
                  refine ri_callS C km_J19_leftOf q1119 dJ19_fixAfterDeletion_226 (mt_J19_leftOfR htr (y := (tt_r sbr)) f1046_pn) rfl rfl ⟨⟨(Nat.le_of_ble_eq_true rfl), (Nat.le_of_ble_eq_true rfl)⟩, (Nat.le_of_ble_eq_true rfl), (Nat.le_of_ble_eq_true rfl), (Nat.le_of_ble_eq_true rfl)⟩ (fun v226 z226 q226 => ?_) (fun _ _ _ h => h.elim)
                  obtain ⟨rfl, rfl⟩ := q226
                  refine ri_astore_nQ (x := (tt_r sbr)) C dJ19_fixAfterDeletion_229 rfl (by decide) ?_
                  refine ri_aload_nQ (x := (tt_r sbr)) C dJ19_fixAfterDeletion_230 rfl ?_
                  rcases sbr with ⟨_⟩ | ⟨sbrn, sbrl, sbrr⟩
                  · have h1047 : tm_H z226 ct mp (tt_p Bx (.branch sbn sbl (.branch pn tt_n (.branch xa xl xr)))) K V (tm_c (tm_c D1 sbn (nI 1)) pn (nI 0)) vals sz md := h1046
                    have i1047 : tt_i (tt_p Bx (.branch sbn sbl (.branch pn tt_n (.branch xa xl xr)))) = L0 := i1046
                    have F1047 := F1046
                    obtain ⟨⟨f1047_sbn, f1047_sbl, ⟨f1047_pn, -, ⟨f1047_xa, f1047_xl, f1047_xr⟩⟩⟩, fK1047⟩ := (tt_H_p Bx (.branch sbn sbl (.branch pn tt_n (.branch xa xl xr)))).mp h1047.2.1
                    refine ri_callS C km_J19_rightOf q1122 dJ19_fixAfterDeletion_231 (mt_J19_rightOfN htr) rfl rfl ⟨⟨(Nat.le_of_ble_eq_true rfl), (Nat.le_of_ble_eq_true rfl)⟩, (Nat.le_of_ble_eq_true rfl), (Nat.le_of_ble_eq_true rfl), (Nat.le_of_ble_eq_true rfl)⟩ (fun v231 z231 q231 => ?_) (fun _ _ _ h => h.elim)
                    obtain ⟨rfl, rfl⟩ := q231
                    refine ri_callS C km_J19_colorOf q1125 dJ19_fixAfterDeletion_234 (mt_J19_colorOfN htr) rfl rfl ⟨⟨(Nat.le_of_ble_eq_true rfl), (Nat.le_of_ble_eq_true rfl)⟩, (Nat.le_of_ble_eq_true rfl), (Nat.le_of_ble_eq_true rfl), (Nat.le_of_ble_eq_true rfl)⟩ (fun v234 z234 q234 => ?_) (fun _ _ _ h => h.elim)
                    obtain ⟨rfl, rfl⟩ := q234
                    refine ri_iconst C dJ19_fixAfterDeletion_237 kc_i1 ?_
                    refine ri_icmp_ne C 265 dJ19_fixAfterDeletion_238 rfl (fun h238 => ?_) (fun h238 => ?_)
                    · exact absurd rfl h238
                    · refine ri_aload_nN C dJ19_fixAfterDeletion_241 rfl ?_
                      refine ri_callS C km_J19_leftOf q1119 dJ19_fixAfterDeletion_242 (mt_J19_leftOfN htr) rfl rfl ⟨⟨(Nat.le_of_ble_eq_true rfl), (Nat.le_of_ble_eq_true rfl)⟩, (Nat.le_of_ble_eq_true rfl), (Nat.le_of_ble_eq_true rfl), (Nat.le_of_ble_eq_true rfl)⟩ (fun v242 z242 q242 => ?_) (fun _ _ _ h => h.elim)
                      obtain ⟨rfl, rfl⟩ := q242
                      refine ri_callS C km_J19_colorOf q1125 dJ19_fixAfterDeletion_245 (mt_J19_colorOfN htr) rfl rfl ⟨⟨(Nat.le_of_ble_eq_true rfl), (Nat.le_of_ble_eq_true rfl)⟩, (Nat.le_of_ble_eq_true rfl), (Nat.le_of_ble_eq_true rfl), (Nat.le_of_ble_eq_true rfl)⟩ (fun v245 z245 q245 => ?_) (fun _ _ _ h => h.elim)
                      obtain ⟨rfl, rfl⟩ := q245
                      refine ri_iconst C dJ19_fixAfterDeletion_248 kc_i1 ?_
                      refine ri_icmp_ne C 265 dJ19_fixAfterDeletion_249 rfl (fun h249 => ?_) (fun h249 => ?_)
                      · exact absurd rfl h249
                      · refine ri_aload_nN C dJ19_fixAfterDeletion_252 rfl ?_
                        refine ri_iconst C dJ19_fixAfterDeletion_253 kc_i0 ?_
                        refine ri_callS C km_J19_setColor q1128 dJ19_fixAfterDeletion_254 (mt_J19_setColorN htr) rfl rfl ⟨⟨(Nat.le_of_ble_eq_true rfl), (Nat.le_of_ble_eq_true rfl)⟩, (Nat.le_of_ble_eq_true rfl), (Nat.le_of_ble_eq_true rfl), (Nat.le_of_ble_eq_true rfl)⟩ (fun v254 z254 q254 => ?_) (fun _ _ _ h => h.elim)
                        obtain ⟨rfl, rfl⟩ := q254
                        refine ri_aload_n C dJ19_fixAfterDeletion_257 rfl ?_
                        refine ri_callS C km_J19_parentOf q1116 dJ19_fixAfterDeletion_258 (mt_J19_parentOfR htr (y := (some pn)) f1047_xa) rfl rfl ⟨⟨(Nat.le_of_ble_eq_true rfl), (Nat.le_of_ble_eq_true rfl)⟩, (Nat.le_of_ble_eq_true rfl), (Nat.le_of_ble_eq_true rfl), (Nat.le_of_ble_eq_true rfl)⟩ (fun v258 z258 q258 => ?_) (fun _ _ _ h => h.elim)
                        obtain ⟨rfl, rfl⟩ := q258
                        refine ri_astore_n (x := pn) C dJ19_fixAfterDeletion_261 rfl (by decide) ?_
                        refine ri_goto C 342 dJ19_fixAfterDeletion_262 rfl ?_
                        refine ri_goto C 0 dJ19_fixAfterDeletion_342 rfl ?_
                        refine ri_lv2 (ih (i + 1) ((false, sbn, sbl) :: Bx) pn tt_n (.branch xa xl xr) _ _ (by omega) (by omega) ⟨h1047, ⟨A ++ [(false, pn, tt_n)], by rw [tt_p_a, ← hA] <;> rfl⟩, i1047, F1047, ?_⟩) ⟨rfl, rfl, trivial⟩
                        first
                          | exact Or.inl (by simp only [List.length_cons, List.length_nil] at hln ⊢; omega)
                          | exact Or.inr ⟨by simp only [List.length_cons, List.length_nil] at hln; omega, Or.inr rfl⟩
                          | exact Or.inr ⟨by simp only [List.length_cons, List.length_nil] at hln; omega, Or.inl (by simp [tm_c])⟩
                  · have h1048 : tm_H z226 ct mp (tt_p Bx (.branch sbn sbl (.branch pn (.branch sbrn sbrl sbrr) (.branch xa xl xr)))) K V (tm_c (tm_c D1 sbn (nI 1)) pn (nI 0)) vals sz md := h1046
                    have i1048 : tt_i (tt_p Bx (.branch sbn sbl (.branch pn (.branch sbrn sbrl sbrr) (.branch xa xl xr)))) = L0 := i1046
                    have F1048 := F1046
                    have nd1048 := h1048.2.2.1
                    obtain ⟨⟨f1048_sbn, f1048_sbl, ⟨f1048_pn, ⟨f1048_sbrn, f1048_sbrl, f1048_sbrr⟩, ⟨f1048_xa, f1048_xl, f1048_xr⟩⟩⟩, fK1048⟩ := (tt_H_p Bx (.branch sbn sbl (.branch pn (.branch sbrn sbrl sbrr) (.branch xa xl xr)))).mp h1048.2.1
                    refine ri_callS C km_J19_rightOf q1122 dJ19_fixAfterDeletion_231 (mt_J19_rightOfR htr (y := (tt_r sbrr)) f1048_sbrn) rfl rfl ⟨⟨(Nat.le_of_ble_eq_true rfl), (Nat.le_of_ble_eq_true rfl)⟩, (Nat.le_of_ble_eq_true rfl), (Nat.le_of_ble_eq_true rfl), (Nat.le_of_ble_eq_true rfl)⟩ (fun v231 z231 q231 => ?_) (fun _ _ _ h => h.elim)
                    obtain ⟨rfl, rfl⟩ := q231
                    rcases sbrr with ⟨_⟩ | ⟨sbrrn, sbrrl, sbrrr⟩
                    · have h1049 : tm_H z231 ct mp (tt_p Bx (.branch sbn sbl (.branch pn (.branch sbrn sbrl tt_n) (.branch xa xl xr)))) K V (tm_c (tm_c D1 sbn (nI 1)) pn (nI 0)) vals sz md := h1048
                      have i1049 : tt_i (tt_p Bx (.branch sbn sbl (.branch pn (.branch sbrn sbrl tt_n) (.branch xa xl xr)))) = L0 := i1048
                      have F1049 := F1048
                      obtain ⟨⟨f1049_sbn, f1049_sbl, ⟨f1049_pn, ⟨f1049_sbrn, f1049_sbrl, -⟩, ⟨f1049_xa, f1049_xl, f1049_xr⟩⟩⟩, fK1049⟩ := (tt_H_p Bx (.branch sbn sbl (.branch pn (.branch sbrn sbrl tt_n) (.branch xa xl xr)))).mp h1049.2.1
                      refine ri_callS C km_J19_colorOf q1125 dJ19_fixAfterDeletion_234 (mt_J19_colorOfN htr) rfl rfl ⟨⟨(Nat.le_of_ble_eq_true rfl), (Nat.le_of_ble_eq_true rfl)⟩, (Nat.le_of_ble_eq_true rfl), (Nat.le_of_ble_eq_true rfl), (Nat.le_of_ble_eq_true rfl)⟩ (fun v234 z234 q234 => ?_) (fun _ _ _ h => h.elim)
                      obtain ⟨rfl, rfl⟩ := q234
                      refine ri_iconst C dJ19_fixAfterDeletion_237 kc_i1 ?_
                      refine ri_icmp_ne C 265 dJ19_fixAfterDeletion_238 rfl (fun h238 => ?_) (fun h238 => ?_)
                      · exact absurd rfl h238
                      · refine ri_aload_n C dJ19_fixAfterDeletion_241 rfl ?_
                        refine ri_callS C km_J19_leftOf q1119 dJ19_fixAfterDeletion_242 (mt_J19_leftOfR htr (y := (tt_r sbrl)) f1049_sbrn) rfl rfl ⟨⟨(Nat.le_of_ble_eq_true rfl), (Nat.le_of_ble_eq_true rfl)⟩, (Nat.le_of_ble_eq_true rfl), (Nat.le_of_ble_eq_true rfl), (Nat.le_of_ble_eq_true rfl)⟩ (fun v242 z242 q242 => ?_) (fun _ _ _ h => h.elim)
                        obtain ⟨rfl, rfl⟩ := q242
                        rcases sbrl with ⟨_⟩ | ⟨sbrln, sbrll, sbrlr⟩
                        · have h1050 : tm_H z242 ct mp (tt_p Bx (.branch sbn sbl (.branch pn (.branch sbrn tt_n tt_n) (.branch xa xl xr)))) K V (tm_c (tm_c D1 sbn (nI 1)) pn (nI 0)) vals sz md := h1049
                          have i1050 : tt_i (tt_p Bx (.branch sbn sbl (.branch pn (.branch sbrn tt_n tt_n) (.branch xa xl xr)))) = L0 := i1049
                          have F1050 := F1049
                          obtain ⟨⟨f1050_sbn, f1050_sbl, ⟨f1050_pn, ⟨f1050_sbrn, -, -⟩, ⟨f1050_xa, f1050_xl, f1050_xr⟩⟩⟩, fK1050⟩ := (tt_H_p Bx (.branch sbn sbl (.branch pn (.branch sbrn tt_n tt_n) (.branch xa xl xr)))).mp h1050.2.1
                          refine ri_callS C km_J19_colorOf q1125 dJ19_fixAfterDeletion_245 (mt_J19_colorOfN htr) rfl rfl ⟨⟨(Nat.le_of_ble_eq_true rfl), (Nat.le_of_ble_eq_true rfl)⟩, (Nat.le_of_ble_eq_true rfl), (Nat.le_of_ble_eq_true rfl), (Nat.le_of_ble_eq_true rfl)⟩ (fun v245 z245 q245 => ?_) (fun _ _ _ h => h.elim)
                          obtain ⟨rfl, rfl⟩ := q245
                          refine ri_iconst C dJ19_fixAfterDeletion_248 kc_i1 ?_
                          refine ri_icmp_ne C 265 dJ19_fixAfterDeletion_249 rfl (fun h249 => ?_) (fun h249 => ?_)
                          · exact absurd rfl h249
                          · refine ri_aload_n C dJ19_fixAfterDeletion_252 rfl ?_
                            refine ri_iconst C dJ19_fixAfterDeletion_253 kc_i0 ?_
                            refine ri_callS C km_J19_setColor q1128 dJ19_fixAfterDeletion_254 (mt_J19_setColorT htr h1050 (an := sbrn) (by simp [tt_i_p, tt_p, tt_i]) (Or.inl rfl)) rfl rfl ⟨⟨(Nat.le_of_ble_eq_true rfl), (Nat.le_of_ble_eq_true rfl)⟩, (Nat.le_of_ble_eq_true rfl), (Nat.le_of_ble_eq_true rfl), (Nat.le_of_ble_eq_true rfl)⟩ (fun v254 z254 q254 => ?_) (fun _ _ _ h => h.elim)
                            obtain ⟨rfl, h1051, e1051⟩ := q254
                            rw [i1050] at e1051
                            have i1051 := i1050
                            have F1051 := kx_Fr.tr F1050 e1051
                            obtain ⟨⟨f1051_sbn, f1051_sbl, ⟨f1051_pn, ⟨f1051_sbrn, -, -⟩, ⟨f1051_xa, f1051_xl, f1051_xr⟩⟩⟩, fK1051⟩ := (tt_H_p Bx (.branch sbn sbl (.branch pn (.branch sbrn tt_n tt_n) (.branch xa xl xr)))).mp h1051.2.1
                            refine ri_aload_n C dJ19_fixAfterDeletion_257 rfl ?_
                            refine ri_callS C km_J19_parentOf q1116 dJ19_fixAfterDeletion_258 (mt_J19_parentOfR htr (y := (some pn)) f1051_xa) rfl rfl ⟨⟨(Nat.le_of_ble_eq_true rfl), (Nat.le_of_ble_eq_true rfl)⟩, (Nat.le_of_ble_eq_true rfl), (Nat.le_of_ble_eq_true rfl), (Nat.le_of_ble_eq_true rfl)⟩ (fun v258 z258 q258 => ?_) (fun _ _ _ h => h.elim)
                            obtain ⟨rfl, rfl⟩ := q258
                            refine ri_astore_n (x := pn) C dJ19_fixAfterDeletion_261 rfl (by decide) ?_
                            refine ri_goto C 342 dJ19_fixAfterDeletion_262 rfl ?_
                            refine ri_goto C 0 dJ19_fixAfterDeletion_342 rfl ?_
                            refine ri_lv2 (ih (i + 1) ((false, sbn, sbl) :: Bx) pn (.branch sbrn tt_n tt_n) (.branch xa xl xr) _ _ (by omega) (by omega) ⟨h1051, ⟨A ++ [(false, pn, (.branch sbrn tt_n tt_n))], by rw [tt_p_a, ← hA] <;> rfl⟩, i1051, F1051, ?_⟩) ⟨rfl, rfl, trivial⟩
                            first
                              | exact Or.inl (by simp only [List.length_cons, List.length_nil] at hln ⊢; omega)
                              | exact Or.inr ⟨by simp only [List.length_cons, List.length_nil] at hln; omega, Or.inr rfl⟩
                              | exact Or.inr ⟨by simp only [List.length_cons, List.length_nil] at hln; omega, Or.inl (by simp [tm_c])⟩
                        · have h1052 : tm_H z242 ct mp (tt_p Bx (.branch sbn sbl (.branch pn (.branch sbrn (.branch sbrln sbrll sbrlr) tt_n) (.branch xa xl xr)))) K V (tm_c (tm_c D1 sbn (nI 1)) pn (nI 0)) vals sz md := h1049
                          have i1052 : tt_i (tt_p Bx (.branch sbn sbl (.branch pn (.branch sbrn (.branch sbrln sbrll sbrlr) tt_n) (.branch xa xl xr)))) = L0 := i1049
                          have F1052 := F1049
                          have nd1052 := h1052.2.2.1
                          obtain ⟨⟨f1052_sbn, f1052_sbl, ⟨f1052_pn, ⟨f1052_sbrn, ⟨f1052_sbrln, f1052_sbrll, f1052_sbrlr⟩, -⟩, ⟨f1052_xa, f1052_xl, f1052_xr⟩⟩⟩, fK1052⟩ := (tt_H_p Bx (.branch sbn sbl (.branch pn (.branch sbrn (.branch sbrln sbrll sbrlr) tt_n) (.branch xa xl xr)))).mp h1052.2.1
                          refine ri_callS C km_J19_colorOf q1125 dJ19_fixAfterDeletion_245 (mt_J19_colorOfR htr f1052_sbrln (h1052.2.2.2 sbrln)) rfl rfl ⟨⟨(Nat.le_of_ble_eq_true rfl), (Nat.le_of_ble_eq_true rfl)⟩, (Nat.le_of_ble_eq_true rfl), (Nat.le_of_ble_eq_true rfl), (Nat.le_of_ble_eq_true rfl)⟩ (fun v245 z245 q245 => ?_) (fun _ _ _ h => h.elim)
                          obtain ⟨rfl, rfl⟩ := q245
                          refine ri_iconst C dJ19_fixAfterDeletion_248 kc_i1 ?_
                          refine ri_icmp_ne C 265 dJ19_fixAfterDeletion_249 rfl (fun h249 => ?_) (fun h249 => ?_)
                          · refine ri_aload_n C dJ19_fixAfterDeletion_265 rfl ?_
                            refine ri_callS C km_J19_leftOf q1119 dJ19_fixAfterDeletion_266 (mt_J19_leftOfR htr (y := (some sbrln)) f1052_sbrn) rfl rfl ⟨⟨(Nat.le_of_ble_eq_true rfl), (Nat.le_of_ble_eq_true rfl)⟩, (Nat.le_of_ble_eq_true rfl), (Nat.le_of_ble_eq_true rfl), (Nat.le_of_ble_eq_true rfl)⟩ (fun v266 z266 q266 => ?_) (fun _ _ _ h => h.elim)
                            obtain ⟨rfl, rfl⟩ := q266
                            refine ri_callS C km_J19_colorOf q1125 dJ19_fixAfterDeletion_269 (mt_J19_colorOfR htr f1052_sbrln (h1052.2.2.2 sbrln)) rfl rfl ⟨⟨(Nat.le_of_ble_eq_true rfl), (Nat.le_of_ble_eq_true rfl)⟩, (Nat.le_of_ble_eq_true rfl), (Nat.le_of_ble_eq_true rfl), (Nat.le_of_ble_eq_true rfl)⟩ (fun v269 z269 q269 => ?_) (fun _ _ _ h => h.elim)
                            obtain ⟨rfl, rfl⟩ := q269
                            refine ri_iconst C dJ19_fixAfterDeletion_272 kc_i1 ?_
                            refine ri_icmp_ne C 302 dJ19_fixAfterDeletion_273 rfl (fun h273 => ?_) (fun h273 => ?_)
                            · refine ri_aload_n C dJ19_fixAfterDeletion_302 rfl ?_
                              refine ri_aload_n C dJ19_fixAfterDeletion_303 rfl ?_
                              refine ri_callS C km_J19_parentOf q1116 dJ19_fixAfterDeletion_304 (mt_J19_parentOfR htr (y := (some pn)) f1052_xa) rfl rfl ⟨⟨(Nat.le_of_ble_eq_true rfl), (Nat.le_of_ble_eq_true rfl)⟩, (Nat.le_of_ble_eq_true rfl), (Nat.le_of_ble_eq_true rfl), (Nat.le_of_ble_eq_true rfl)⟩ (fun v304 z304 q304 => ?_) (fun _ _ _ h => h.elim)
                              obtain ⟨rfl, rfl⟩ := q304
                              refine ri_callS C km_J19_colorOf q1125 dJ19_fixAfterDeletion_307 (mt_J19_colorOfR htr f1052_pn (h1052.2.2.2 pn)) rfl rfl ⟨⟨(Nat.le_of_ble_eq_true rfl), (Nat.le_of_ble_eq_true rfl)⟩, (Nat.le_of_ble_eq_true rfl), (Nat.le_of_ble_eq_true rfl), (Nat.le_of_ble_eq_true rfl)⟩ (fun v307 z307 q307 => ?_) (fun _ _ _ h => h.elim)
                              obtain ⟨rfl, rfl⟩ := q307
                              refine ri_callS C km_J19_setColor q1128 dJ19_fixAfterDeletion_310 (mt_J19_setColorT htr h1052 (an := sbrn) (by simp [tt_i_p, tt_p, tt_i]) (h1052.2.2.2 _)) rfl rfl ⟨⟨(Nat.le_of_ble_eq_true rfl), (Nat.le_of_ble_eq_true rfl)⟩, (Nat.le_of_ble_eq_true rfl), (Nat.le_of_ble_eq_true rfl), (Nat.le_of_ble_eq_true rfl)⟩ (fun v310 z310 q310 => ?_) (fun _ _ _ h => h.elim)
                              obtain ⟨rfl, h1053, e1053⟩ := q310
                              rw [i1052] at e1053
                              have i1053 := i1052
                              have F1053 := kx_Fr.tr F1052 e1053
                              obtain ⟨⟨f1053_sbn, f1053_sbl, ⟨f1053_pn, ⟨f1053_sbrn, ⟨f1053_sbrln, f1053_sbrll, f1053_sbrlr⟩, -⟩, ⟨f1053_xa, f1053_xl, f1053_xr⟩⟩⟩, fK1053⟩ := (tt_H_p Bx (.branch sbn sbl (.branch pn (.branch sbrn (.branch sbrln sbrll sbrlr) tt_n) (.branch xa xl xr)))).mp h1053.2.1
                              refine ri_aload_n C dJ19_fixAfterDeletion_313 rfl ?_
                              refine ri_callS C km_J19_parentOf q1116 dJ19_fixAfterDeletion_314 (mt_J19_parentOfR htr (y := (some pn)) f1053_xa) rfl rfl ⟨⟨(Nat.le_of_ble_eq_true rfl), (Nat.le_of_ble_eq_true rfl)⟩, (Nat.le_of_ble_eq_true rfl), (Nat.le_of_ble_eq_true rfl), (Nat.le_of_ble_eq_true rfl)⟩ (fun v314 z314 q314 => ?_) (fun _ _ _ h => h.elim)
                              obtain ⟨rfl, rfl⟩ := q314
                              refine ri_iconst C dJ19_fixAfterDeletion_317 kc_i1 ?_
                              refine ri_callS C km_J19_setColor q1128 dJ19_fixAfterDeletion_318 (mt_J19_setColorT htr h1053 (an := pn) (by simp [tt_i_p, tt_p, tt_i]) (Or.inr rfl)) rfl rfl ⟨⟨(Nat.le_of_ble_eq_true rfl), (Nat.le_of_ble_eq_true rfl)⟩, (Nat.le_of_ble_eq_true rfl), (Nat.le_of_ble_eq_true rfl), (Nat.le_of_ble_eq_true rfl)⟩ (fun v318 z318 q318 => ?_) (fun _ _ _ h => h.elim)
                              obtain ⟨rfl, h1054, e1054⟩ := q318
                              rw [i1053] at e1054
                              have i1054 := i1053
                              have F1054 := kx_Fr.tr F1053 e1054
                              obtain ⟨⟨f1054_sbn, f1054_sbl, ⟨f1054_pn, ⟨f1054_sbrn, ⟨f1054_sbrln, f1054_sbrll, f1054_sbrlr⟩, -⟩, ⟨f1054_xa, f1054_xl, f1054_xr⟩⟩⟩, fK1054⟩ := (tt_H_p Bx (.branch sbn sbl (.branch pn (.branch sbrn (.branch sbrln sbrll sbrlr) tt_n) (.branch xa xl xr)))).mp h1054.2.1
                              refine ri_aload_n C dJ19_fixAfterDeletion_321 rfl ?_
                              refine ri_callS C km_J19_leftOf q1119 dJ19_fixAfterDeletion_322 (mt_J19_leftOfR htr (y := (some sbrln)) f1054_sbrn) rfl rfl ⟨⟨(Nat.le_of_ble_eq_true rfl), (Nat.le_of_ble_eq_true rfl)⟩, (Nat.le_of_ble_eq_true rfl), (Nat.le_of_ble_eq_true rfl), (Nat.le_of_ble_eq_true rfl)⟩ (fun v322 z322 q322 => ?_) (fun _ _ _ h => h.elim)
                              obtain ⟨rfl, rfl⟩ := q322
                              refine ri_iconst C dJ19_fixAfterDeletion_325 kc_i1 ?_
                              refine ri_callS C km_J19_setColor q1128 dJ19_fixAfterDeletion_326 (mt_J19_setColorT htr h1054 (an := sbrln) (by simp [tt_i_p, tt_p, tt_i]) (Or.inr rfl)) rfl rfl ⟨⟨(Nat.le_of_ble_eq_true rfl), (Nat.le_of_ble_eq_true rfl)⟩, (Nat.le_of_ble_eq_true rfl), (Nat.le_of_ble_eq_true rfl), (Nat.le_of_ble_eq_true rfl)⟩ (fun v326 z326 q326 => ?_) (fun _ _ _ h => h.elim)
                              obtain ⟨rfl, h1055, e1055⟩ := q326
                              rw [i1054] at e1055
                              have i1055 := i1054
                              have F1055 := kx_Fr.tr F1054 e1055
                              obtain ⟨⟨f1055_sbn, f1055_sbl, ⟨f1055_pn, ⟨f1055_sbrn, ⟨f1055_sbrln, f1055_sbrll, f1055_sbrlr⟩, -⟩, ⟨f1055_xa, f1055_xl, f1055_xr⟩⟩⟩, fK1055⟩ := (tt_H_p Bx (.branch sbn sbl (.branch pn (.branch sbrn (.branch sbrln sbrll sbrlr) tt_n) (.branch xa xl xr)))).mp h1055.2.1
                              refine ri_aload_n C dJ19_fixAfterDeletion_329 rfl ?_
                              refine ri_aload_n C dJ19_fixAfterDeletion_330 rfl ?_
                              refine ri_callS C km_J19_parentOf q1116 dJ19_fixAfterDeletion_331 (mt_J19_parentOfR htr (y := (some pn)) f1055_xa) rfl rfl ⟨⟨(Nat.le_of_ble_eq_true rfl), (Nat.le_of_ble_eq_true rfl)⟩, (Nat.le_of_ble_eq_true rfl), (Nat.le_of_ble_eq_true rfl), (Nat.le_of_ble_eq_true rfl)⟩ (fun v331 z331 q331 => ?_) (fun _ _ _ h => h.elim)
                              obtain ⟨rfl, rfl⟩ := q331
                              refine ri_callV C km_J19_rotateRight q1135 qs10 dJ19_fixAfterDeletion_334 (mt_J19_rotateRight htr (Bx := ((false, sbn, sbl) :: Bx)) (pn := pn) (rn := sbrn) (ta := (.branch xa xl xr)) (tb := tt_n) (td := (.branch sbrln sbrll sbrlr)) h1055) rfl rfl (kx_rcN C h1055.1 rfl) ⟨⟨(Nat.le_of_ble_eq_true rfl), (Nat.le_of_ble_eq_true rfl)⟩, (Nat.le_of_ble_eq_true rfl), (Nat.le_of_ble_eq_true rfl), (Nat.le_of_ble_eq_true rfl)⟩ (fun v334 z334 q334 => ?_) (fun _ _ _ h => h.elim)
                              obtain ⟨rfl, H1056, e1056⟩ := q334
                              have h1056 : tm_H z334 ct mp (tt_p Bx (.branch sbn sbl (.branch sbrn (.branch sbrln sbrll sbrlr) (.branch pn tt_n (.branch xa xl xr))))) K V (tm_c (tm_c (tm_c (tm_c (tm_c D1 sbn (nI 1)) pn (nI 0)) sbrn ((tm_c (tm_c D1 sbn (nI 1)) pn (nI 0)) pn)) pn (nI 1)) sbrln (nI 1)) vals sz md := H1056
                              have e1056 : kx_Fr (tm_T ct (tt_i (tt_p Bx (.branch sbn sbl (.branch pn (.branch sbrn (.branch sbrln sbrll sbrlr) tt_n) (.branch xa xl xr)))))) z331 z334 := e1056
                              rw [i1055] at e1056
                              have i1056 : tt_i (tt_p Bx (.branch sbn sbl (.branch sbrn (.branch sbrln sbrll sbrlr) (.branch pn tt_n (.branch xa xl xr))))) = L0 := (by rw [← i1055]; simp [tt_i_p, tt_p, tt_i])
                              have F1056 := kx_Fr.tr F1055 e1056
                              obtain ⟨⟨f1056_sbn, f1056_sbl, ⟨f1056_sbrn, ⟨f1056_sbrln, f1056_sbrll, f1056_sbrlr⟩, ⟨f1056_pn, -, ⟨f1056_xa, f1056_xl, f1056_xr⟩⟩⟩⟩, fK1056⟩ := (tt_H_p Bx (.branch sbn sbl (.branch sbrn (.branch sbrln sbrll sbrlr) (.branch pn tt_n (.branch xa xl xr))))).mp h1056.2.1
                              refine ri_aload_n C dJ19_fixAfterDeletion_337 rfl ?_
                              refine ri_getf C dJ19_fixAfterDeletion_338 fr_q577_18 h1056.1 (by rfl) ?_
                              refine ri_astore_nQ (x := (tt_r (tt_p Bx (.branch sbn sbl (.branch sbrn (.branch sbrln sbrll sbrlr) (.branch pn tt_n (.branch xa xl xr))))))) C dJ19_fixAfterDeletion_341 rfl (by decide) ?_
                              refine ri_goto C 0 dJ19_fixAfterDeletion_342 rfl ?_
                              obtain ⟨rn9, rl9, rr9, hr9⟩ : ∃ rn rl rr, (tt_p Bx (.branch sbn sbl (.branch sbrn (.branch sbrln sbrll sbrlr) (.branch pn tt_n (.branch xa xl xr))))) = .branch rn rl rr := tt_rt Bx
                              have hh9 : tm_H z334 ct mp (tt_p [] (.branch rn9 rl9 rr9)) K V (tm_c (tm_c (tm_c (tm_c (tm_c D1 sbn (nI 1)) pn (nI 0)) sbrn ((tm_c (tm_c D1 sbn (nI 1)) pn (nI 0)) pn)) pn (nI 1)) sbrln (nI 1)) vals sz md := (by show tm_H _ _ _ (.branch rn9 rl9 rr9) _ _ _ _ _ _; rw [← hr9]; exact h1056)
                              have ii9 : tt_i (tt_p [] (.branch rn9 rl9 rr9)) = L0 := (by show tt_i (.branch rn9 rl9 rr9) = L0; rw [← hr9]; exact i1056)
                              rw [hr9]
                              refine ri_lv2 (ih (i + 1) [] rn9 rl9 rr9 _ _ (by omega) (by omega) ⟨hh9, ⟨A ++ ((false, pn, tt_n) :: (false, sbrn, (.branch sbrln sbrll sbrlr)) :: (false, sbn, sbl) :: Bx), by rw [tt_p_a, ← hA, ← hr9] <;> rfl⟩, ii9, F1056, ?_⟩) ⟨rfl, rfl, trivial⟩
                              first
                                | exact Or.inl (by simp only [List.length_cons, List.length_nil] at hln ⊢; omega)
                                | exact Or.inr ⟨by simp only [List.length_cons, List.length_nil] at hln; omega, Or.inr rfl⟩
                                | exact Or.inr ⟨by simp only [List.length_cons, List.length_nil] at hln; omega, Or.inl (by simp [tm_c])⟩
                            · exact absurd h273 h249
                          · refine ri_aload_n C dJ19_fixAfterDeletion_252 rfl ?_
                            refine ri_iconst C dJ19_fixAfterDeletion_253 kc_i0 ?_
                            refine ri_callS C km_J19_setColor q1128 dJ19_fixAfterDeletion_254 (mt_J19_setColorT htr h1052 (an := sbrn) (by simp [tt_i_p, tt_p, tt_i]) (Or.inl rfl)) rfl rfl ⟨⟨(Nat.le_of_ble_eq_true rfl), (Nat.le_of_ble_eq_true rfl)⟩, (Nat.le_of_ble_eq_true rfl), (Nat.le_of_ble_eq_true rfl), (Nat.le_of_ble_eq_true rfl)⟩ (fun v254 z254 q254 => ?_) (fun _ _ _ h => h.elim)
                            obtain ⟨rfl, h1057, e1057⟩ := q254
                            rw [i1052] at e1057
                            have i1057 := i1052
                            have F1057 := kx_Fr.tr F1052 e1057
                            obtain ⟨⟨f1057_sbn, f1057_sbl, ⟨f1057_pn, ⟨f1057_sbrn, ⟨f1057_sbrln, f1057_sbrll, f1057_sbrlr⟩, -⟩, ⟨f1057_xa, f1057_xl, f1057_xr⟩⟩⟩, fK1057⟩ := (tt_H_p Bx (.branch sbn sbl (.branch pn (.branch sbrn (.branch sbrln sbrll sbrlr) tt_n) (.branch xa xl xr)))).mp h1057.2.1
                            refine ri_aload_n C dJ19_fixAfterDeletion_257 rfl ?_
                            refine ri_callS C km_J19_parentOf q1116 dJ19_fixAfterDeletion_258 (mt_J19_parentOfR htr (y := (some pn)) f1057_xa) rfl rfl ⟨⟨(Nat.le_of_ble_eq_true rfl), (Nat.le_of_ble_eq_true rfl)⟩, (Nat.le_of_ble_eq_true rfl), (Nat.le_of_ble_eq_true rfl), (Nat.le_of_ble_eq_true rfl)⟩ (fun v258 z258 q258 => ?_) (fun _ _ _ h => h.elim)
                            obtain ⟨rfl, rfl⟩ := q258
                            refine ri_astore_n (x := pn) C dJ19_fixAfterDeletion_261 rfl (by decide) ?_
                            refine ri_goto C 342 dJ19_fixAfterDeletion_262 rfl ?_
                            refine ri_goto C 0 dJ19_fixAfterDeletion_342 rfl ?_
                            refine ri_lv2 (ih (i + 1) ((false, sbn, sbl) :: Bx) pn (.branch sbrn (.branch sbrln sbrll sbrlr) tt_n) (.branch xa xl xr) _ _ (by omega) (by omega) ⟨h1057, ⟨A ++ [(false, pn, (.branch sbrn (.branch sbrln sbrll sbrlr) tt_n))], by rw [tt_p_a, ← hA] <;> rfl⟩, i1057, F1057, ?_⟩) ⟨rfl, rfl, trivial⟩
                            first
                              | exact Or.inl (by simp only [List.length_cons, List.length_nil] at hln ⊢; omega)
                              | exact Or.inr ⟨by simp only [List.length_cons, List.length_nil] at hln; omega, Or.inr rfl⟩
                              | exact Or.inr ⟨by simp only [List.length_cons, List.length_nil] at hln; omega, Or.inl (by simp [tm_c])⟩
                    · have h1058 : tm_H z231 ct mp (tt_p Bx (.branch sbn sbl (.branch pn (.branch sbrn sbrl (.branch sbrrn sbrrl sbrrr)) (.branch xa xl xr)))) K V (tm_c (tm_c D1 sbn (nI 1)) pn (nI 0)) vals sz md := h1048
                      have i1058 : tt_i (tt_p Bx (.branch sbn sbl (.branch pn (.branch sbrn sbrl (.branch sbrrn sbrrl sbrrr)) (.branch xa xl xr)))) = L0 := i1048
                      have F1058 := F1048
                      have nd1058 := h1058.2.2.1
                      obtain ⟨⟨f1058_sbn, f1058_sbl, ⟨f1058_pn, ⟨f1058_sbrn, f1058_sbrl, ⟨f1058_sbrrn, f1058_sbrrl, f1058_sbrrr⟩⟩, ⟨f1058_xa, f1058_xl, f1058_xr⟩⟩⟩, fK1058⟩ := (tt_H_p Bx (.branch sbn sbl (.branch pn (.branch sbrn sbrl (.branch sbrrn sbrrl sbrrr)) (.branch xa xl xr)))).mp h1058.2.1
                      refine ri_callS C km_J19_colorOf q1125 dJ19_fixAfterDeletion_234 (mt_J19_colorOfR htr f1058_sbrrn (h1058.2.2.2 sbrrn)) rfl rfl ⟨⟨(Nat.le_of_ble_eq_true rfl), (Nat.le_of_ble_eq_true rfl)⟩, (Nat.le_of_ble_eq_true rfl), (Nat.le_of_ble_eq_true rfl), (Nat.le_of_ble_eq_true rfl)⟩ (fun v234 z234 q234 => ?_) (fun _ _ _ h => h.elim)
                      obtain ⟨rfl, rfl⟩ := q234
                      refine ri_iconst C dJ19_fixAfterDeletion_237 kc_i1 ?_
                      refine ri_icmp_ne C 265 dJ19_fixAfterDeletion_238 rfl (fun h238 => ?_) (fun h238 => ?_)
                      · refine ri_aload_n C dJ19_fixAfterDeletion_265 rfl ?_
                        refine ri_callS C km_J19_leftOf q1119 dJ19_fixAfterDeletion_266 (mt_J19_leftOfR htr (y := (tt_r sbrl)) f1058_sbrn) rfl rfl ⟨⟨(Nat.le_of_ble_eq_true rfl), (Nat.le_of_ble_eq_true rfl)⟩, (Nat.le_of_ble_eq_true rfl), (Nat.le_of_ble_eq_true rfl), (Nat.le_of_ble_eq_true rfl)⟩ (fun v266 z266 q266 => ?_) (fun _ _ _ h => h.elim)
                        obtain ⟨rfl, rfl⟩ := q266
                        rcases sbrl with ⟨_⟩ | ⟨sbrln, sbrll, sbrlr⟩
                        · have h1059 : tm_H z266 ct mp (tt_p Bx (.branch sbn sbl (.branch pn (.branch sbrn tt_n (.branch sbrrn sbrrl sbrrr)) (.branch xa xl xr)))) K V (tm_c (tm_c D1 sbn (nI 1)) pn (nI 0)) vals sz md := h1058
                          have i1059 : tt_i (tt_p Bx (.branch sbn sbl (.branch pn (.branch sbrn tt_n (.branch sbrrn sbrrl sbrrr)) (.branch xa xl xr)))) = L0 := i1058
                          have F1059 := F1058
                          obtain ⟨⟨f1059_sbn, f1059_sbl, ⟨f1059_pn, ⟨f1059_sbrn, -, ⟨f1059_sbrrn, f1059_sbrrl, f1059_sbrrr⟩⟩, ⟨f1059_xa, f1059_xl, f1059_xr⟩⟩⟩, fK1059⟩ := (tt_H_p Bx (.branch sbn sbl (.branch pn (.branch sbrn tt_n (.branch sbrrn sbrrl sbrrr)) (.branch xa xl xr)))).mp h1059.2.1
                          refine ri_callS C km_J19_colorOf q1125 dJ19_fixAfterDeletion_269 (mt_J19_colorOfN htr) rfl rfl ⟨⟨(Nat.le_of_ble_eq_true rfl), (Nat.le_of_ble_eq_true rfl)⟩, (Nat.le_of_ble_eq_true rfl), (Nat.le_of_ble_eq_true rfl), (Nat.le_of_ble_eq_true rfl)⟩ (fun v269 z269 q269 => ?_) (fun _ _ _ h => h.elim)
                          obtain ⟨rfl, rfl⟩ := q269
                          refine ri_iconst C dJ19_fixAfterDeletion_272 kc_i1 ?_
                          refine ri_icmp_ne C 302 dJ19_fixAfterDeletion_273 rfl (fun h273 => ?_) (fun h273 => ?_)
                          · exact absurd rfl h273
                          · refine ri_aload_n C dJ19_fixAfterDeletion_276 rfl ?_
                            refine ri_callS C km_J19_rightOf q1122 dJ19_fixAfterDeletion_277 (mt_J19_rightOfR htr (y := (some sbrrn)) f1059_sbrn) rfl rfl ⟨⟨(Nat.le_of_ble_eq_true rfl), (Nat.le_of_ble_eq_true rfl)⟩, (Nat.le_of_ble_eq_true rfl), (Nat.le_of_ble_eq_true rfl), (Nat.le_of_ble_eq_true rfl)⟩ (fun v277 z277 q277 => ?_) (fun _ _ _ h => h.elim)
                            obtain ⟨rfl, rfl⟩ := q277
                            refine ri_iconst C dJ19_fixAfterDeletion_280 kc_i1 ?_
                            refine ri_callS C km_J19_setColor q1128 dJ19_fixAfterDeletion_281 (mt_J19_setColorT htr h1059 (an := sbrrn) (by simp [tt_i_p, tt_p, tt_i]) (Or.inr rfl)) rfl rfl ⟨⟨(Nat.le_of_ble_eq_true rfl), (Nat.le_of_ble_eq_true rfl)⟩, (Nat.le_of_ble_eq_true rfl), (Nat.le_of_ble_eq_true rfl), (Nat.le_of_ble_eq_true rfl)⟩ (fun v281 z281 q281 => ?_) (fun _ _ _ h => h.elim)
                            obtain ⟨rfl, h1060, e1060⟩ := q281
                            rw [i1059] at e1060
                            have i1060 := i1059
                            have F1060 := kx_Fr.tr F1059 e1060
                            obtain ⟨⟨f1060_sbn, f1060_sbl, ⟨f1060_pn, ⟨f1060_sbrn, -, ⟨f1060_sbrrn, f1060_sbrrl, f1060_sbrrr⟩⟩, ⟨f1060_xa, f1060_xl, f1060_xr⟩⟩⟩, fK1060⟩ := (tt_H_p Bx (.branch sbn sbl (.branch pn (.branch sbrn tt_n (.branch sbrrn sbrrl sbrrr)) (.branch xa xl xr)))).mp h1060.2.1
                            refine ri_aload_n C dJ19_fixAfterDeletion_284 rfl ?_
                            refine ri_iconst C dJ19_fixAfterDeletion_285 kc_i0 ?_
                            refine ri_callS C km_J19_setColor q1128 dJ19_fixAfterDeletion_286 (mt_J19_setColorT htr h1060 (an := sbrn) (by simp [tt_i_p, tt_p, tt_i]) (Or.inl rfl)) rfl rfl ⟨⟨(Nat.le_of_ble_eq_true rfl), (Nat.le_of_ble_eq_true rfl)⟩, (Nat.le_of_ble_eq_true rfl), (Nat.le_of_ble_eq_true rfl), (Nat.le_of_ble_eq_true rfl)⟩ (fun v286 z286 q286 => ?_) (fun _ _ _ h => h.elim)
                            obtain ⟨rfl, h1061, e1061⟩ := q286
                            rw [i1060] at e1061
                            have i1061 := i1060
                            have F1061 := kx_Fr.tr F1060 e1061
                            obtain ⟨⟨f1061_sbn, f1061_sbl, ⟨f1061_pn, ⟨f1061_sbrn, -, ⟨f1061_sbrrn, f1061_sbrrl, f1061_sbrrr⟩⟩, ⟨f1061_xa, f1061_xl, f1061_xr⟩⟩⟩, fK1061⟩ := (tt_H_p Bx (.branch sbn sbl (.branch pn (.branch sbrn tt_n (.branch sbrrn sbrrl sbrrr)) (.branch xa xl xr)))).mp h1061.2.1
                            refine ri_aload_n C dJ19_fixAfterDeletion_289 rfl ?_
                            refine ri_aload_n C dJ19_fixAfterDeletion_290 rfl ?_
                            refine ri_callV C km_J19_rotateLeft q1131 qs9 dJ19_fixAfterDeletion_291 (mt_J19_rotateLeft htr (Bx := ((true, pn, (.branch xa xl xr)) :: (false, sbn, sbl) :: Bx)) (pn := sbrn) (rn := sbrrn) (ta := tt_n) (tb := sbrrl) (td := sbrrr) h1061) rfl rfl (kx_rcN C h1061.1 rfl) ⟨⟨(Nat.le_of_ble_eq_true rfl), (Nat.le_of_ble_eq_true rfl)⟩, (Nat.le_of_ble_eq_true rfl), (Nat.le_of_ble_eq_true rfl), (Nat.le_of_ble_eq_true rfl)⟩ (fun v291 z291 q291 => ?_) (fun _ _ _ h => h.elim)
                            obtain ⟨rfl, H1062, e1062⟩ := q291
                            have h1062 : tm_H z291 ct mp (tt_p Bx (.branch sbn sbl (.branch pn (.branch sbrrn (.branch sbrn tt_n sbrrl) sbrrr) (.branch xa xl xr)))) K V (tm_c (tm_c (tm_c (tm_c D1 sbn (nI 1)) pn (nI 0)) sbrrn (nI 1)) sbrn (nI 0)) vals sz md := H1062
                            have e1062 : kx_Fr (tm_T ct (tt_i (tt_p Bx (.branch sbn sbl (.branch pn (.branch sbrn tt_n (.branch sbrrn sbrrl sbrrr)) (.branch xa xl xr)))))) z286 z291 := e1062
                            rw [i1061] at e1062
                            have i1062 : tt_i (tt_p Bx (.branch sbn sbl (.branch pn (.branch sbrrn (.branch sbrn tt_n sbrrl) sbrrr) (.branch xa xl xr)))) = L0 := (by rw [← i1061]; simp [tt_i_p, tt_p, tt_i])
                            have F1062 := kx_Fr.tr F1061 e1062
                            obtain ⟨⟨f1062_sbn, f1062_sbl, ⟨f1062_pn, ⟨f1062_sbrrn, ⟨f1062_sbrn, -, f1062_sbrrl⟩, f1062_sbrrr⟩, ⟨f1062_xa, f1062_xl, f1062_xr⟩⟩⟩, fK1062⟩ := (tt_H_p Bx (.branch sbn sbl (.branch pn (.branch sbrrn (.branch sbrn tt_n sbrrl) sbrrr) (.branch xa xl xr)))).mp h1062.2.1
                            refine ri_aload_n C dJ19_fixAfterDeletion_294 rfl ?_
                            refine ri_callS C km_J19_parentOf q1116 dJ19_fixAfterDeletion_295 (mt_J19_parentOfR htr (y := (some pn)) f1062_xa) rfl rfl ⟨⟨(Nat.le_of_ble_eq_true rfl), (Nat.le_of_ble_eq_true rfl)⟩, (Nat.le_of_ble_eq_true rfl), (Nat.le_of_ble_eq_true rfl), (Nat.le_of_ble_eq_true rfl)⟩ (fun v295 z295 q295 => ?_) (fun _ _ _ h => h.elim)
                            obtain ⟨rfl, rfl⟩ := q295
                            refine ri_callS C km_J19_leftOf q1119 dJ19_fixAfterDeletion_298 (mt_J19_leftOfR htr (y := (some sbrrn)) f1062_pn) rfl rfl ⟨⟨(Nat.le_of_ble_eq_true rfl), (Nat.le_of_ble_eq_true rfl)⟩, (Nat.le_of_ble_eq_true rfl), (Nat.le_of_ble_eq_true rfl), (Nat.le_of_ble_eq_true rfl)⟩ (fun v298 z298 q298 => ?_) (fun _ _ _ h => h.elim)
                            obtain ⟨rfl, rfl⟩ := q298
                            refine ri_astore_n (x := sbrrn) C dJ19_fixAfterDeletion_301 rfl (by decide) ?_
                            refine ri_aload_n C dJ19_fixAfterDeletion_302 rfl ?_
                            refine ri_aload_n C dJ19_fixAfterDeletion_303 rfl ?_
                            refine ri_callS C km_J19_parentOf q1116 dJ19_fixAfterDeletion_304 (mt_J19_parentOfR htr (y := (some pn)) f1062_xa) rfl rfl ⟨⟨(Nat.le_of_ble_eq_true rfl), (Nat.le_of_ble_eq_true rfl)⟩, (Nat.le_of_ble_eq_true rfl), (Nat.le_of_ble_eq_true rfl), (Nat.le_of_ble_eq_true rfl)⟩ (fun v304 z304 q304 => ?_) (fun _ _ _ h => h.elim)
                            obtain ⟨rfl, rfl⟩ := q304
                            refine ri_callS C km_J19_colorOf q1125 dJ19_fixAfterDeletion_307 (mt_J19_colorOfR htr f1062_pn (h1062.2.2.2 pn)) rfl rfl ⟨⟨(Nat.le_of_ble_eq_true rfl), (Nat.le_of_ble_eq_true rfl)⟩, (Nat.le_of_ble_eq_true rfl), (Nat.le_of_ble_eq_true rfl), (Nat.le_of_ble_eq_true rfl)⟩ (fun v307 z307 q307 => ?_) (fun _ _ _ h => h.elim)
                            obtain ⟨rfl, rfl⟩ := q307
                            refine ri_callS C km_J19_setColor q1128 dJ19_fixAfterDeletion_310 (mt_J19_setColorT htr h1062 (an := sbrrn) (by simp [tt_i_p, tt_p, tt_i]) (h1062.2.2.2 _)) rfl rfl ⟨⟨(Nat.le_of_ble_eq_true rfl), (Nat.le_of_ble_eq_true rfl)⟩, (Nat.le_of_ble_eq_true rfl), (Nat.le_of_ble_eq_true rfl), (Nat.le_of_ble_eq_true rfl)⟩ (fun v310 z310 q310 => ?_) (fun _ _ _ h => h.elim)
                            obtain ⟨rfl, h1063, e1063⟩ := q310
                            rw [i1062] at e1063
                            have i1063 := i1062
                            have F1063 := kx_Fr.tr F1062 e1063
                            obtain ⟨⟨f1063_sbn, f1063_sbl, ⟨f1063_pn, ⟨f1063_sbrrn, ⟨f1063_sbrn, -, f1063_sbrrl⟩, f1063_sbrrr⟩, ⟨f1063_xa, f1063_xl, f1063_xr⟩⟩⟩, fK1063⟩ := (tt_H_p Bx (.branch sbn sbl (.branch pn (.branch sbrrn (.branch sbrn tt_n sbrrl) sbrrr) (.branch xa xl xr)))).mp h1063.2.1
                            refine ri_aload_n C dJ19_fixAfterDeletion_313 rfl ?_
                            refine ri_callS C km_J19_parentOf q1116 dJ19_fixAfterDeletion_314 (mt_J19_parentOfR htr (y := (some pn)) f1063_xa) rfl rfl ⟨⟨(Nat.le_of_ble_eq_true rfl), (Nat.le_of_ble_eq_true rfl)⟩, (Nat.le_of_ble_eq_true rfl), (Nat.le_of_ble_eq_true rfl), (Nat.le_of_ble_eq_true rfl)⟩ (fun v314 z314 q314 => ?_) (fun _ _ _ h => h.elim)
                            obtain ⟨rfl, rfl⟩ := q314
                            refine ri_iconst C dJ19_fixAfterDeletion_317 kc_i1 ?_
                            refine ri_callS C km_J19_setColor q1128 dJ19_fixAfterDeletion_318 (mt_J19_setColorT htr h1063 (an := pn) (by simp [tt_i_p, tt_p, tt_i]) (Or.inr rfl)) rfl rfl ⟨⟨(Nat.le_of_ble_eq_true rfl), (Nat.le_of_ble_eq_true rfl)⟩, (Nat.le_of_ble_eq_true rfl), (Nat.le_of_ble_eq_true rfl), (Nat.le_of_ble_eq_true rfl)⟩ (fun v318 z318 q318 => ?_) (fun _ _ _ h => h.elim)
                            obtain ⟨rfl, h1064, e1064⟩ := q318
                            rw [i1063] at e1064
                            have i1064 := i1063
                            have F1064 := kx_Fr.tr F1063 e1064
                            obtain ⟨⟨f1064_sbn, f1064_sbl, ⟨f1064_pn, ⟨f1064_sbrrn, ⟨f1064_sbrn, -, f1064_sbrrl⟩, f1064_sbrrr⟩, ⟨f1064_xa, f1064_xl, f1064_xr⟩⟩⟩, fK1064⟩ := (tt_H_p Bx (.branch sbn sbl (.branch pn (.branch sbrrn (.branch sbrn tt_n sbrrl) sbrrr) (.branch xa xl xr)))).mp h1064.2.1
                            refine ri_aload_n C dJ19_fixAfterDeletion_321 rfl ?_
                            refine ri_callS C km_J19_leftOf q1119 dJ19_fixAfterDeletion_322 (mt_J19_leftOfR htr (y := (some sbrn)) f1064_sbrrn) rfl rfl ⟨⟨(Nat.le_of_ble_eq_true rfl), (Nat.le_of_ble_eq_true rfl)⟩, (Nat.le_of_ble_eq_true rfl), (Nat.le_of_ble_eq_true rfl), (Nat.le_of_ble_eq_true rfl)⟩ (fun v322 z322 q322 => ?_) (fun _ _ _ h => h.elim)
                            obtain ⟨rfl, rfl⟩ := q322
                            refine ri_iconst C dJ19_fixAfterDeletion_325 kc_i1 ?_
                            refine ri_callS C km_J19_setColor q1128 dJ19_fixAfterDeletion_326 (mt_J19_setColorT htr h1064 (an := sbrn) (by simp [tt_i_p, tt_p, tt_i]) (Or.inr rfl)) rfl rfl ⟨⟨(Nat.le_of_ble_eq_true rfl), (Nat.le_of_ble_eq_true rfl)⟩, (Nat.le_of_ble_eq_true rfl), (Nat.le_of_ble_eq_true rfl), (Nat.le_of_ble_eq_true rfl)⟩ (fun v326 z326 q326 => ?_) (fun _ _ _ h => h.elim)
                            obtain ⟨rfl, h1065, e1065⟩ := q326
                            rw [i1064] at e1065
                            have i1065 := i1064
                            have F1065 := kx_Fr.tr F1064 e1065
                            obtain ⟨⟨f1065_sbn, f1065_sbl, ⟨f1065_pn, ⟨f1065_sbrrn, ⟨f1065_sbrn, -, f1065_sbrrl⟩, f1065_sbrrr⟩, ⟨f1065_xa, f1065_xl, f1065_xr⟩⟩⟩, fK1065⟩ := (tt_H_p Bx (.branch sbn sbl (.branch pn (.branch sbrrn (.branch sbrn tt_n sbrrl) sbrrr) (.branch xa xl xr)))).mp h1065.2.1
                            refine ri_aload_n C dJ19_fixAfterDeletion_329 rfl ?_
                            refine ri_aload_n C dJ19_fixAfterDeletion_330 rfl ?_
                            refine ri_callS C km_J19_parentOf q1116 dJ19_fixAfterDeletion_331 (mt_J19_parentOfR htr (y := (some pn)) f1065_xa) rfl rfl ⟨⟨(Nat.le_of_ble_eq_true rfl), (Nat.le_of_ble_eq_true rfl)⟩, (Nat.le_of_ble_eq_true rfl), (Nat.le_of_ble_eq_true rfl), (Nat.le_of_ble_eq_true rfl)⟩ (fun v331 z331 q331 => ?_) (fun _ _ _ h => h.elim)
                            obtain ⟨rfl, rfl⟩ := q331
                            refine ri_callV C km_J19_rotateRight q1135 qs10 dJ19_fixAfterDeletion_334 (mt_J19_rotateRight htr (Bx := ((false, sbn, sbl) :: Bx)) (pn := pn) (rn := sbrrn) (ta := (.branch xa xl xr)) (tb := sbrrr) (td := (.branch sbrn tt_n sbrrl)) h1065) rfl rfl (kx_rcN C h1065.1 rfl) ⟨⟨(Nat.le_of_ble_eq_true rfl), (Nat.le_of_ble_eq_true rfl)⟩, (Nat.le_of_ble_eq_true rfl), (Nat.le_of_ble_eq_true rfl), (Nat.le_of_ble_eq_true rfl)⟩ (fun v334 z334 q334 => ?_) (fun _ _ _ h => h.elim)
                            obtain ⟨rfl, H1066, e1066⟩ := q334
                            have h1066 : tm_H z334 ct mp (tt_p Bx (.branch sbn sbl (.branch sbrrn (.branch sbrn tt_n sbrrl) (.branch pn sbrrr (.branch xa xl xr))))) K V (tm_c (tm_c (tm_c (tm_c (tm_c (tm_c (tm_c D1 sbn (nI 1)) pn (nI 0)) sbrrn (nI 1)) sbrn (nI 0)) sbrrn ((tm_c (tm_c (tm_c (tm_c D1 sbn (nI 1)) pn (nI 0)) sbrrn (nI 1)) sbrn (nI 0)) pn)) pn (nI 1)) sbrn (nI 1)) vals sz md := H1066
                            have e1066 : kx_Fr (tm_T ct (tt_i (tt_p Bx (.branch sbn sbl (.branch pn (.branch sbrrn (.branch sbrn tt_n sbrrl) sbrrr) (.branch xa xl xr)))))) z331 z334 := e1066
                            rw [i1065] at e1066
                            have i1066 : tt_i (tt_p Bx (.branch sbn sbl (.branch sbrrn (.branch sbrn tt_n sbrrl) (.branch pn sbrrr (.branch xa xl xr))))) = L0 := (by rw [← i1065]; simp [tt_i_p, tt_p, tt_i])
                            have F1066 := kx_Fr.tr F1065 e1066
                            obtain ⟨⟨f1066_sbn, f1066_sbl, ⟨f1066_sbrrn, ⟨f1066_sbrn, -, f1066_sbrrl⟩, ⟨f1066_pn, f1066_sbrrr, ⟨f1066_xa, f1066_xl, f1066_xr⟩⟩⟩⟩, fK1066⟩ := (tt_H_p Bx (.branch sbn sbl (.branch sbrrn (.branch sbrn tt_n sbrrl) (.branch pn sbrrr (.branch xa xl xr))))).mp h1066.2.1
                            refine ri_aload_n C dJ19_fixAfterDeletion_337 rfl ?_
                            refine ri_getf C dJ19_fixAfterDeletion_338 fr_q577_18 h1066.1 (by rfl) ?_
                            refine ri_astore_nQ (x := (tt_r (tt_p Bx (.branch sbn sbl (.branch sbrrn (.branch sbrn tt_n sbrrl) (.branch pn sbrrr (.branch xa xl xr))))))) C dJ19_fixAfterDeletion_341 rfl (by decide) ?_
                            refine ri_goto C 0 dJ19_fixAfterDeletion_342 rfl ?_
                            obtain ⟨rn9, rl9, rr9, hr9⟩ : ∃ rn rl rr, (tt_p Bx (.branch sbn sbl (.branch sbrrn (.branch sbrn tt_n sbrrl) (.branch pn sbrrr (.branch xa xl xr))))) = .branch rn rl rr := tt_rt Bx
                            have hh9 : tm_H z334 ct mp (tt_p [] (.branch rn9 rl9 rr9)) K V (tm_c (tm_c (tm_c (tm_c (tm_c (tm_c (tm_c D1 sbn (nI 1)) pn (nI 0)) sbrrn (nI 1)) sbrn (nI 0)) sbrrn ((tm_c (tm_c (tm_c (tm_c D1 sbn (nI 1)) pn (nI 0)) sbrrn (nI 1)) sbrn (nI 0)) pn)) pn (nI 1)) sbrn (nI 1)) vals sz md := (by show tm_H _ _ _ (.branch rn9 rl9 rr9) _ _ _ _ _ _; rw [← hr9]; exact h1066)
                            have ii9 : tt_i (tt_p [] (.branch rn9 rl9 rr9)) = L0 := (by show tt_i (.branch rn9 rl9 rr9) = L0; rw [← hr9]; exact i1066)
                            rw [hr9]
                            refine ri_lv2 (ih (i + 1) [] rn9 rl9 rr9 _ _ (by omega) (by omega) ⟨hh9, ⟨A ++ ((false, pn, sbrrr) :: (false, sbrrn, (.branch sbrn tt_n sbrrl)) :: (false, sbn, sbl) :: Bx), by rw [tt_p_a, ← hA, ← hr9] <;> rfl⟩, ii9, F1066, ?_⟩) ⟨rfl, rfl, trivial⟩
                            first
                              | exact Or.inl (by simp only [List.length_cons, List.length_nil] at hln ⊢; omega)
                              | exact Or.inr ⟨by simp only [List.length_cons, List.length_nil] at hln; omega, Or.inr rfl⟩
                              | exact Or.inr ⟨by simp only [List.length_cons, List.length_nil] at hln; omega, Or.inl (by simp [tm_c])⟩
                        · have h1067 : tm_H z266 ct mp (tt_p Bx (.branch sbn sbl (.branch pn (.branch sbrn (.branch sbrln sbrll sbrlr) (.branch sbrrn sbrrl sbrrr)) (.branch xa xl xr)))) K V (tm_c (tm_c D1 sbn (nI 1)) pn (nI 0)) vals sz md := h1058
                          have i1067 : tt_i (tt_p Bx (.branch sbn sbl (.branch pn (.branch sbrn (.branch sbrln sbrll sbrlr) (.branch sbrrn sbrrl sbrrr)) (.branch xa xl xr)))) = L0 := i1058
                          have F1067 := F1058
                          have nd1067 := h1067.2.2.1
                          obtain ⟨⟨f1067_sbn, f1067_sbl, ⟨f1067_pn, ⟨f1067_sbrn, ⟨f1067_sbrln, f1067_sbrll, f1067_sbrlr⟩, ⟨f1067_sbrrn, f1067_sbrrl, f1067_sbrrr⟩⟩, ⟨f1067_xa, f1067_xl, f1067_xr⟩⟩⟩, fK1067⟩ := (tt_H_p Bx (.branch sbn sbl (.branch pn (.branch sbrn (.branch sbrln sbrll sbrlr) (.branch sbrrn sbrrl sbrrr)) (.branch xa xl xr)))).mp h1067.2.1
                          refine ri_callS C km_J19_colorOf q1125 dJ19_fixAfterDeletion_269 (mt_J19_colorOfR htr f1067_sbrln (h1067.2.2.2 sbrln)) rfl rfl ⟨⟨(Nat.le_of_ble_eq_true rfl), (Nat.le_of_ble_eq_true rfl)⟩, (Nat.le_of_ble_eq_true rfl), (Nat.le_of_ble_eq_true rfl), (Nat.le_of_ble_eq_true rfl)⟩ (fun v269 z269 q269 => ?_) (fun _ _ _ h => h.elim)
                          obtain ⟨rfl, rfl⟩ := q269
                          refine ri_iconst C dJ19_fixAfterDeletion_272 kc_i1 ?_
                          refine ri_icmp_ne C 302 dJ19_fixAfterDeletion_273 rfl (fun h273 => ?_) (fun h273 => ?_)
                          · refine ri_aload_n C dJ19_fixAfterDeletion_302 rfl ?_
                            refine ri_aload_n C dJ19_fixAfterDeletion_303 rfl ?_
                            refine ri_callS C km_J19_parentOf q1116 dJ19_fixAfterDeletion_304 (mt_J19_parentOfR htr (y := (some pn)) f1067_xa) rfl rfl ⟨⟨(Nat.le_of_ble_eq_true rfl), (Nat.le_of_ble_eq_true rfl)⟩, (Nat.le_of_ble_eq_true rfl), (Nat.le_of_ble_eq_true rfl), (Nat.le_of_ble_eq_true rfl)⟩ (fun v304 z304 q304 => ?_) (fun _ _ _ h => h.elim)
                            obtain ⟨rfl, rfl⟩ := q304
                            refine ri_callS C km_J19_colorOf q1125 dJ19_fixAfterDeletion_307 (mt_J19_colorOfR htr f1067_pn (h1067.2.2.2 pn)) rfl rfl ⟨⟨(Nat.le_of_ble_eq_true rfl), (Nat.le_of_ble_eq_true rfl)⟩, (Nat.le_of_ble_eq_true rfl), (Nat.le_of_ble_eq_true rfl), (Nat.le_of_ble_eq_true rfl)⟩ (fun v307 z307 q307 => ?_) (fun _ _ _ h => h.elim)
                            obtain ⟨rfl, rfl⟩ := q307
                            refine ri_callS C km_J19_setColor q1128 dJ19_fixAfterDeletion_310 (mt_J19_setColorT htr h1067 (an := sbrn) (by simp [tt_i_p, tt_p, tt_i]) (h1067.2.2.2 _)) rfl rfl ⟨⟨(Nat.le_of_ble_eq_true rfl), (Nat.le_of_ble_eq_true rfl)⟩, (Nat.le_of_ble_eq_true rfl), (Nat.le_of_ble_eq_true rfl), (Nat.le_of_ble_eq_true rfl)⟩ (fun v310 z310 q310 => ?_) (fun _ _ _ h => h.elim)
                            obtain ⟨rfl, h1068, e1068⟩ := q310
                            rw [i1067] at e1068
                            have i1068 := i1067
                            have F1068 := kx_Fr.tr F1067 e1068
                            obtain ⟨⟨f1068_sbn, f1068_sbl, ⟨f1068_pn, ⟨f1068_sbrn, ⟨f1068_sbrln, f1068_sbrll, f1068_sbrlr⟩, ⟨f1068_sbrrn, f1068_sbrrl, f1068_sbrrr⟩⟩, ⟨f1068_xa, f1068_xl, f1068_xr⟩⟩⟩, fK1068⟩ := (tt_H_p Bx (.branch sbn sbl (.branch pn (.branch sbrn (.branch sbrln sbrll sbrlr) (.branch sbrrn sbrrl sbrrr)) (.branch xa xl xr)))).mp h1068.2.1
                            refine ri_aload_n C dJ19_fixAfterDeletion_313 rfl ?_
                            refine ri_callS C km_J19_parentOf q1116 dJ19_fixAfterDeletion_314 (mt_J19_parentOfR htr (y := (some pn)) f1068_xa) rfl rfl ⟨⟨(Nat.le_of_ble_eq_true rfl), (Nat.le_of_ble_eq_true rfl)⟩, (Nat.le_of_ble_eq_true rfl), (Nat.le_of_ble_eq_true rfl), (Nat.le_of_ble_eq_true rfl)⟩ (fun v314 z314 q314 => ?_) (fun _ _ _ h => h.elim)
                            obtain ⟨rfl, rfl⟩ := q314
                            refine ri_iconst C dJ19_fixAfterDeletion_317 kc_i1 ?_
                            refine ri_callS C km_J19_setColor q1128 dJ19_fixAfterDeletion_318 (mt_J19_setColorT htr h1068 (an := pn) (by simp [tt_i_p, tt_p, tt_i]) (Or.inr rfl)) rfl rfl ⟨⟨(Nat.le_of_ble_eq_true rfl), (Nat.le_of_ble_eq_true rfl)⟩, (Nat.le_of_ble_eq_true rfl), (Nat.le_of_ble_eq_true rfl), (Nat.le_of_ble_eq_true rfl)⟩ (fun v318 z318 q318 => ?_) (fun _ _ _ h => h.elim)
                            obtain ⟨rfl, h1069, e1069⟩ := q318
                            rw [i1068] at e1069
                            have i1069 := i1068
                            have F1069 := kx_Fr.tr F1068 e1069
                            obtain ⟨⟨f1069_sbn, f1069_sbl, ⟨f1069_pn, ⟨f1069_sbrn, ⟨f1069_sbrln, f1069_sbrll, f1069_sbrlr⟩, ⟨f1069_sbrrn, f1069_sbrrl, f1069_sbrrr⟩⟩, ⟨f1069_xa, f1069_xl, f1069_xr⟩⟩⟩, fK1069⟩ := (tt_H_p Bx (.branch sbn sbl (.branch pn (.branch sbrn (.branch sbrln sbrll sbrlr) (.branch sbrrn sbrrl sbrrr)) (.branch xa xl xr)))).mp h1069.2.1
                            refine ri_aload_n C dJ19_fixAfterDeletion_321 rfl ?_
                            refine ri_callS C km_J19_leftOf q1119 dJ19_fixAfterDeletion_322 (mt_J19_leftOfR htr (y := (some sbrln)) f1069_sbrn) rfl rfl ⟨⟨(Nat.le_of_ble_eq_true rfl), (Nat.le_of_ble_eq_true rfl)⟩, (Nat.le_of_ble_eq_true rfl), (Nat.le_of_ble_eq_true rfl), (Nat.le_of_ble_eq_true rfl)⟩ (fun v322 z322 q322 => ?_) (fun _ _ _ h => h.elim)
                            obtain ⟨rfl, rfl⟩ := q322
                            refine ri_iconst C dJ19_fixAfterDeletion_325 kc_i1 ?_
                            refine ri_callS C km_J19_setColor q1128 dJ19_fixAfterDeletion_326 (mt_J19_setColorT htr h1069 (an := sbrln) (by simp [tt_i_p, tt_p, tt_i]) (Or.inr rfl)) rfl rfl ⟨⟨(Nat.le_of_ble_eq_true rfl), (Nat.le_of_ble_eq_true rfl)⟩, (Nat.le_of_ble_eq_true rfl), (Nat.le_of_ble_eq_true rfl), (Nat.le_of_ble_eq_true rfl)⟩ (fun v326 z326 q326 => ?_) (fun _ _ _ h => h.elim)
                            obtain ⟨rfl, h1070, e1070⟩ := q326
                            rw [i1069] at e1070
                            have i1070 := i1069
                            have F1070 := kx_Fr.tr F1069 e1070
                            obtain ⟨⟨f1070_sbn, f1070_sbl, ⟨f1070_pn, ⟨f1070_sbrn, ⟨f1070_sbrln, f1070_sbrll, f1070_sbrlr⟩, ⟨f1070_sbrrn, f1070_sbrrl, f1070_sbrrr⟩⟩, ⟨f1070_xa, f1070_xl, f1070_xr⟩⟩⟩, fK1070⟩ := (tt_H_p Bx (.branch sbn sbl (.branch pn (.branch sbrn (.branch sbrln sbrll sbrlr) (.branch sbrrn sbrrl sbrrr)) (.branch xa xl xr)))).mp h1070.2.1
                            refine ri_aload_n C dJ19_fixAfterDeletion_329 rfl ?_
                            refine ri_aload_n C dJ19_fixAfterDeletion_330 rfl ?_
                            refine ri_callS C km_J19_parentOf q1116 dJ19_fixAfterDeletion_331 (mt_J19_parentOfR htr (y := (some pn)) f1070_xa) rfl rfl ⟨⟨(Nat.le_of_ble_eq_true rfl), (Nat.le_of_ble_eq_true rfl)⟩, (Nat.le_of_ble_eq_true rfl), (Nat.le_of_ble_eq_true rfl), (Nat.le_of_ble_eq_true rfl)⟩ (fun v331 z331 q331 => ?_) (fun _ _ _ h => h.elim)
                            obtain ⟨rfl, rfl⟩ := q331
                            refine ri_callV C km_J19_rotateRight q1135 qs10 dJ19_fixAfterDeletion_334 (mt_J19_rotateRight htr (Bx := ((false, sbn, sbl) :: Bx)) (pn := pn) (rn := sbrn) (ta := (.branch xa xl xr)) (tb := (.branch sbrrn sbrrl sbrrr)) (td := (.branch sbrln sbrll sbrlr)) h1070) rfl rfl (kx_rcN C h1070.1 rfl) ⟨⟨(Nat.le_of_ble_eq_true rfl), (Nat.le_of_ble_eq_true rfl)⟩, (Nat.le_of_ble_eq_true rfl), (Nat.le_of_ble_eq_true rfl), (Nat.le_of_ble_eq_true rfl)⟩ (fun v334 z334 q334 => ?_) (fun _ _ _ h => h.elim)
                            obtain ⟨rfl, H1071, e1071⟩ := q334
                            have h1071 : tm_H z334 ct mp (tt_p Bx (.branch sbn sbl (.branch sbrn (.branch sbrln sbrll sbrlr) (.branch pn (.branch sbrrn sbrrl sbrrr) (.branch xa xl xr))))) K V (tm_c (tm_c (tm_c (tm_c (tm_c D1 sbn (nI 1)) pn (nI 0)) sbrn ((tm_c (tm_c D1 sbn (nI 1)) pn (nI 0)) pn)) pn (nI 1)) sbrln (nI 1)) vals sz md := H1071
                            have e1071 : kx_Fr (tm_T ct (tt_i (tt_p Bx (.branch sbn sbl (.branch pn (.branch sbrn (.branch sbrln sbrll sbrlr) (.branch sbrrn sbrrl sbrrr)) (.branch xa xl xr)))))) z331 z334 := e1071
                            rw [i1070] at e1071
                            have i1071 : tt_i (tt_p Bx (.branch sbn sbl (.branch sbrn (.branch sbrln sbrll sbrlr) (.branch pn (.branch sbrrn sbrrl sbrrr) (.branch xa xl xr))))) = L0 := (by rw [← i1070]; simp [tt_i_p, tt_p, tt_i])
                            have F1071 := kx_Fr.tr F1070 e1071
                            obtain ⟨⟨f1071_sbn, f1071_sbl, ⟨f1071_sbrn, ⟨f1071_sbrln, f1071_sbrll, f1071_sbrlr⟩, ⟨f1071_pn, ⟨f1071_sbrrn, f1071_sbrrl, f1071_sbrrr⟩, ⟨f1071_xa, f1071_xl, f1071_xr⟩⟩⟩⟩, fK1071⟩ := (tt_H_p Bx (.branch sbn sbl (.branch sbrn (.branch sbrln sbrll sbrlr) (.branch pn (.branch sbrrn sbrrl sbrrr) (.branch xa xl xr))))).mp h1071.2.1
                            refine ri_aload_n C dJ19_fixAfterDeletion_337 rfl ?_
                            refine ri_getf C dJ19_fixAfterDeletion_338 fr_q577_18 h1071.1 (by rfl) ?_
                            refine ri_astore_nQ (x := (tt_r (tt_p Bx (.branch sbn sbl (.branch sbrn (.branch sbrln sbrll sbrlr) (.branch pn (.branch sbrrn sbrrl sbrrr) (.branch xa xl xr))))))) C dJ19_fixAfterDeletion_341 rfl (by decide) ?_
                            refine ri_goto C 0 dJ19_fixAfterDeletion_342 rfl ?_
                            obtain ⟨rn9, rl9, rr9, hr9⟩ : ∃ rn rl rr, (tt_p Bx (.branch sbn sbl (.branch sbrn (.branch sbrln sbrll sbrlr) (.branch pn (.branch sbrrn sbrrl sbrrr) (.branch xa xl xr))))) = .branch rn rl rr := tt_rt Bx
                            have hh9 : tm_H z334 ct mp (tt_p [] (.branch rn9 rl9 rr9)) K V (tm_c (tm_c (tm_c (tm_c (tm_c D1 sbn (nI 1)) pn (nI 0)) sbrn ((tm_c (tm_c D1 sbn (nI 1)) pn (nI 0)) pn)) pn (nI 1)) sbrln (nI 1)) vals sz md := (by show tm_H _ _ _ (.branch rn9 rl9 rr9) _ _ _ _ _ _; rw [← hr9]; exact h1071)
                            have ii9 : tt_i (tt_p [] (.branch rn9 rl9 rr9)) = L0 := (by show tt_i (.branch rn9 rl9 rr9) = L0; rw [← hr9]; exact i1071)
                            rw [hr9]
                            refine ri_lv2 (ih (i + 1) [] rn9 rl9 rr9 _ _ (by omega) (by omega) ⟨hh9, ⟨A ++ ((false, pn, (.branch sbrrn sbrrl sbrrr)) :: (false, sbrn, (.branch sbrln sbrll sbrlr)) :: (false, sbn, sbl) :: Bx), by rw [tt_p_a, ← hA, ← hr9] <;> rfl⟩, ii9, F1071, ?_⟩) ⟨rfl, rfl, trivial⟩
                            first
                              | exact Or.inl (by simp only [List.length_cons, List.length_nil] at hln ⊢; omega)
                              | exact Or.inr ⟨by simp only [List.length_cons, List.length_nil] at hln; omega, Or.inr rfl⟩
                              | exact Or.inr ⟨by simp only [List.length_cons, List.length_nil] at hln; omega, Or.inl (by simp [tm_c])⟩
                          · refine ri_aload_n C dJ19_fixAfterDeletion_276 rfl ?_
                            refine ri_callS C km_J19_rightOf q1122 dJ19_fixAfterDeletion_277 (mt_J19_rightOfR htr (y := (some sbrrn)) f1067_sbrn) rfl rfl ⟨⟨(Nat.le_of_ble_eq_true rfl), (Nat.le_of_ble_eq_true rfl)⟩, (Nat.le_of_ble_eq_true rfl), (Nat.le_of_ble_eq_true rfl), (Nat.le_of_ble_eq_true rfl)⟩ (fun v277 z277 q277 => ?_) (fun _ _ _ h => h.elim)
                            obtain ⟨rfl, rfl⟩ := q277
                            refine ri_iconst C dJ19_fixAfterDeletion_280 kc_i1 ?_
                            refine ri_callS C km_J19_setColor q1128 dJ19_fixAfterDeletion_281 (mt_J19_setColorT htr h1067 (an := sbrrn) (by simp [tt_i_p, tt_p, tt_i]) (Or.inr rfl)) rfl rfl ⟨⟨(Nat.le_of_ble_eq_true rfl), (Nat.le_of_ble_eq_true rfl)⟩, (Nat.le_of_ble_eq_true rfl), (Nat.le_of_ble_eq_true rfl), (Nat.le_of_ble_eq_true rfl)⟩ (fun v281 z281 q281 => ?_) (fun _ _ _ h => h.elim)
                            obtain ⟨rfl, h1072, e1072⟩ := q281
                            rw [i1067] at e1072
                            have i1072 := i1067
                            have F1072 := kx_Fr.tr F1067 e1072
                            obtain ⟨⟨f1072_sbn, f1072_sbl, ⟨f1072_pn, ⟨f1072_sbrn, ⟨f1072_sbrln, f1072_sbrll, f1072_sbrlr⟩, ⟨f1072_sbrrn, f1072_sbrrl, f1072_sbrrr⟩⟩, ⟨f1072_xa, f1072_xl, f1072_xr⟩⟩⟩, fK1072⟩ := (tt_H_p Bx (.branch sbn sbl (.branch pn (.branch sbrn (.branch sbrln sbrll sbrlr) (.branch sbrrn sbrrl sbrrr)) (.branch xa xl xr)))).mp h1072.2.1
                            refine ri_aload_n C dJ19_fixAfterDeletion_284 rfl ?_
                            refine ri_iconst C dJ19_fixAfterDeletion_285 kc_i0 ?_
                            refine ri_callS C km_J19_setColor q1128 dJ19_fixAfterDeletion_286 (mt_J19_setColorT htr h1072 (an := sbrn) (by simp [tt_i_p, tt_p, tt_i]) (Or.inl rfl)) rfl rfl ⟨⟨(Nat.le_of_ble_eq_true rfl), (Nat.le_of_ble_eq_true rfl)⟩, (Nat.le_of_ble_eq_true rfl), (Nat.le_of_ble_eq_true rfl), (Nat.le_of_ble_eq_true rfl)⟩ (fun v286 z286 q286 => ?_) (fun _ _ _ h => h.elim)
                            obtain ⟨rfl, h1073, e1073⟩ := q286
                            rw [i1072] at e1073
                            have i1073 := i1072
                            have F1073 := kx_Fr.tr F1072 e1073
                            obtain ⟨⟨f1073_sbn, f1073_sbl, ⟨f1073_pn, ⟨f1073_sbrn, ⟨f1073_sbrln, f1073_sbrll, f1073_sbrlr⟩, ⟨f1073_sbrrn, f1073_sbrrl, f1073_sbrrr⟩⟩, ⟨f1073_xa, f1073_xl, f1073_xr⟩⟩⟩, fK1073⟩ := (tt_H_p Bx (.branch sbn sbl (.branch pn (.branch sbrn (.branch sbrln sbrll sbrlr) (.branch sbrrn sbrrl sbrrr)) (.branch xa xl xr)))).mp h1073.2.1
                            refine ri_aload_n C dJ19_fixAfterDeletion_289 rfl ?_
                            refine ri_aload_n C dJ19_fixAfterDeletion_290 rfl ?_
                            refine ri_callV C km_J19_rotateLeft q1131 qs9 dJ19_fixAfterDeletion_291 (mt_J19_rotateLeft htr (Bx := ((true, pn, (.branch xa xl xr)) :: (false, sbn, sbl) :: Bx)) (pn := sbrn) (rn := sbrrn) (ta := (.branch sbrln sbrll sbrlr)) (tb := sbrrl) (td := sbrrr) h1073) rfl rfl (kx_rcN C h1073.1 rfl) ⟨⟨(Nat.le_of_ble_eq_true rfl), (Nat.le_of_ble_eq_true rfl)⟩, (Nat.le_of_ble_eq_true rfl), (Nat.le_of_ble_eq_true rfl), (Nat.le_of_ble_eq_true rfl)⟩ (fun v291 z291 q291 => ?_) (fun _ _ _ h => h.elim)
                            obtain ⟨rfl, H1074, e1074⟩ := q291
                            have h1074 : tm_H z291 ct mp (tt_p Bx (.branch sbn sbl (.branch pn (.branch sbrrn (.branch sbrn (.branch sbrln sbrll sbrlr) sbrrl) sbrrr) (.branch xa xl xr)))) K V (tm_c (tm_c (tm_c (tm_c D1 sbn (nI 1)) pn (nI 0)) sbrrn (nI 1)) sbrn (nI 0)) vals sz md := H1074
                            have e1074 : kx_Fr (tm_T ct (tt_i (tt_p Bx (.branch sbn sbl (.branch pn (.branch sbrn (.branch sbrln sbrll sbrlr) (.branch sbrrn sbrrl sbrrr)) (.branch xa xl xr)))))) z286 z291 := e1074
                            rw [i1073] at e1074
                            have i1074 : tt_i (tt_p Bx (.branch sbn sbl (.branch pn (.branch sbrrn (.branch sbrn (.branch sbrln sbrll sbrlr) sbrrl) sbrrr) (.branch xa xl xr)))) = L0 := (by rw [← i1073]; simp [tt_i_p, tt_p, tt_i])
                            have F1074 := kx_Fr.tr F1073 e1074
                            obtain ⟨⟨f1074_sbn, f1074_sbl, ⟨f1074_pn, ⟨f1074_sbrrn, ⟨f1074_sbrn, ⟨f1074_sbrln, f1074_sbrll, f1074_sbrlr⟩, f1074_sbrrl⟩, f1074_sbrrr⟩, ⟨f1074_xa, f1074_xl, f1074_xr⟩⟩⟩, fK1074⟩ := (tt_H_p Bx (.branch sbn sbl (.branch pn (.branch sbrrn (.branch sbrn (.branch sbrln sbrll sbrlr) sbrrl) sbrrr) (.branch xa xl xr)))).mp h1074.2.1
                            refine ri_aload_n C dJ19_fixAfterDeletion_294 rfl ?_
                            refine ri_callS C km_J19_parentOf q1116 dJ19_fixAfterDeletion_295 (mt_J19_parentOfR htr (y := (some pn)) f1074_xa) rfl rfl ⟨⟨(Nat.le_of_ble_eq_true rfl), (Nat.le_of_ble_eq_true rfl)⟩, (Nat.le_of_ble_eq_true rfl), (Nat.le_of_ble_eq_true rfl), (Nat.le_of_ble_eq_true rfl)⟩ (fun v295 z295 q295 => ?_) (fun _ _ _ h => h.elim)
                            obtain ⟨rfl, rfl⟩ := q295
                            refine ri_callS C km_J19_leftOf q1119 dJ19_fixAfterDeletion_298 (mt_J19_leftOfR htr (y := (some sbrrn)) f1074_pn) rfl rfl ⟨⟨(Nat.le_of_ble_eq_true rfl), (Nat.le_of_ble_eq_true rfl)⟩, (Nat.le_of_ble_eq_true rfl), (Nat.le_of_ble_eq_true rfl), (Nat.le_of_ble_eq_true rfl)⟩ (fun v298 z298 q298 => ?_) (fun _ _ _ h => h.elim)
                            obtain ⟨rfl, rfl⟩ := q298
                            refine ri_astore_n (x := sbrrn) C dJ19_fixAfterDeletion_301 rfl (by decide) ?_
                            refine ri_aload_n C dJ19_fixAfterDeletion_302 rfl ?_
                            refine ri_aload_n C dJ19_fixAfterDeletion_303 rfl ?_
                            refine ri_callS C km_J19_parentOf q1116 dJ19_fixAfterDeletion_304 (mt_J19_parentOfR htr (y := (some pn)) f1074_xa) rfl rfl ⟨⟨(Nat.le_of_ble_eq_true rfl), (Nat.le_of_ble_eq_true rfl)⟩, (Nat.le_of_ble_eq_true rfl), (Nat.le_of_ble_eq_true rfl), (Nat.le_of_ble_eq_true rfl)⟩ (fun v304 z304 q304 => ?_) (fun _ _ _ h => h.elim)
                            obtain ⟨rfl, rfl⟩ := q304
                            refine ri_callS C km_J19_colorOf q1125 dJ19_fixAfterDeletion_307 (mt_J19_colorOfR htr f1074_pn (h1074.2.2.2 pn)) rfl rfl ⟨⟨(Nat.le_of_ble_eq_true rfl), (Nat.le_of_ble_eq_true rfl)⟩, (Nat.le_of_ble_eq_true rfl), (Nat.le_of_ble_eq_true rfl), (Nat.le_of_ble_eq_true rfl)⟩ (fun v307 z307 q307 => ?_) (fun _ _ _ h => h.elim)
                            obtain ⟨rfl, rfl⟩ := q307
                            refine ri_callS C km_J19_setColor q1128 dJ19_fixAfterDeletion_310 (mt_J19_setColorT htr h1074 (an := sbrrn) (by simp [tt_i_p, tt_p, tt_i]) (h1074.2.2.2 _)) rfl rfl ⟨⟨(Nat.le_of_ble_eq_true rfl), (Nat.le_of_ble_eq_true rfl)⟩, (Nat.le_of_ble_eq_true rfl), (Nat.le_of_ble_eq_true rfl), (Nat.le_of_ble_eq_true rfl)⟩ (fun v310 z310 q310 => ?_) (fun _ _ _ h => h.elim)
                            obtain ⟨rfl, h1075, e1075⟩ := q310
                            rw [i1074] at e1075
                            have i1075 := i1074
                            have F1075 := kx_Fr.tr F1074 e1075
                            obtain ⟨⟨f1075_sbn, f1075_sbl, ⟨f1075_pn, ⟨f1075_sbrrn, ⟨f1075_sbrn, ⟨f1075_sbrln, f1075_sbrll, f1075_sbrlr⟩, f1075_sbrrl⟩, f1075_sbrrr⟩, ⟨f1075_xa, f1075_xl, f1075_xr⟩⟩⟩, fK1075⟩ := (tt_H_p Bx (.branch sbn sbl (.branch pn (.branch sbrrn (.branch sbrn (.branch sbrln sbrll sbrlr) sbrrl) sbrrr) (.branch xa xl xr)))).mp h1075.2.1
                            refine ri_aload_n C dJ19_fixAfterDeletion_313 rfl ?_
                            refine ri_callS C km_J19_parentOf q1116 dJ19_fixAfterDeletion_314 (mt_J19_parentOfR htr (y := (some pn)) f1075_xa) rfl rfl ⟨⟨(Nat.le_of_ble_eq_true rfl), (Nat.le_of_ble_eq_true rfl)⟩, (Nat.le_of_ble_eq_true rfl), (Nat.le_of_ble_eq_true rfl), (Nat.le_of_ble_eq_true rfl)⟩ (fun v314 z314 q314 => ?_) (fun _ _ _ h => h.elim)
                            obtain ⟨rfl, rfl⟩ := q314
                            refine ri_iconst C dJ19_fixAfterDeletion_317 kc_i1 ?_
                            refine ri_callS C km_J19_setColor q1128 dJ19_fixAfterDeletion_318 (mt_J19_setColorT htr h1075 (an := pn) (by simp [tt_i_p, tt_p, tt_i]) (Or.inr rfl)) rfl rfl ⟨⟨(Nat.le_of_ble_eq_true rfl), (Nat.le_of_ble_eq_true rfl)⟩, (Nat.le_of_ble_eq_true rfl), (Nat.le_of_ble_eq_true rfl), (Nat.le_of_ble_eq_true rfl)⟩ (fun v318 z318 q318 => ?_) (fun _ _ _ h => h.elim)
                            obtain ⟨rfl, h1076, e1076⟩ := q318
                            rw [i1075] at e1076
                            have i1076 := i1075
                            have F1076 := kx_Fr.tr F1075 e1076
                            obtain ⟨⟨f1076_sbn, f1076_sbl, ⟨f1076_pn, ⟨f1076_sbrrn, ⟨f1076_sbrn, ⟨f1076_sbrln, f1076_sbrll, f1076_sbrlr⟩, f1076_sbrrl⟩, f1076_sbrrr⟩, ⟨f1076_xa, f1076_xl, f1076_xr⟩⟩⟩, fK1076⟩ := (tt_H_p Bx (.branch sbn sbl (.branch pn (.branch sbrrn (.branch sbrn (.branch sbrln sbrll sbrlr) sbrrl) sbrrr) (.branch xa xl xr)))).mp h1076.2.1
                            refine ri_aload_n C dJ19_fixAfterDeletion_321 rfl ?_
                            refine ri_callS C km_J19_leftOf q1119 dJ19_fixAfterDeletion_322 (mt_J19_leftOfR htr (y := (some sbrn)) f1076_sbrrn) rfl rfl ⟨⟨(Nat.le_of_ble_eq_true rfl), (Nat.le_of_ble_eq_true rfl)⟩, (Nat.le_of_ble_eq_true rfl), (Nat.le_of_ble_eq_true rfl), (Nat.le_of_ble_eq_true rfl)⟩ (fun v322 z322 q322 => ?_) (fun _ _ _ h => h.elim)
                            obtain ⟨rfl, rfl⟩ := q322
                            refine ri_iconst C dJ19_fixAfterDeletion_325 kc_i1 ?_
                            refine ri_callS C km_J19_setColor q1128 dJ19_fixAfterDeletion_326 (mt_J19_setColorT htr h1076 (an := sbrn) (by simp [tt_i_p, tt_p, tt_i]) (Or.inr rfl)) rfl rfl ⟨⟨(Nat.le_of_ble_eq_true rfl), (Nat.le_of_ble_eq_true rfl)⟩, (Nat.le_of_ble_eq_true rfl), (Nat.le_of_ble_eq_true rfl), (Nat.le_of_ble_eq_true rfl)⟩ (fun v326 z326 q326 => ?_) (fun _ _ _ h => h.elim)
                            obtain ⟨rfl, h1077, e1077⟩ := q326
                            rw [i1076] at e1077
                            have i1077 := i1076
                            have F1077 := kx_Fr.tr F1076 e1077
                            obtain ⟨⟨f1077_sbn, f1077_sbl, ⟨f1077_pn, ⟨f1077_sbrrn, ⟨f1077_sbrn, ⟨f1077_sbrln, f1077_sbrll, f1077_sbrlr⟩, f1077_sbrrl⟩, f1077_sbrrr⟩, ⟨f1077_xa, f1077_xl, f1077_xr⟩⟩⟩, fK1077⟩ := (tt_H_p Bx (.branch sbn sbl (.branch pn (.branch sbrrn (.branch sbrn (.branch sbrln sbrll sbrlr) sbrrl) sbrrr) (.branch xa xl xr)))).mp h1077.2.1
                            refine ri_aload_n C dJ19_fixAfterDeletion_329 rfl ?_
                            refine ri_aload_n C dJ19_fixAfterDeletion_330 rfl ?_
                            refine ri_callS C km_J19_parentOf q1116 dJ19_fixAfterDeletion_331 (mt_J19_parentOfR htr (y := (some pn)) f1077_xa) rfl rfl ⟨⟨(Nat.le_of_ble_eq_true rfl), (Nat.le_of_ble_eq_true rfl)⟩, (Nat.le_of_ble_eq_true rfl), (Nat.le_of_ble_eq_true rfl), (Nat.le_of_ble_eq_true rfl)⟩ (fun v331 z331 q331 => ?_) (fun _ _ _ h => h.elim)
                            obtain ⟨rfl, rfl⟩ := q331
                            refine ri_callV C km_J19_rotateRight q1135 qs10 dJ19_fixAfterDeletion_334 (mt_J19_rotateRight htr (Bx := ((false, sbn, sbl) :: Bx)) (pn := pn) (rn := sbrrn) (ta := (.branch xa xl xr)) (tb := sbrrr) (td := (.branch sbrn (.branch sbrln sbrll sbrlr) sbrrl)) h1077) rfl rfl (kx_rcN C h1077.1 rfl) ⟨⟨(Nat.le_of_ble_eq_true rfl), (Nat.le_of_ble_eq_true rfl)⟩, (Nat.le_of_ble_eq_true rfl), (Nat.le_of_ble_eq_true rfl), (Nat.le_of_ble_eq_true rfl)⟩ (fun v334 z334 q334 => ?_) (fun _ _ _ h => h.elim)
                            obtain ⟨rfl, H1078, e1078⟩ := q334
                            have h1078 : tm_H z334 ct mp (tt_p Bx (.branch sbn sbl (.branch sbrrn (.branch sbrn (.branch sbrln sbrll sbrlr) sbrrl) (.branch pn sbrrr (.branch xa xl xr))))) K V (tm_c (tm_c (tm_c (tm_c (tm_c (tm_c (tm_c D1 sbn (nI 1)) pn (nI 0)) sbrrn (nI 1)) sbrn (nI 0)) sbrrn ((tm_c (tm_c (tm_c (tm_c D1 sbn (nI 1)) pn (nI 0)) sbrrn (nI 1)) sbrn (nI 0)) pn)) pn (nI 1)) sbrn (nI 1)) vals sz md := H1078
                            have e1078 : kx_Fr (tm_T ct (tt_i (tt_p Bx (.branch sbn sbl (.branch pn (.branch sbrrn (.branch sbrn (.branch sbrln sbrll sbrlr) sbrrl) sbrrr) (.branch xa xl xr)))))) z331 z334 := e1078
                            rw [i1077] at e1078
                            have i1078 : tt_i (tt_p Bx (.branch sbn sbl (.branch sbrrn (.branch sbrn (.branch sbrln sbrll sbrlr) sbrrl) (.branch pn sbrrr (.branch xa xl xr))))) = L0 := (by rw [← i1077]; simp [tt_i_p, tt_p, tt_i])
                            have F1078 := kx_Fr.tr F1077 e1078
                            obtain ⟨⟨f1078_sbn, f1078_sbl, ⟨f1078_sbrrn, ⟨f1078_sbrn, ⟨f1078_sbrln, f1078_sbrll, f1078_sbrlr⟩, f1078_sbrrl⟩, ⟨f1078_pn, f1078_sbrrr, ⟨f1078_xa, f1078_xl, f1078_xr⟩⟩⟩⟩, fK1078⟩ := (tt_H_p Bx (.branch sbn sbl (.branch sbrrn (.branch sbrn (.branch sbrln sbrll sbrlr) sbrrl) (.branch pn sbrrr (.branch xa xl xr))))).mp h1078.2.1
                            refine ri_aload_n C dJ19_fixAfterDeletion_337 rfl ?_
                            refine ri_getf C dJ19_fixAfterDeletion_338 fr_q577_18 h1078.1 (by rfl) ?_
                            refine ri_astore_nQ (x := (tt_r (tt_p Bx (.branch sbn sbl (.branch sbrrn (.branch sbrn (.branch sbrln sbrll sbrlr) sbrrl) (.branch pn sbrrr (.branch xa xl xr))))))) C dJ19_fixAfterDeletion_341 rfl (by decide) ?_
                            refine ri_goto C 0 dJ19_fixAfterDeletion_342 rfl ?_
                            obtain ⟨rn9, rl9, rr9, hr9⟩ : ∃ rn rl rr, (tt_p Bx (.branch sbn sbl (.branch sbrrn (.branch sbrn (.branch sbrln sbrll sbrlr) sbrrl) (.branch pn sbrrr (.branch xa xl xr))))) = .branch rn rl rr := tt_rt Bx
                            have hh9 : tm_H z334 ct mp (tt_p [] (.branch rn9 rl9 rr9)) K V (tm_c (tm_c (tm_c (tm_c (tm_c (tm_c (tm_c D1 sbn (nI 1)) pn (nI 0)) sbrrn (nI 1)) sbrn (nI 0)) sbrrn ((tm_c (tm_c (tm_c (tm_c D1 sbn (nI 1)) pn (nI 0)) sbrrn (nI 1)) sbrn (nI 0)) pn)) pn (nI 1)) sbrn (nI 1)) vals sz md := (by show tm_H _ _ _ (.branch rn9 rl9 rr9) _ _ _ _ _ _; rw [← hr9]; exact h1078)
                            have ii9 : tt_i (tt_p [] (.branch rn9 rl9 rr9)) = L0 := (by show tt_i (.branch rn9 rl9 rr9) = L0; rw [← hr9]; exact i1078)
                            rw [hr9]
                            refine ri_lv2 (ih (i + 1) [] rn9 rl9 rr9 _ _ (by omega) (by omega) ⟨hh9, ⟨A ++ ((false, pn, sbrrr) :: (false, sbrrn, (.branch sbrn (.branch sbrln sbrll sbrlr) sbrrl)) :: (false, sbn, sbl) :: Bx), by rw [tt_p_a, ← hA, ← hr9] <;> rfl⟩, ii9, F1078, ?_⟩) ⟨rfl, rfl, trivial⟩
                            first
                              | exact Or.inl (by simp only [List.length_cons, List.length_nil] at hln ⊢; omega)
                              | exact Or.inr ⟨by simp only [List.length_cons, List.length_nil] at hln; omega, Or.inr rfl⟩
                              | exact Or.inr ⟨by simp only [List.length_cons, List.length_nil] at hln; omega, Or.inl (by simp [tm_c])⟩
                      · refine ri_aload_n C dJ19_fixAfterDeletion_241 rfl ?_
                        refine ri_callS C km_J19_leftOf q1119 dJ19_fixAfterDeletion_242 (mt_J19_leftOfR htr (y := (tt_r sbrl)) f1058_sbrn) rfl rfl ⟨⟨(Nat.le_of_ble_eq_true rfl), (Nat.le_of_ble_eq_true rfl)⟩, (Nat.le_of_ble_eq_true rfl), (Nat.le_of_ble_eq_true rfl), (Nat.le_of_ble_eq_true rfl)⟩ (fun v242 z242 q242 => ?_) (fun _ _ _ h => h.elim)
                        obtain ⟨rfl, rfl⟩ := q242
                        rcases sbrl with ⟨_⟩ | ⟨sbrln, sbrll, sbrlr⟩
                        · have h1079 : tm_H z242 ct mp (tt_p Bx (.branch sbn sbl (.branch pn (.branch sbrn tt_n (.branch sbrrn sbrrl sbrrr)) (.branch xa xl xr)))) K V (tm_c (tm_c D1 sbn (nI 1)) pn (nI 0)) vals sz md := h1058
                          have i1079 : tt_i (tt_p Bx (.branch sbn sbl (.branch pn (.branch sbrn tt_n (.branch sbrrn sbrrl sbrrr)) (.branch xa xl xr)))) = L0 := i1058
                          have F1079 := F1058
                          obtain ⟨⟨f1079_sbn, f1079_sbl, ⟨f1079_pn, ⟨f1079_sbrn, -, ⟨f1079_sbrrn, f1079_sbrrl, f1079_sbrrr⟩⟩, ⟨f1079_xa, f1079_xl, f1079_xr⟩⟩⟩, fK1079⟩ := (tt_H_p Bx (.branch sbn sbl (.branch pn (.branch sbrn tt_n (.branch sbrrn sbrrl sbrrr)) (.branch xa xl xr)))).mp h1079.2.1
                          refine ri_callS C km_J19_colorOf q1125 dJ19_fixAfterDeletion_245 (mt_J19_colorOfN htr) rfl rfl ⟨⟨(Nat.le_of_ble_eq_true rfl), (Nat.le_of_ble_eq_true rfl)⟩, (Nat.le_of_ble_eq_true rfl), (Nat.le_of_ble_eq_true rfl), (Nat.le_of_ble_eq_true rfl)⟩ (fun v245 z245 q245 => ?_) (fun _ _ _ h => h.elim)
                          obtain ⟨rfl, rfl⟩ := q245
                          refine ri_iconst C dJ19_fixAfterDeletion_248 kc_i1 ?_
                          refine ri_icmp_ne C 265 dJ19_fixAfterDeletion_249 rfl (fun h249 => ?_) (fun h249 => ?_)
                          · exact absurd rfl h249
                          · refine ri_aload_n C dJ19_fixAfterDeletion_252 rfl ?_
                            refine ri_iconst C dJ19_fixAfterDeletion_253 kc_i0 ?_
                            refine ri_callS C km_J19_setColor q1128 dJ19_fixAfterDeletion_254 (mt_J19_setColorT htr h1079 (an := sbrn) (by simp [tt_i_p, tt_p, tt_i]) (Or.inl rfl)) rfl rfl ⟨⟨(Nat.le_of_ble_eq_true rfl), (Nat.le_of_ble_eq_true rfl)⟩, (Nat.le_of_ble_eq_true rfl), (Nat.le_of_ble_eq_true rfl), (Nat.le_of_ble_eq_true rfl)⟩ (fun v254 z254 q254 => ?_) (fun _ _ _ h => h.elim)
                            obtain ⟨rfl, h1080, e1080⟩ := q254
                            rw [i1079] at e1080
                            have i1080 := i1079
                            have F1080 := kx_Fr.tr F1079 e1080
                            obtain ⟨⟨f1080_sbn, f1080_sbl, ⟨f1080_pn, ⟨f1080_sbrn, -, ⟨f1080_sbrrn, f1080_sbrrl, f1080_sbrrr⟩⟩, ⟨f1080_xa, f1080_xl, f1080_xr⟩⟩⟩, fK1080⟩ := (tt_H_p Bx (.branch sbn sbl (.branch pn (.branch sbrn tt_n (.branch sbrrn sbrrl sbrrr)) (.branch xa xl xr)))).mp h1080.2.1
                            refine ri_aload_n C dJ19_fixAfterDeletion_257 rfl ?_
                            refine ri_callS C km_J19_parentOf q1116 dJ19_fixAfterDeletion_258 (mt_J19_parentOfR htr (y := (some pn)) f1080_xa) rfl rfl ⟨⟨(Nat.le_of_ble_eq_true rfl), (Nat.le_of_ble_eq_true rfl)⟩, (Nat.le_of_ble_eq_true rfl), (Nat.le_of_ble_eq_true rfl), (Nat.le_of_ble_eq_true rfl)⟩ (fun v258 z258 q258 => ?_) (fun _ _ _ h => h.elim)
                            obtain ⟨rfl, rfl⟩ := q258
                            refine ri_astore_n (x := pn) C dJ19_fixAfterDeletion_261 rfl (by decide) ?_
                            refine ri_goto C 342 dJ19_fixAfterDeletion_262 rfl ?_
                            refine ri_goto C 0 dJ19_fixAfterDeletion_342 rfl ?_
                            refine ri_lv2 (ih (i + 1) ((false, sbn, sbl) :: Bx) pn (.branch sbrn tt_n (.branch sbrrn sbrrl sbrrr)) (.branch xa xl xr) _ _ (by omega) (by omega) ⟨h1080, ⟨A ++ [(false, pn, (.branch sbrn tt_n (.branch sbrrn sbrrl sbrrr)))], by rw [tt_p_a, ← hA] <;> rfl⟩, i1080, F1080, ?_⟩) ⟨rfl, rfl, trivial⟩
                            first
                              | exact Or.inl (by simp only [List.length_cons, List.length_nil] at hln ⊢; omega)
                              | exact Or.inr ⟨by simp only [List.length_cons, List.length_nil] at hln; omega, Or.inr rfl⟩
                              | exact Or.inr ⟨by simp only [List.length_cons, List.length_nil] at hln; omega, Or.inl (by simp [tm_c])⟩
                        · have h1081 : tm_H z242 ct mp (tt_p Bx (.branch sbn sbl (.branch pn (.branch sbrn (.branch sbrln sbrll sbrlr) (.branch sbrrn sbrrl sbrrr)) (.branch xa xl xr)))) K V (tm_c (tm_c D1 sbn (nI 1)) pn (nI 0)) vals sz md := h1058
                          have i1081 : tt_i (tt_p Bx (.branch sbn sbl (.branch pn (.branch sbrn (.branch sbrln sbrll sbrlr) (.branch sbrrn sbrrl sbrrr)) (.branch xa xl xr)))) = L0 := i1058
                          have F1081 := F1058
                          have nd1081 := h1081.2.2.1
                          obtain ⟨⟨f1081_sbn, f1081_sbl, ⟨f1081_pn, ⟨f1081_sbrn, ⟨f1081_sbrln, f1081_sbrll, f1081_sbrlr⟩, ⟨f1081_sbrrn, f1081_sbrrl, f1081_sbrrr⟩⟩, ⟨f1081_xa, f1081_xl, f1081_xr⟩⟩⟩, fK1081⟩ := (tt_H_p Bx (.branch sbn sbl (.branch pn (.branch sbrn (.branch sbrln sbrll sbrlr) (.branch sbrrn sbrrl sbrrr)) (.branch xa xl xr)))).mp h1081.2.1
                          refine ri_callS C km_J19_colorOf q1125 dJ19_fixAfterDeletion_245 (mt_J19_colorOfR htr f1081_sbrln (h1081.2.2.2 sbrln)) rfl rfl ⟨⟨(Nat.le_of_ble_eq_true rfl), (Nat.le_of_ble_eq_true rfl)⟩, (Nat.le_of_ble_eq_true rfl), (Nat.le_of_ble_eq_true rfl), (Nat.le_of_ble_eq_true rfl)⟩ (fun v245 z245 q245 => ?_) (fun _ _ _ h => h.elim)
                          obtain ⟨rfl, rfl⟩ := q245
                          refine ri_iconst C dJ19_fixAfterDeletion_248 kc_i1 ?_
                          refine ri_icmp_ne C 265 dJ19_fixAfterDeletion_249 rfl (fun h249 => ?_) (fun h249 => ?_)
                          · refine ri_aload_n C dJ19_fixAfterDeletion_265 rfl ?_
                            refine ri_callS C km_J19_leftOf q1119 dJ19_fixAfterDeletion_266 (mt_J19_leftOfR htr (y := (some sbrln)) f1081_sbrn) rfl rfl ⟨⟨(Nat.le_of_ble_eq_true rfl), (Nat.le_of_ble_eq_true rfl)⟩, (Nat.le_of_ble_eq_true rfl), (Nat.le_of_ble_eq_true rfl), (Nat.le_of_ble_eq_true rfl)⟩ (fun v266 z266 q266 => ?_) (fun _ _ _ h => h.elim)
                            obtain ⟨rfl, rfl⟩ := q266
                            refine ri_callS C km_J19_colorOf q1125 dJ19_fixAfterDeletion_269 (mt_J19_colorOfR htr f1081_sbrln (h1081.2.2.2 sbrln)) rfl rfl ⟨⟨(Nat.le_of_ble_eq_true rfl), (Nat.le_of_ble_eq_true rfl)⟩, (Nat.le_of_ble_eq_true rfl), (Nat.le_of_ble_eq_true rfl), (Nat.le_of_ble_eq_true rfl)⟩ (fun v269 z269 q269 => ?_) (fun _ _ _ h => h.elim)
                            obtain ⟨rfl, rfl⟩ := q269
                            refine ri_iconst C dJ19_fixAfterDeletion_272 kc_i1 ?_
                            refine ri_icmp_ne C 302 dJ19_fixAfterDeletion_273 rfl (fun h273 => ?_) (fun h273 => ?_)
                            · refine ri_aload_n C dJ19_fixAfterDeletion_302 rfl ?_
                              refine ri_aload_n C dJ19_fixAfterDeletion_303 rfl ?_
                              refine ri_callS C km_J19_parentOf q1116 dJ19_fixAfterDeletion_304 (mt_J19_parentOfR htr (y := (some pn)) f1081_xa) rfl rfl ⟨⟨(Nat.le_of_ble_eq_true rfl), (Nat.le_of_ble_eq_true rfl)⟩, (Nat.le_of_ble_eq_true rfl), (Nat.le_of_ble_eq_true rfl), (Nat.le_of_ble_eq_true rfl)⟩ (fun v304 z304 q304 => ?_) (fun _ _ _ h => h.elim)
                              obtain ⟨rfl, rfl⟩ := q304
                              refine ri_callS C km_J19_colorOf q1125 dJ19_fixAfterDeletion_307 (mt_J19_colorOfR htr f1081_pn (h1081.2.2.2 pn)) rfl rfl ⟨⟨(Nat.le_of_ble_eq_true rfl), (Nat.le_of_ble_eq_true rfl)⟩, (Nat.le_of_ble_eq_true rfl), (Nat.le_of_ble_eq_true rfl), (Nat.le_of_ble_eq_true rfl)⟩ (fun v307 z307 q307 => ?_) (fun _ _ _ h => h.elim)
                              obtain ⟨rfl, rfl⟩ := q307
                              refine ri_callS C km_J19_setColor q1128 dJ19_fixAfterDeletion_310 (mt_J19_setColorT htr h1081 (an := sbrn) (by simp [tt_i_p, tt_p, tt_i]) (h1081.2.2.2 _)) rfl rfl ⟨⟨(Nat.le_of_ble_eq_true rfl), (Nat.le_of_ble_eq_true rfl)⟩, (Nat.le_of_ble_eq_true rfl), (Nat.le_of_ble_eq_true rfl), (Nat.le_of_ble_eq_true rfl)⟩ (fun v310 z310 q310 => ?_) (fun _ _ _ h => h.elim)
                              obtain ⟨rfl, h1082, e1082⟩ := q310
                              rw [i1081] at e1082
                              have i1082 := i1081
                              have F1082 := kx_Fr.tr F1081 e1082
                              obtain ⟨⟨f1082_sbn, f1082_sbl, ⟨f1082_pn, ⟨f1082_sbrn, ⟨f1082_sbrln, f1082_sbrll, f1082_sbrlr⟩, ⟨f1082_sbrrn, f1082_sbrrl, f1082_sbrrr⟩⟩, ⟨f1082_xa, f1082_xl, f1082_xr⟩⟩⟩, fK1082⟩ := (tt_H_p Bx (.branch sbn sbl (.branch pn (.branch sbrn (.branch sbrln sbrll sbrlr) (.branch sbrrn sbrrl sbrrr)) (.branch xa xl xr)))).mp h1082.2.1
                              refine ri_aload_n C dJ19_fixAfterDeletion_313 rfl ?_
                              refine ri_callS C km_J19_parentOf q1116 dJ19_fixAfterDeletion_314 (mt_J19_parentOfR htr (y := (some pn)) f1082_xa) rfl rfl ⟨⟨(Nat.le_of_ble_eq_true rfl), (Nat.le_of_ble_eq_true rfl)⟩, (Nat.le_of_ble_eq_true rfl), (Nat.le_of_ble_eq_true rfl), (Nat.le_of_ble_eq_true rfl)⟩ (fun v314 z314 q314 => ?_) (fun _ _ _ h => h.elim)
                              obtain ⟨rfl, rfl⟩ := q314
                              refine ri_iconst C dJ19_fixAfterDeletion_317 kc_i1 ?_
                              refine ri_callS C km_J19_setColor q1128 dJ19_fixAfterDeletion_318 (mt_J19_setColorT htr h1082 (an := pn) (by simp [tt_i_p, tt_p, tt_i]) (Or.inr rfl)) rfl rfl ⟨⟨(Nat.le_of_ble_eq_true rfl), (Nat.le_of_ble_eq_true rfl)⟩, (Nat.le_of_ble_eq_true rfl), (Nat.le_of_ble_eq_true rfl), (Nat.le_of_ble_eq_true rfl)⟩ (fun v318 z318 q318 => ?_) (fun _ _ _ h => h.elim)
                              obtain ⟨rfl, h1083, e1083⟩ := q318
                              rw [i1082] at e1083
                              have i1083 := i1082
                              have F1083 := kx_Fr.tr F1082 e1083
                              obtain ⟨⟨f1083_sbn, f1083_sbl, ⟨f1083_pn, ⟨f1083_sbrn, ⟨f1083_sbrln, f1083_sbrll, f1083_sbrlr⟩, ⟨f1083_sbrrn, f1083_sbrrl, f1083_sbrrr⟩⟩, ⟨f1083_xa, f1083_xl, f1083_xr⟩⟩⟩, fK1083⟩ := (tt_H_p Bx (.branch sbn sbl (.branch pn (.branch sbrn (.branch sbrln sbrll sbrlr) (.branch sbrrn sbrrl sbrrr)) (.branch xa xl xr)))).mp h1083.2.1
                              refine ri_aload_n C dJ19_fixAfterDeletion_321 rfl ?_
                              refine ri_callS C km_J19_leftOf q1119 dJ19_fixAfterDeletion_322 (mt_J19_leftOfR htr (y := (some sbrln)) f1083_sbrn) rfl rfl ⟨⟨(Nat.le_of_ble_eq_true rfl), (Nat.le_of_ble_eq_true rfl)⟩, (Nat.le_of_ble_eq_true rfl), (Nat.le_of_ble_eq_true rfl), (Nat.le_of_ble_eq_true rfl)⟩ (fun v322 z322 q322 => ?_) (fun _ _ _ h => h.elim)
                              obtain ⟨rfl, rfl⟩ := q322
                              refine ri_iconst C dJ19_fixAfterDeletion_325 kc_i1 ?_
                              refine ri_callS C km_J19_setColor q1128 dJ19_fixAfterDeletion_326 (mt_J19_setColorT htr h1083 (an := sbrln) (by simp [tt_i_p, tt_p, tt_i]) (Or.inr rfl)) rfl rfl ⟨⟨(Nat.le_of_ble_eq_true rfl), (Nat.le_of_ble_eq_true rfl)⟩, (Nat.le_of_ble_eq_true rfl), (Nat.le_of_ble_eq_true rfl), (Nat.le_of_ble_eq_true rfl)⟩ (fun v326 z326 q326 => ?_) (fun _ _ _ h => h.elim)
                              obtain ⟨rfl, h1084, e1084⟩ := q326
                              rw [i1083] at e1084
                              have i1084 := i1083
                              have F1084 := kx_Fr.tr F1083 e1084
                              obtain ⟨⟨f1084_sbn, f1084_sbl, ⟨f1084_pn, ⟨f1084_sbrn, ⟨f1084_sbrln, f1084_sbrll, f1084_sbrlr⟩, ⟨f1084_sbrrn, f1084_sbrrl, f1084_sbrrr⟩⟩, ⟨f1084_xa, f1084_xl, f1084_xr⟩⟩⟩, fK1084⟩ := (tt_H_p Bx (.branch sbn sbl (.branch pn (.branch sbrn (.branch sbrln sbrll sbrlr) (.branch sbrrn sbrrl sbrrr)) (.branch xa xl xr)))).mp h1084.2.1
                              refine ri_aload_n C dJ19_fixAfterDeletion_329 rfl ?_
                              refine ri_aload_n C dJ19_fixAfterDeletion_330 rfl ?_
                              refine ri_callS C km_J19_parentOf q1116 dJ19_fixAfterDeletion_331 (mt_J19_parentOfR htr (y := (some pn)) f1084_xa) rfl rfl ⟨⟨(Nat.le_of_ble_eq_true rfl), (Nat.le_of_ble_eq_true rfl)⟩, (Nat.le_of_ble_eq_true rfl), (Nat.le_of_ble_eq_true rfl), (Nat.le_of_ble_eq_true rfl)⟩ (fun v331 z331 q331 => ?_) (fun _ _ _ h => h.elim)
                              obtain ⟨rfl, rfl⟩ := q331
                              refine ri_callV C km_J19_rotateRight q1135 qs10 dJ19_fixAfterDeletion_334 (mt_J19_rotateRight htr (Bx := ((false, sbn, sbl) :: Bx)) (pn := pn) (rn := sbrn) (ta := (.branch xa xl xr)) (tb := (.branch sbrrn sbrrl sbrrr)) (td := (.branch sbrln sbrll sbrlr)) h1084) rfl rfl (kx_rcN C h1084.1 rfl) ⟨⟨(Nat.le_of_ble_eq_true rfl), (Nat.le_of_ble_eq_true rfl)⟩, (Nat.le_of_ble_eq_true rfl), (Nat.le_of_ble_eq_true rfl), (Nat.le_of_ble_eq_true rfl)⟩ (fun v334 z334 q334 => ?_) (fun _ _ _ h => h.elim)
                              obtain ⟨rfl, H1085, e1085⟩ := q334
                              have h1085 : tm_H z334 ct mp (tt_p Bx (.branch sbn sbl (.branch sbrn (.branch sbrln sbrll sbrlr) (.branch pn (.branch sbrrn sbrrl sbrrr) (.branch xa xl xr))))) K V (tm_c (tm_c (tm_c (tm_c (tm_c D1 sbn (nI 1)) pn (nI 0)) sbrn ((tm_c (tm_c D1 sbn (nI 1)) pn (nI 0)) pn)) pn (nI 1)) sbrln (nI 1)) vals sz md := H1085
                              have e1085 : kx_Fr (tm_T ct (tt_i (tt_p Bx (.branch sbn sbl (.branch pn (.branch sbrn (.branch sbrln sbrll sbrlr) (.branch sbrrn sbrrl sbrrr)) (.branch xa xl xr)))))) z331 z334 := e1085
                              rw [i1084] at e1085
                              have i1085 : tt_i (tt_p Bx (.branch sbn sbl (.branch sbrn (.branch sbrln sbrll sbrlr) (.branch pn (.branch sbrrn sbrrl sbrrr) (.branch xa xl xr))))) = L0 := (by rw [← i1084]; simp [tt_i_p, tt_p, tt_i])
                              have F1085 := kx_Fr.tr F1084 e1085
                              obtain ⟨⟨f1085_sbn, f1085_sbl, ⟨f1085_sbrn, ⟨f1085_sbrln, f1085_sbrll, f1085_sbrlr⟩, ⟨f1085_pn, ⟨f1085_sbrrn, f1085_sbrrl, f1085_sbrrr⟩, ⟨f1085_xa, f1085_xl, f1085_xr⟩⟩⟩⟩, fK1085⟩ := (tt_H_p Bx (.branch sbn sbl (.branch sbrn (.branch sbrln sbrll sbrlr) (.branch pn (.branch sbrrn sbrrl sbrrr) (.branch xa xl xr))))).mp h1085.2.1
                              refine ri_aload_n C dJ19_fixAfterDeletion_337 rfl ?_
                              refine ri_getf C dJ19_fixAfterDeletion_338 fr_q577_18 h1085.1 (by rfl) ?_
                              refine ri_astore_nQ (x := (tt_r (tt_p Bx (.branch sbn sbl (.branch sbrn (.branch sbrln sbrll sbrlr) (.branch pn (.branch sbrrn sbrrl sbrrr) (.branch xa xl xr))))))) C dJ19_fixAfterDeletion_341 rfl (by decide) ?_
                              refine ri_goto C 0 dJ19_fixAfterDeletion_342 rfl ?_
                              obtain ⟨rn9, rl9, rr9, hr9⟩ : ∃ rn rl rr, (tt_p Bx (.branch sbn sbl (.branch sbrn (.branch sbrln sbrll sbrlr) (.branch pn (.branch sbrrn sbrrl sbrrr) (.branch xa xl xr))))) = .branch rn rl rr := tt_rt Bx
                              have hh9 : tm_H z334 ct mp (tt_p [] (.branch rn9 rl9 rr9)) K V (tm_c (tm_c (tm_c (tm_c (tm_c D1 sbn (nI 1)) pn (nI 0)) sbrn ((tm_c (tm_c D1 sbn (nI 1)) pn (nI 0)) pn)) pn (nI 1)) sbrln (nI 1)) vals sz md := (by show tm_H _ _ _ (.branch rn9 rl9 rr9) _ _ _ _ _ _; rw [← hr9]; exact h1085)
                              have ii9 : tt_i (tt_p [] (.branch rn9 rl9 rr9)) = L0 := (by show tt_i (.branch rn9 rl9 rr9) = L0; rw [← hr9]; exact i1085)
                              rw [hr9]
                              refine ri_lv2 (ih (i + 1) [] rn9 rl9 rr9 _ _ (by omega) (by omega) ⟨hh9, ⟨A ++ ((false, pn, (.branch sbrrn sbrrl sbrrr)) :: (false, sbrn, (.branch sbrln sbrll sbrlr)) :: (false, sbn, sbl) :: Bx), by rw [tt_p_a, ← hA, ← hr9] <;> rfl⟩, ii9, F1085, ?_⟩) ⟨rfl, rfl, trivial⟩
                              first
                                | exact Or.inl (by simp only [List.length_cons, List.length_nil] at hln ⊢; omega)
                                | exact Or.inr ⟨by simp only [List.length_cons, List.length_nil] at hln; omega, Or.inr rfl⟩
                                | exact Or.inr ⟨by simp only [List.length_cons, List.length_nil] at hln; omega, Or.inl (by simp [tm_c])⟩
                            · exact absurd h273 h249
                          · refine ri_aload_n C dJ19_fixAfterDeletion_252 rfl ?_
                            refine ri_iconst C dJ19_fixAfterDeletion_253 kc_i0 ?_
                            refine ri_callS C km_J19_setColor q1128 dJ19_fixAfterDeletion_254 (mt_J19_setColorT htr h1081 (an := sbrn) (by simp [tt_i_p, tt_p, tt_i]) (Or.inl rfl)) rfl rfl ⟨⟨(Nat.le_of_ble_eq_true rfl), (Nat.le_of_ble_eq_true rfl)⟩, (Nat.le_of_ble_eq_true rfl), (Nat.le_of_ble_eq_true rfl), (Nat.le_of_ble_eq_true rfl)⟩ (fun v254 z254 q254 => ?_) (fun _ _ _ h => h.elim)
                            obtain ⟨rfl, h1086, e1086⟩ := q254
                            rw [i1081] at e1086
                            have i1086 := i1081
                            have F1086 := kx_Fr.tr F1081 e1086
                            obtain ⟨⟨f1086_sbn, f1086_sbl, ⟨f1086_pn, ⟨f1086_sbrn, ⟨f1086_sbrln, f1086_sbrll, f1086_sbrlr⟩, ⟨f1086_sbrrn, f1086_sbrrl, f1086_sbrrr⟩⟩, ⟨f1086_xa, f1086_xl, f1086_xr⟩⟩⟩, fK1086⟩ := (tt_H_p Bx (.branch sbn sbl (.branch pn (.branch sbrn (.branch sbrln sbrll sbrlr) (.branch sbrrn sbrrl sbrrr)) (.branch xa xl xr)))).mp h1086.2.1
                            refine ri_aload_n C dJ19_fixAfterDeletion_257 rfl ?_
                            refine ri_callS C km_J19_parentOf q1116 dJ19_fixAfterDeletion_258 (mt_J19_parentOfR htr (y := (some pn)) f1086_xa) rfl rfl ⟨⟨(Nat.le_of_ble_eq_true rfl), (Nat.le_of_ble_eq_true rfl)⟩, (Nat.le_of_ble_eq_true rfl), (Nat.le_of_ble_eq_true rfl), (Nat.le_of_ble_eq_true rfl)⟩ (fun v258 z258 q258 => ?_) (fun _ _ _ h => h.elim)
                            obtain ⟨rfl, rfl⟩ := q258
                            refine ri_astore_n (x := pn) C dJ19_fixAfterDeletion_261 rfl (by decide) ?_
                            refine ri_goto C 342 dJ19_fixAfterDeletion_262 rfl ?_
                            refine ri_goto C 0 dJ19_fixAfterDeletion_342 rfl ?_
                            refine ri_lv2 (ih (i + 1) ((false, sbn, sbl) :: Bx) pn (.branch sbrn (.branch sbrln sbrll sbrlr) (.branch sbrrn sbrrl sbrrr)) (.branch xa xl xr) _ _ (by omega) (by omega) ⟨h1086, ⟨A ++ [(false, pn, (.branch sbrn (.branch sbrln sbrll sbrlr) (.branch sbrrn sbrrl sbrrr)))], by rw [tt_p_a, ← hA] <;> rfl⟩, i1086, F1086, ?_⟩) ⟨rfl, rfl, trivial⟩
                            first
                              | exact Or.inl (by simp only [List.length_cons, List.length_nil] at hln ⊢; omega)
                              | exact Or.inr ⟨by simp only [List.length_cons, List.length_nil] at hln; omega, Or.inr rfl⟩
                              | exact Or.inr ⟨by simp only [List.length_cons, List.length_nil] at hln; omega, Or.inl (by simp [tm_c])⟩
            · exfalso; obtain ⟨A9, C9, hA9⟩ := List.append_of_mem (tt_r_in h24.symm); have nd9 := h0.2.2.1; simp [tt_i_p, tt_p, tt_i, hA9, List.nodup_append] at nd9
      · have h0 : tm_H τ ct mp (tt_p Bx (.branch pn (.branch xa xl xr) sb)) K V D1 vals sz md := hh1
        have i0 : tt_i (tt_p Bx (.branch pn (.branch xa xl xr) sb)) = L0 := hh2
        have F0 := hh3
        obtain ⟨⟨f0_pn, ⟨f0_xa, f0_xl, f0_xr⟩, f0_sb⟩, fK0⟩ := (tt_H_p Bx (.branch pn (.branch xa xl xr) sb)).mp h0.2.1
        refine ri_aload_n C dJ19_fixAfterDeletion_0 rfl ?_
        refine ri_aload_n C dJ19_fixAfterDeletion_1 rfl ?_
        refine ri_getf C dJ19_fixAfterDeletion_2 fr_q577_18 h0.1 (by rfl) ?_
        refine ri_acmp_eqQ (rx := (some xa)) (ry := (tt_r (tt_p Bx (.branch pn (.branch xa xl xr) sb)))) C 345 dJ19_fixAfterDeletion_5 rfl (fun h5 => ?_) (fun h5 => ?_)
        · refine ri_aload_n C dJ19_fixAfterDeletion_345 rfl ?_
          refine ri_iconst C dJ19_fixAfterDeletion_346 kc_i1 ?_
          refine ri_callS C km_J19_setColor q1128 dJ19_fixAfterDeletion_347 (mt_J19_setColorT htr h0 (an := xa) (by simp [tt_i_p, tt_p, tt_i]) (Or.inr rfl)) rfl rfl ⟨⟨(Nat.le_of_ble_eq_true rfl), (Nat.le_of_ble_eq_true rfl)⟩, (Nat.le_of_ble_eq_true rfl), (Nat.le_of_ble_eq_true rfl), (Nat.le_of_ble_eq_true rfl)⟩ (fun v347 z347 q347 => ?_) (fun _ _ _ h => h.elim)
          obtain ⟨rfl, h1087, e1087⟩ := q347
          rw [i0] at e1087
          have i1087 := i0
          have F1087 := kx_Fr.tr F0 e1087
          obtain ⟨⟨f1087_pn, ⟨f1087_xa, f1087_xl, f1087_xr⟩, f1087_sb⟩, fK1087⟩ := (tt_H_p Bx (.branch pn (.branch xa xl xr) sb)).mp h1087.2.1
          have hT9 : tt_p Bx (.branch pn (.branch xa xl xr) sb) = tt_p (A ++ ((true, pn, sb) :: Bx)) P0 := (by rw [tt_p_a, ← hA] <;> rfl)
          rw [hT9] at h1087 i1087
          exact ri_vret C hQ dJ19_fixAfterDeletion_350 (Nat.le_of_ble_eq_true rfl) (Nat.le_of_ble_eq_true rfl) ⟨rfl, (A ++ ((true, pn, sb) :: Bx)), _, h1087, i1087, F1087⟩
        · refine ri_aload_n C dJ19_fixAfterDeletion_8 rfl ?_
          refine ri_callS C km_J19_colorOf q1125 dJ19_fixAfterDeletion_9 (mt_J19_colorOfR htr f0_xa (h0.2.2.2 xa)) rfl rfl ⟨⟨(Nat.le_of_ble_eq_true rfl), (Nat.le_of_ble_eq_true rfl)⟩, (Nat.le_of_ble_eq_true rfl), (Nat.le_of_ble_eq_true rfl), (Nat.le_of_ble_eq_true rfl)⟩ (fun v9 z9 q9 => ?_) (fun _ _ _ h => h.elim)
          obtain ⟨rfl, rfl⟩ := q9
          refine ri_iconst C dJ19_fixAfterDeletion_12 kc_i1 ?_
          refine ri_icmp_ne C 345 dJ19_fixAfterDeletion_13 rfl (fun h13 => ?_) (fun h13 => ?_)
          · refine ri_aload_n C dJ19_fixAfterDeletion_345 rfl ?_
            refine ri_iconst C dJ19_fixAfterDeletion_346 kc_i1 ?_
            refine ri_callS C km_J19_setColor q1128 dJ19_fixAfterDeletion_347 (mt_J19_setColorT htr h0 (an := xa) (by simp [tt_i_p, tt_p, tt_i]) (Or.inr rfl)) rfl rfl ⟨⟨(Nat.le_of_ble_eq_true rfl), (Nat.le_of_ble_eq_true rfl)⟩, (Nat.le_of_ble_eq_true rfl), (Nat.le_of_ble_eq_true rfl), (Nat.le_of_ble_eq_true rfl)⟩ (fun v347 z347 q347 => ?_) (fun _ _ _ h => h.elim)
            obtain ⟨rfl, h1088, e1088⟩ := q347
            rw [i0] at e1088
            have i1088 := i0
            have F1088 := kx_Fr.tr F0 e1088
            obtain ⟨⟨f1088_pn, ⟨f1088_xa, f1088_xl, f1088_xr⟩, f1088_sb⟩, fK1088⟩ := (tt_H_p Bx (.branch pn (.branch xa xl xr) sb)).mp h1088.2.1
            have hT9 : tt_p Bx (.branch pn (.branch xa xl xr) sb) = tt_p (A ++ ((true, pn, sb) :: Bx)) P0 := (by rw [tt_p_a, ← hA] <;> rfl)
            rw [hT9] at h1088 i1088
            exact ri_vret C hQ dJ19_fixAfterDeletion_350 (Nat.le_of_ble_eq_true rfl) (Nat.le_of_ble_eq_true rfl) ⟨rfl, (A ++ ((true, pn, sb) :: Bx)), _, h1088, i1088, F1088⟩
          · have hln := hms.resolve_right (fun q => by
              rcases q.2 with q | q
              · exact absurd (q.symm.trans h13) (by decide)
              · cases q)
            refine ri_aload_n C dJ19_fixAfterDeletion_16 rfl ?_
            refine ri_aload_n C dJ19_fixAfterDeletion_17 rfl ?_
            refine ri_callS C km_J19_parentOf q1116 dJ19_fixAfterDeletion_18 (mt_J19_parentOfR htr (y := (some pn)) f0_xa) rfl rfl ⟨⟨(Nat.le_of_ble_eq_true rfl), (Nat.le_of_ble_eq_true rfl)⟩, (Nat.le_of_ble_eq_true rfl), (Nat.le_of_ble_eq_true rfl), (Nat.le_of_ble_eq_true rfl)⟩ (fun v18 z18 q18 => ?_) (fun _ _ _ h => h.elim)
            obtain ⟨rfl, rfl⟩ := q18
            refine ri_callS C km_J19_leftOf q1119 dJ19_fixAfterDeletion_21 (mt_J19_leftOfR htr (y := (some xa)) f0_pn) rfl rfl ⟨⟨(Nat.le_of_ble_eq_true rfl), (Nat.le_of_ble_eq_true rfl)⟩, (Nat.le_of_ble_eq_true rfl), (Nat.le_of_ble_eq_true rfl), (Nat.le_of_ble_eq_true rfl)⟩ (fun v21 z21 q21 => ?_) (fun _ _ _ h => h.elim)
            obtain ⟨rfl, rfl⟩ := q21
            refine ri_acmp_neQ (rx := (some xa)) (ry := (some xa)) C 186 dJ19_fixAfterDeletion_24 rfl (fun h24 => ?_) (fun h24 => ?_)
            · exact absurd rfl h24
            · refine ri_aload_n C dJ19_fixAfterDeletion_27 rfl ?_
              refine ri_callS C km_J19_parentOf q1116 dJ19_fixAfterDeletion_28 (mt_J19_parentOfR htr (y := (some pn)) f0_xa) rfl rfl ⟨⟨(Nat.le_of_ble_eq_true rfl), (Nat.le_of_ble_eq_true rfl)⟩, (Nat.le_of_ble_eq_true rfl), (Nat.le_of_ble_eq_true rfl), (Nat.le_of_ble_eq_true rfl)⟩ (fun v28 z28 q28 => ?_) (fun _ _ _ h => h.elim)
              obtain ⟨rfl, rfl⟩ := q28
              refine ri_callS C km_J19_rightOf q1122 dJ19_fixAfterDeletion_31 (mt_J19_rightOfR htr (y := (tt_r sb)) f0_pn) rfl rfl ⟨⟨(Nat.le_of_ble_eq_true rfl), (Nat.le_of_ble_eq_true rfl)⟩, (Nat.le_of_ble_eq_true rfl), (Nat.le_of_ble_eq_true rfl), (Nat.le_of_ble_eq_true rfl)⟩ (fun v31 z31 q31 => ?_) (fun _ _ _ h => h.elim)
              obtain ⟨rfl, rfl⟩ := q31
              refine ri_astore_nQ (x := (tt_r sb)) C dJ19_fixAfterDeletion_34 rfl (by decide) ?_
              refine ri_aload_nQ (x := (tt_r sb)) C dJ19_fixAfterDeletion_35 rfl ?_
              rcases sb with ⟨_⟩ | ⟨sbn, sbl, sbr⟩
              · have h1089 : tm_H z31 ct mp (tt_p Bx (.branch pn (.branch xa xl xr) tt_n)) K V D1 vals sz md := h0
                have i1089 : tt_i (tt_p Bx (.branch pn (.branch xa xl xr) tt_n)) = L0 := i0
                have F1089 := F0
                obtain ⟨⟨f1089_pn, ⟨f1089_xa, f1089_xl, f1089_xr⟩, -⟩, fK1089⟩ := (tt_H_p Bx (.branch pn (.branch xa xl xr) tt_n)).mp h1089.2.1
                refine ri_callS C km_J19_colorOf q1125 dJ19_fixAfterDeletion_36 (mt_J19_colorOfN htr) rfl rfl ⟨⟨(Nat.le_of_ble_eq_true rfl), (Nat.le_of_ble_eq_true rfl)⟩, (Nat.le_of_ble_eq_true rfl), (Nat.le_of_ble_eq_true rfl), (Nat.le_of_ble_eq_true rfl)⟩ (fun v36 z36 q36 => ?_) (fun _ _ _ h => h.elim)
                obtain ⟨rfl, rfl⟩ := q36
                refine ri_if_ne C 71 dJ19_fixAfterDeletion_39 rfl (fun h39 => ?_) (fun h39 => ?_)
                · refine ri_aload_nN C dJ19_fixAfterDeletion_71 rfl ?_
                  refine ri_callS C km_J19_leftOf q1119 dJ19_fixAfterDeletion_72 (mt_J19_leftOfN htr) rfl rfl ⟨⟨(Nat.le_of_ble_eq_true rfl), (Nat.le_of_ble_eq_true rfl)⟩, (Nat.le_of_ble_eq_true rfl), (Nat.le_of_ble_eq_true rfl), (Nat.le_of_ble_eq_true rfl)⟩ (fun v72 z72 q72 => ?_) (fun _ _ _ h => h.elim)
                  obtain ⟨rfl, rfl⟩ := q72
                  refine ri_callS C km_J19_colorOf q1125 dJ19_fixAfterDeletion_75 (mt_J19_colorOfN htr) rfl rfl ⟨⟨(Nat.le_of_ble_eq_true rfl), (Nat.le_of_ble_eq_true rfl)⟩, (Nat.le_of_ble_eq_true rfl), (Nat.le_of_ble_eq_true rfl), (Nat.le_of_ble_eq_true rfl)⟩ (fun v75 z75 q75 => ?_) (fun _ _ _ h => h.elim)
                  obtain ⟨rfl, rfl⟩ := q75
                  refine ri_iconst C dJ19_fixAfterDeletion_78 kc_i1 ?_
                  refine ri_icmp_ne C 106 dJ19_fixAfterDeletion_79 rfl (fun h79 => ?_) (fun h79 => ?_)
                  · exact absurd rfl h79
                  · refine ri_aload_nN C dJ19_fixAfterDeletion_82 rfl ?_
                    refine ri_callS C km_J19_rightOf q1122 dJ19_fixAfterDeletion_83 (mt_J19_rightOfN htr) rfl rfl ⟨⟨(Nat.le_of_ble_eq_true rfl), (Nat.le_of_ble_eq_true rfl)⟩, (Nat.le_of_ble_eq_true rfl), (Nat.le_of_ble_eq_true rfl), (Nat.le_of_ble_eq_true rfl)⟩ (fun v83 z83 q83 => ?_) (fun _ _ _ h => h.elim)
                    obtain ⟨rfl, rfl⟩ := q83
                    refine ri_callS C km_J19_colorOf q1125 dJ19_fixAfterDeletion_86 (mt_J19_colorOfN htr) rfl rfl ⟨⟨(Nat.le_of_ble_eq_true rfl), (Nat.le_of_ble_eq_true rfl)⟩, (Nat.le_of_ble_eq_true rfl), (Nat.le_of_ble_eq_true rfl), (Nat.le_of_ble_eq_true rfl)⟩ (fun v86 z86 q86 => ?_) (fun _ _ _ h => h.elim)
                    obtain ⟨rfl, rfl⟩ := q86
                    refine ri_iconst C dJ19_fixAfterDeletion_89 kc_i1 ?_
                    refine ri_icmp_ne C 106 dJ19_fixAfterDeletion_90 rfl (fun h90 => ?_) (fun h90 => ?_)
                    · exact absurd rfl h90
                    · refine ri_aload_nN C dJ19_fixAfterDeletion_93 rfl ?_
                      refine ri_iconst C dJ19_fixAfterDeletion_94 kc_i0 ?_
                      refine ri_callS C km_J19_setColor q1128 dJ19_fixAfterDeletion_95 (mt_J19_setColorN htr) rfl rfl ⟨⟨(Nat.le_of_ble_eq_true rfl), (Nat.le_of_ble_eq_true rfl)⟩, (Nat.le_of_ble_eq_true rfl), (Nat.le_of_ble_eq_true rfl), (Nat.le_of_ble_eq_true rfl)⟩ (fun v95 z95 q95 => ?_) (fun _ _ _ h => h.elim)
                      obtain ⟨rfl, rfl⟩ := q95
                      refine ri_aload_n C dJ19_fixAfterDeletion_98 rfl ?_
                      refine ri_callS C km_J19_parentOf q1116 dJ19_fixAfterDeletion_99 (mt_J19_parentOfR htr (y := (some pn)) f1089_xa) rfl rfl ⟨⟨(Nat.le_of_ble_eq_true rfl), (Nat.le_of_ble_eq_true rfl)⟩, (Nat.le_of_ble_eq_true rfl), (Nat.le_of_ble_eq_true rfl), (Nat.le_of_ble_eq_true rfl)⟩ (fun v99 z99 q99 => ?_) (fun _ _ _ h => h.elim)
                      obtain ⟨rfl, rfl⟩ := q99
                      refine ri_astore_n (x := pn) C dJ19_fixAfterDeletion_102 rfl (by decide) ?_
                      refine ri_goto C 183 dJ19_fixAfterDeletion_103 rfl ?_
                      refine ri_goto C 0 dJ19_fixAfterDeletion_183 rfl ?_
                      refine ri_lv2 (ih (i + 1) (Bx) pn (.branch xa xl xr) tt_n _ _ (by omega) (by omega) ⟨h1089, ⟨A ++ [(true, pn, tt_n)], by rw [tt_p_a, ← hA] <;> rfl⟩, i1089, F1089, ?_⟩) ⟨rfl, rfl, trivial⟩
                      first
                        | exact Or.inl (by simp only [List.length_cons, List.length_nil] at hln ⊢; omega)
                        | exact Or.inr ⟨by simp only [List.length_cons, List.length_nil] at hln; omega, Or.inr rfl⟩
                        | exact Or.inr ⟨by simp only [List.length_cons, List.length_nil] at hln; omega, Or.inl (by simp [tm_c])⟩
                · exact absurd h39 (by decide)
              · have h1090 : tm_H z31 ct mp (tt_p Bx (.branch pn (.branch xa xl xr) (.branch sbn sbl sbr))) K V D1 vals sz md := h0
                have i1090 : tt_i (tt_p Bx (.branch pn (.branch xa xl xr) (.branch sbn sbl sbr))) = L0 := i0
                have F1090 := F0
                have nd1090 := h1090.2.2.1
                obtain ⟨⟨f1090_pn, ⟨f1090_xa, f1090_xl, f1090_xr⟩, ⟨f1090_sbn, f1090_sbl, f1090_sbr⟩⟩, fK1090⟩ := (tt_H_p Bx (.branch pn (.branch xa xl xr) (.branch sbn sbl sbr))).mp h1090.2.1
                refine ri_callS C km_J19_colorOf q1125 dJ19_fixAfterDeletion_36 (mt_J19_colorOfR htr f1090_sbn (h1090.2.2.2 sbn)) rfl rfl ⟨⟨(Nat.le_of_ble_eq_true rfl), (Nat.le_of_ble_eq_true rfl)⟩, (Nat.le_of_ble_eq_true rfl), (Nat.le_of_ble_eq_true rfl), (Nat.le_of_ble_eq_true rfl)⟩ (fun v36 z36 q36 => ?_) (fun _ _ _ h => h.elim)
                obtain ⟨rfl, rfl⟩ := q36
                refine ri_if_ne C 71 dJ19_fixAfterDeletion_39 rfl (fun h39 => ?_) (fun h39 => ?_)
                · refine ri_aload_n C dJ19_fixAfterDeletion_71 rfl ?_
                  refine ri_callS C km_J19_leftOf q1119 dJ19_fixAfterDeletion_72 (mt_J19_leftOfR htr (y := (tt_r sbl)) f1090_sbn) rfl rfl ⟨⟨(Nat.le_of_ble_eq_true rfl), (Nat.le_of_ble_eq_true rfl)⟩, (Nat.le_of_ble_eq_true rfl), (Nat.le_of_ble_eq_true rfl), (Nat.le_of_ble_eq_true rfl)⟩ (fun v72 z72 q72 => ?_) (fun _ _ _ h => h.elim)
                  obtain ⟨rfl, rfl⟩ := q72
                  rcases sbl with ⟨_⟩ | ⟨sbln, sbll, sblr⟩
                  · have h1091 : tm_H z72 ct mp (tt_p Bx (.branch pn (.branch xa xl xr) (.branch sbn tt_n sbr))) K V D1 vals sz md := h1090
                    have i1091 : tt_i (tt_p Bx (.branch pn (.branch xa xl xr) (.branch sbn tt_n sbr))) = L0 := i1090
                    have F1091 := F1090
                    obtain ⟨⟨f1091_pn, ⟨f1091_xa, f1091_xl, f1091_xr⟩, ⟨f1091_sbn, -, f1091_sbr⟩⟩, fK1091⟩ := (tt_H_p Bx (.branch pn (.branch xa xl xr) (.branch sbn tt_n sbr))).mp h1091.2.1
                    refine ri_callS C km_J19_colorOf q1125 dJ19_fixAfterDeletion_75 (mt_J19_colorOfN htr) rfl rfl ⟨⟨(Nat.le_of_ble_eq_true rfl), (Nat.le_of_ble_eq_true rfl)⟩, (Nat.le_of_ble_eq_true rfl), (Nat.le_of_ble_eq_true rfl), (Nat.le_of_ble_eq_true rfl)⟩ (fun v75 z75 q75 => ?_) (fun _ _ _ h => h.elim)
                    obtain ⟨rfl, rfl⟩ := q75
                    refine ri_iconst C dJ19_fixAfterDeletion_78 kc_i1 ?_
                    refine ri_icmp_ne C 106 dJ19_fixAfterDeletion_79 rfl (fun h79 => ?_) (fun h79 => ?_)
                    · exact absurd rfl h79
                    · refine ri_aload_n C dJ19_fixAfterDeletion_82 rfl ?_
                      refine ri_callS C km_J19_rightOf q1122 dJ19_fixAfterDeletion_83 (mt_J19_rightOfR htr (y := (tt_r sbr)) f1091_sbn) rfl rfl ⟨⟨(Nat.le_of_ble_eq_true rfl), (Nat.le_of_ble_eq_true rfl)⟩, (Nat.le_of_ble_eq_true rfl), (Nat.le_of_ble_eq_true rfl), (Nat.le_of_ble_eq_true rfl)⟩ (fun v83 z83 q83 => ?_) (fun _ _ _ h => h.elim)
                      obtain ⟨rfl, rfl⟩ := q83
                      rcases sbr with ⟨_⟩ | ⟨sbrn, sbrl, sbrr⟩
                      · have h1092 : tm_H z83 ct mp (tt_p Bx (.branch pn (.branch xa xl xr) (.branch sbn tt_n tt_n))) K V D1 vals sz md := h1091
                        have i1092 : tt_i (tt_p Bx (.branch pn (.branch xa xl xr) (.branch sbn tt_n tt_n))) = L0 := i1091
                        have F1092 := F1091
                        obtain ⟨⟨f1092_pn, ⟨f1092_xa, f1092_xl, f1092_xr⟩, ⟨f1092_sbn, -, -⟩⟩, fK1092⟩ := (tt_H_p Bx (.branch pn (.branch xa xl xr) (.branch sbn tt_n tt_n))).mp h1092.2.1
                        refine ri_callS C km_J19_colorOf q1125 dJ19_fixAfterDeletion_86 (mt_J19_colorOfN htr) rfl rfl ⟨⟨(Nat.le_of_ble_eq_true rfl), (Nat.le_of_ble_eq_true rfl)⟩, (Nat.le_of_ble_eq_true rfl), (Nat.le_of_ble_eq_true rfl), (Nat.le_of_ble_eq_true rfl)⟩ (fun v86 z86 q86 => ?_) (fun _ _ _ h => h.elim)
                        obtain ⟨rfl, rfl⟩ := q86
                        refine ri_iconst C dJ19_fixAfterDeletion_89 kc_i1 ?_
                        refine ri_icmp_ne C 106 dJ19_fixAfterDeletion_90 rfl (fun h90 => ?_) (fun h90 => ?_)
                        · exact absurd rfl h90
                        · refine ri_aload_n C dJ19_fixAfterDeletion_93 rfl ?_
                          refine ri_iconst C dJ19_fixAfterDeletion_94 kc_i0 ?_
                          refine ri_callS C km_J19_setColor q1128 dJ19_fixAfterDeletion_95 (mt_J19_setColorT htr h1092 (an := sbn) (by simp [tt_i_p, tt_p, tt_i]) (Or.inl rfl)) rfl rfl ⟨⟨(Nat.le_of_ble_eq_true rfl), (Nat.le_of_ble_eq_true rfl)⟩, (Nat.le_of_ble_eq_true rfl), (Nat.le_of_ble_eq_true rfl), (Nat.le_of_ble_eq_true rfl)⟩ (fun v95 z95 q95 => ?_) (fun _ _ _ h => h.elim)
                          obtain ⟨rfl, h1093, e1093⟩ := q95
                          rw [i1092] at e1093
                          have i1093 := i1092
                          have F1093 := kx_Fr.tr F1092 e1093
                          obtain ⟨⟨f1093_pn, ⟨f1093_xa, f1093_xl, f1093_xr⟩, ⟨f1093_sbn, -, -⟩⟩, fK1093⟩ := (tt_H_p Bx (.branch pn (.branch xa xl xr) (.branch sbn tt_n tt_n))).mp h1093.2.1
                          refine ri_aload_n C dJ19_fixAfterDeletion_98 rfl ?_
                          refine ri_callS C km_J19_parentOf q1116 dJ19_fixAfterDeletion_99 (mt_J19_parentOfR htr (y := (some pn)) f1093_xa) rfl rfl ⟨⟨(Nat.le_of_ble_eq_true rfl), (Nat.le_of_ble_eq_true rfl)⟩, (Nat.le_of_ble_eq_true rfl), (Nat.le_of_ble_eq_true rfl), (Nat.le_of_ble_eq_true rfl)⟩ (fun v99 z99 q99 => ?_) (fun _ _ _ h => h.elim)
                          obtain ⟨rfl, rfl⟩ := q99
                          refine ri_astore_n (x := pn) C dJ19_fixAfterDeletion_102 rfl (by decide) ?_
                          refine ri_goto C 183 dJ19_fixAfterDeletion_103 rfl ?_
                          refine ri_goto C 0 dJ19_fixAfterDeletion_183 rfl ?_
                          refine ri_lv2 (ih (i + 1) (Bx) pn (.branch xa xl xr) (.branch sbn tt_n tt_n) _ _ (by omega) (by omega) ⟨h1093, ⟨A ++ [(true, pn, (.branch sbn tt_n tt_n))], by rw [tt_p_a, ← hA] <;> rfl⟩, i1093, F1093, ?_⟩) ⟨rfl, rfl, trivial⟩
                          first
                            | exact Or.inl (by simp only [List.length_cons, List.length_nil] at hln ⊢; omega)
                            | exact Or.inr ⟨by simp only [List.length_cons, List.length_nil] at hln; omega, Or.inr rfl⟩
                            | exact Or.inr ⟨by simp only [List.length_cons, List.length_nil] at hln; omega, Or.inl (by simp [tm_c])⟩
                      · have h1094 : tm_H z83 ct mp (tt_p Bx (.branch pn (.branch xa xl xr) (.branch sbn tt_n (.branch sbrn sbrl sbrr)))) K V D1 vals sz md := h1091
                        have i1094 : tt_i (tt_p Bx (.branch pn (.branch xa xl xr) (.branch sbn tt_n (.branch sbrn sbrl sbrr)))) = L0 := i1091
                        have F1094 := F1091
                        have nd1094 := h1094.2.2.1
                        obtain ⟨⟨f1094_pn, ⟨f1094_xa, f1094_xl, f1094_xr⟩, ⟨f1094_sbn, -, ⟨f1094_sbrn, f1094_sbrl, f1094_sbrr⟩⟩⟩, fK1094⟩ := (tt_H_p Bx (.branch pn (.branch xa xl xr) (.branch sbn tt_n (.branch sbrn sbrl sbrr)))).mp h1094.2.1
                        refine ri_callS C km_J19_colorOf q1125 dJ19_fixAfterDeletion_86 (mt_J19_colorOfR htr f1094_sbrn (h1094.2.2.2 sbrn)) rfl rfl ⟨⟨(Nat.le_of_ble_eq_true rfl), (Nat.le_of_ble_eq_true rfl)⟩, (Nat.le_of_ble_eq_true rfl), (Nat.le_of_ble_eq_true rfl), (Nat.le_of_ble_eq_true rfl)⟩ (fun v86 z86 q86 => ?_) (fun _ _ _ h => h.elim)
                        obtain ⟨rfl, rfl⟩ := q86
                        refine ri_iconst C dJ19_fixAfterDeletion_89 kc_i1 ?_
                        refine ri_icmp_ne C 106 dJ19_fixAfterDeletion_90 rfl (fun h90 => ?_) (fun h90 => ?_)
                        · refine ri_aload_n C dJ19_fixAfterDeletion_106 rfl ?_
                          refine ri_callS C km_J19_rightOf q1122 dJ19_fixAfterDeletion_107 (mt_J19_rightOfR htr (y := (some sbrn)) f1094_sbn) rfl rfl ⟨⟨(Nat.le_of_ble_eq_true rfl), (Nat.le_of_ble_eq_true rfl)⟩, (Nat.le_of_ble_eq_true rfl), (Nat.le_of_ble_eq_true rfl), (Nat.le_of_ble_eq_true rfl)⟩ (fun v107 z107 q107 => ?_) (fun _ _ _ h => h.elim)
                          obtain ⟨rfl, rfl⟩ := q107
                          refine ri_callS C km_J19_colorOf q1125 dJ19_fixAfterDeletion_110 (mt_J19_colorOfR htr f1094_sbrn (h1094.2.2.2 sbrn)) rfl rfl ⟨⟨(Nat.le_of_ble_eq_true rfl), (Nat.le_of_ble_eq_true rfl)⟩, (Nat.le_of_ble_eq_true rfl), (Nat.le_of_ble_eq_true rfl), (Nat.le_of_ble_eq_true rfl)⟩ (fun v110 z110 q110 => ?_) (fun _ _ _ h => h.elim)
                          obtain ⟨rfl, rfl⟩ := q110
                          refine ri_iconst C dJ19_fixAfterDeletion_113 kc_i1 ?_
                          refine ri_icmp_ne C 143 dJ19_fixAfterDeletion_114 rfl (fun h114 => ?_) (fun h114 => ?_)
                          · refine ri_aload_n C dJ19_fixAfterDeletion_143 rfl ?_
                            refine ri_aload_n C dJ19_fixAfterDeletion_144 rfl ?_
                            refine ri_callS C km_J19_parentOf q1116 dJ19_fixAfterDeletion_145 (mt_J19_parentOfR htr (y := (some pn)) f1094_xa) rfl rfl ⟨⟨(Nat.le_of_ble_eq_true rfl), (Nat.le_of_ble_eq_true rfl)⟩, (Nat.le_of_ble_eq_true rfl), (Nat.le_of_ble_eq_true rfl), (Nat.le_of_ble_eq_true rfl)⟩ (fun v145 z145 q145 => ?_) (fun _ _ _ h => h.elim)
                            obtain ⟨rfl, rfl⟩ := q145
                            refine ri_callS C km_J19_colorOf q1125 dJ19_fixAfterDeletion_148 (mt_J19_colorOfR htr f1094_pn (h1094.2.2.2 pn)) rfl rfl ⟨⟨(Nat.le_of_ble_eq_true rfl), (Nat.le_of_ble_eq_true rfl)⟩, (Nat.le_of_ble_eq_true rfl), (Nat.le_of_ble_eq_true rfl), (Nat.le_of_ble_eq_true rfl)⟩ (fun v148 z148 q148 => ?_) (fun _ _ _ h => h.elim)
                            obtain ⟨rfl, rfl⟩ := q148
                            refine ri_callS C km_J19_setColor q1128 dJ19_fixAfterDeletion_151 (mt_J19_setColorT htr h1094 (an := sbn) (by simp [tt_i_p, tt_p, tt_i]) (h1094.2.2.2 _)) rfl rfl ⟨⟨(Nat.le_of_ble_eq_true rfl), (Nat.le_of_ble_eq_true rfl)⟩, (Nat.le_of_ble_eq_true rfl), (Nat.le_of_ble_eq_true rfl), (Nat.le_of_ble_eq_true rfl)⟩ (fun v151 z151 q151 => ?_) (fun _ _ _ h => h.elim)
                            obtain ⟨rfl, h1095, e1095⟩ := q151
                            rw [i1094] at e1095
                            have i1095 := i1094
                            have F1095 := kx_Fr.tr F1094 e1095
                            obtain ⟨⟨f1095_pn, ⟨f1095_xa, f1095_xl, f1095_xr⟩, ⟨f1095_sbn, -, ⟨f1095_sbrn, f1095_sbrl, f1095_sbrr⟩⟩⟩, fK1095⟩ := (tt_H_p Bx (.branch pn (.branch xa xl xr) (.branch sbn tt_n (.branch sbrn sbrl sbrr)))).mp h1095.2.1
                            refine ri_aload_n C dJ19_fixAfterDeletion_154 rfl ?_
                            refine ri_callS C km_J19_parentOf q1116 dJ19_fixAfterDeletion_155 (mt_J19_parentOfR htr (y := (some pn)) f1095_xa) rfl rfl ⟨⟨(Nat.le_of_ble_eq_true rfl), (Nat.le_of_ble_eq_true rfl)⟩, (Nat.le_of_ble_eq_true rfl), (Nat.le_of_ble_eq_true rfl), (Nat.le_of_ble_eq_true rfl)⟩ (fun v155 z155 q155 => ?_) (fun _ _ _ h => h.elim)
                            obtain ⟨rfl, rfl⟩ := q155
                            refine ri_iconst C dJ19_fixAfterDeletion_158 kc_i1 ?_
                            refine ri_callS C km_J19_setColor q1128 dJ19_fixAfterDeletion_159 (mt_J19_setColorT htr h1095 (an := pn) (by simp [tt_i_p, tt_p, tt_i]) (Or.inr rfl)) rfl rfl ⟨⟨(Nat.le_of_ble_eq_true rfl), (Nat.le_of_ble_eq_true rfl)⟩, (Nat.le_of_ble_eq_true rfl), (Nat.le_of_ble_eq_true rfl), (Nat.le_of_ble_eq_true rfl)⟩ (fun v159 z159 q159 => ?_) (fun _ _ _ h => h.elim)
                            obtain ⟨rfl, h1096, e1096⟩ := q159
                            rw [i1095] at e1096
                            have i1096 := i1095
                            have F1096 := kx_Fr.tr F1095 e1096
                            obtain ⟨⟨f1096_pn, ⟨f1096_xa, f1096_xl, f1096_xr⟩, ⟨f1096_sbn, -, ⟨f1096_sbrn, f1096_sbrl, f1096_sbrr⟩⟩⟩, fK1096⟩ := (tt_H_p Bx (.branch pn (.branch xa xl xr) (.branch sbn tt_n (.branch sbrn sbrl sbrr)))).mp h1096.2.1
                            refine ri_aload_n C dJ19_fixAfterDeletion_162 rfl ?_
                            refine ri_callS C km_J19_rightOf q1122 dJ19_fixAfterDeletion_163 (mt_J19_rightOfR htr (y := (some sbrn)) f1096_sbn) rfl rfl ⟨⟨(Nat.le_of_ble_eq_true rfl), (Nat.le_of_ble_eq_true rfl)⟩, (Nat.le_of_ble_eq_true rfl), (Nat.le_of_ble_eq_true rfl), (Nat.le_of_ble_eq_true rfl)⟩ (fun v163 z163 q163 => ?_) (fun _ _ _ h => h.elim)
                            obtain ⟨rfl, rfl⟩ := q163
                            refine ri_iconst C dJ19_fixAfterDeletion_166 kc_i1 ?_
                            refine ri_callS C km_J19_setColor q1128 dJ19_fixAfterDeletion_167 (mt_J19_setColorT htr h1096 (an := sbrn) (by simp [tt_i_p, tt_p, tt_i]) (Or.inr rfl)) rfl rfl ⟨⟨(Nat.le_of_ble_eq_true rfl), (Nat.le_of_ble_eq_true rfl)⟩, (Nat.le_of_ble_eq_true rfl), (Nat.le_of_ble_eq_true rfl), (Nat.le_of_ble_eq_true rfl)⟩ (fun v167 z167 q167 => ?_) (fun _ _ _ h => h.elim)
                            obtain ⟨rfl, h1097, e1097⟩ := q167
                            rw [i1096] at e1097
                            have i1097 := i1096
                            have F1097 := kx_Fr.tr F1096 e1097
                            obtain ⟨⟨f1097_pn, ⟨f1097_xa, f1097_xl, f1097_xr⟩, ⟨f1097_sbn, -, ⟨f1097_sbrn, f1097_sbrl, f1097_sbrr⟩⟩⟩, fK1097⟩ := (tt_H_p Bx (.branch pn (.branch xa xl xr) (.branch sbn tt_n (.branch sbrn sbrl sbrr)))).mp h1097.2.1
                            refine ri_aload_n C dJ19_fixAfterDeletion_170 rfl ?_
                            refine ri_aload_n C dJ19_fixAfterDeletion_171 rfl ?_
                            refine ri_callS C km_J19_parentOf q1116 dJ19_fixAfterDeletion_172 (mt_J19_parentOfR htr (y := (some pn)) f1097_xa) rfl rfl ⟨⟨(Nat.le_of_ble_eq_true rfl), (Nat.le_of_ble_eq_true rfl)⟩, (Nat.le_of_ble_eq_true rfl), (Nat.le_of_ble_eq_true rfl), (Nat.le_of_ble_eq_true rfl)⟩ (fun v172 z172 q172 => ?_) (fun _ _ _ h => h.elim)
                            obtain ⟨rfl, rfl⟩ := q172
                            refine ri_callV C km_J19_rotateLeft q1131 qs9 dJ19_fixAfterDeletion_175 (mt_J19_rotateLeft htr (Bx := (Bx)) (pn := pn) (rn := sbn) (ta := (.branch xa xl xr)) (tb := tt_n) (td := (.branch sbrn sbrl sbrr)) h1097) rfl rfl (kx_rcN C h1097.1 rfl) ⟨⟨(Nat.le_of_ble_eq_true rfl), (Nat.le_of_ble_eq_true rfl)⟩, (Nat.le_of_ble_eq_true rfl), (Nat.le_of_ble_eq_true rfl), (Nat.le_of_ble_eq_true rfl)⟩ (fun v175 z175 q175 => ?_) (fun _ _ _ h => h.elim)
                            obtain ⟨rfl, H1098, e1098⟩ := q175
                            have h1098 : tm_H z175 ct mp (tt_p Bx (.branch sbn (.branch pn (.branch xa xl xr) tt_n) (.branch sbrn sbrl sbrr))) K V (tm_c (tm_c (tm_c D1 sbn (D1 pn)) pn (nI 1)) sbrn (nI 1)) vals sz md := H1098
                            have e1098 : kx_Fr (tm_T ct (tt_i (tt_p Bx (.branch pn (.branch xa xl xr) (.branch sbn tt_n (.branch sbrn sbrl sbrr)))))) z172 z175 := e1098
                            rw [i1097] at e1098
                            have i1098 : tt_i (tt_p Bx (.branch sbn (.branch pn (.branch xa xl xr) tt_n) (.branch sbrn sbrl sbrr))) = L0 := (by rw [← i1097]; simp [tt_i_p, tt_p, tt_i])
                            have F1098 := kx_Fr.tr F1097 e1098
                            obtain ⟨⟨f1098_sbn, ⟨f1098_pn, ⟨f1098_xa, f1098_xl, f1098_xr⟩, -⟩, ⟨f1098_sbrn, f1098_sbrl, f1098_sbrr⟩⟩, fK1098⟩ := (tt_H_p Bx (.branch sbn (.branch pn (.branch xa xl xr) tt_n) (.branch sbrn sbrl sbrr))).mp h1098.2.1
                            refine ri_aload_n C dJ19_fixAfterDeletion_178 rfl ?_
                            refine ri_getf C dJ19_fixAfterDeletion_179 fr_q577_18 h1098.1 (by rfl) ?_
                            refine ri_astore_nQ (x := (tt_r (tt_p Bx (.branch sbn (.branch pn (.branch xa xl xr) tt_n) (.branch sbrn sbrl sbrr))))) C dJ19_fixAfterDeletion_182 rfl (by decide) ?_
                            refine ri_goto C 0 dJ19_fixAfterDeletion_183 rfl ?_
                            obtain ⟨rn9, rl9, rr9, hr9⟩ : ∃ rn rl rr, (tt_p Bx (.branch sbn (.branch pn (.branch xa xl xr) tt_n) (.branch sbrn sbrl sbrr))) = .branch rn rl rr := tt_rt Bx
                            have hh9 : tm_H z175 ct mp (tt_p [] (.branch rn9 rl9 rr9)) K V (tm_c (tm_c (tm_c D1 sbn (D1 pn)) pn (nI 1)) sbrn (nI 1)) vals sz md := (by show tm_H _ _ _ (.branch rn9 rl9 rr9) _ _ _ _ _ _; rw [← hr9]; exact h1098)
                            have ii9 : tt_i (tt_p [] (.branch rn9 rl9 rr9)) = L0 := (by show tt_i (.branch rn9 rl9 rr9) = L0; rw [← hr9]; exact i1098)
                            rw [hr9]
                            refine ri_lv2 (ih (i + 1) [] rn9 rl9 rr9 _ _ (by omega) (by omega) ⟨hh9, ⟨A ++ ((true, pn, tt_n) :: (true, sbn, (.branch sbrn sbrl sbrr)) :: Bx), by rw [tt_p_a, ← hA, ← hr9] <;> rfl⟩, ii9, F1098, ?_⟩) ⟨rfl, rfl, trivial⟩
                            first
                              | exact Or.inl (by simp only [List.length_cons, List.length_nil] at hln ⊢; omega)
                              | exact Or.inr ⟨by simp only [List.length_cons, List.length_nil] at hln; omega, Or.inr rfl⟩
                              | exact Or.inr ⟨by simp only [List.length_cons, List.length_nil] at hln; omega, Or.inl (by simp [tm_c])⟩
                          · exact absurd h114 h90
                        · refine ri_aload_n C dJ19_fixAfterDeletion_93 rfl ?_
                          refine ri_iconst C dJ19_fixAfterDeletion_94 kc_i0 ?_
                          refine ri_callS C km_J19_setColor q1128 dJ19_fixAfterDeletion_95 (mt_J19_setColorT htr h1094 (an := sbn) (by simp [tt_i_p, tt_p, tt_i]) (Or.inl rfl)) rfl rfl ⟨⟨(Nat.le_of_ble_eq_true rfl), (Nat.le_of_ble_eq_true rfl)⟩, (Nat.le_of_ble_eq_true rfl), (Nat.le_of_ble_eq_true rfl), (Nat.le_of_ble_eq_true rfl)⟩ (fun v95 z95 q95 => ?_) (fun _ _ _ h => h.elim)
                          obtain ⟨rfl, h1099, e1099⟩ := q95
                          rw [i1094] at e1099
                          have i1099 := i1094
                          have F1099 := kx_Fr.tr F1094 e1099
                          obtain ⟨⟨f1099_pn, ⟨f1099_xa, f1099_xl, f1099_xr⟩, ⟨f1099_sbn, -, ⟨f1099_sbrn, f1099_sbrl, f1099_sbrr⟩⟩⟩, fK1099⟩ := (tt_H_p Bx (.branch pn (.branch xa xl xr) (.branch sbn tt_n (.branch sbrn sbrl sbrr)))).mp h1099.2.1
                          refine ri_aload_n C dJ19_fixAfterDeletion_98 rfl ?_
                          refine ri_callS C km_J19_parentOf q1116 dJ19_fixAfterDeletion_99 (mt_J19_parentOfR htr (y := (some pn)) f1099_xa) rfl rfl ⟨⟨(Nat.le_of_ble_eq_true rfl), (Nat.le_of_ble_eq_true rfl)⟩, (Nat.le_of_ble_eq_true rfl), (Nat.le_of_ble_eq_true rfl), (Nat.le_of_ble_eq_true rfl)⟩ (fun v99 z99 q99 => ?_) (fun _ _ _ h => h.elim)
                          obtain ⟨rfl, rfl⟩ := q99
                          refine ri_astore_n (x := pn) C dJ19_fixAfterDeletion_102 rfl (by decide) ?_
                          refine ri_goto C 183 dJ19_fixAfterDeletion_103 rfl ?_
                          refine ri_goto C 0 dJ19_fixAfterDeletion_183 rfl ?_
                          refine ri_lv2 (ih (i + 1) (Bx) pn (.branch xa xl xr) (.branch sbn tt_n (.branch sbrn sbrl sbrr)) _ _ (by omega) (by omega) ⟨h1099, ⟨A ++ [(true, pn, (.branch sbn tt_n (.branch sbrn sbrl sbrr)))], by rw [tt_p_a, ← hA] <;> rfl⟩, i1099, F1099, ?_⟩) ⟨rfl, rfl, trivial⟩
                          first
                            | exact Or.inl (by simp only [List.length_cons, List.length_nil] at hln ⊢; omega)
                            | exact Or.inr ⟨by simp only [List.length_cons, List.length_nil] at hln; omega, Or.inr rfl⟩
                            | exact Or.inr ⟨by simp only [List.length_cons, List.length_nil] at hln; omega, Or.inl (by simp [tm_c])⟩
                  · have h1100 : tm_H z72 ct mp (tt_p Bx (.branch pn (.branch xa xl xr) (.branch sbn (.branch sbln sbll sblr) sbr))) K V D1 vals sz md := h1090
                    have i1100 : tt_i (tt_p Bx (.branch pn (.branch xa xl xr) (.branch sbn (.branch sbln sbll sblr) sbr))) = L0 := i1090
                    have F1100 := F1090
                    have nd1100 := h1100.2.2.1
                    obtain ⟨⟨f1100_pn, ⟨f1100_xa, f1100_xl, f1100_xr⟩, ⟨f1100_sbn, ⟨f1100_sbln, f1100_sbll, f1100_sblr⟩, f1100_sbr⟩⟩, fK1100⟩ := (tt_H_p Bx (.branch pn (.branch xa xl xr) (.branch sbn (.branch sbln sbll sblr) sbr))).mp h1100.2.1
                    refine ri_callS C km_J19_colorOf q1125 dJ19_fixAfterDeletion_75 (mt_J19_colorOfR htr f1100_sbln (h1100.2.2.2 sbln)) rfl rfl ⟨⟨(Nat.le_of_ble_eq_true rfl), (Nat.le_of_ble_eq_true rfl)⟩, (Nat.le_of_ble_eq_true rfl), (Nat.le_of_ble_eq_true rfl), (Nat.le_of_ble_eq_true rfl)⟩ (fun v75 z75 q75 => ?_) (fun _ _ _ h => h.elim)
                    obtain ⟨rfl, rfl⟩ := q75
                    refine ri_iconst C dJ19_fixAfterDeletion_78 kc_i1 ?_
                    refine ri_icmp_ne C 106 dJ19_fixAfterDeletion_79 rfl (fun h79 => ?_) (fun h79 => ?_)
                    · refine ri_aload_n C dJ19_fixAfterDeletion_106 rfl ?_
                      refine ri_callS C km_J19_rightOf q1122 dJ19_fixAfterDeletion_107 (mt_J19_rightOfR htr (y := (tt_r sbr)) f1100_sbn) rfl rfl ⟨⟨(Nat.le_of_ble_eq_true rfl), (Nat.le_of_ble_eq_true rfl)⟩, (Nat.le_of_ble_eq_true rfl), (Nat.le_of_ble_eq_true rfl), (Nat.le_of_ble_eq_true rfl)⟩ (fun v107 z107 q107 => ?_) (fun _ _ _ h => h.elim)
                      obtain ⟨rfl, rfl⟩ := q107
                      rcases sbr with ⟨_⟩ | ⟨sbrn, sbrl, sbrr⟩
                      · have h1101 : tm_H z107 ct mp (tt_p Bx (.branch pn (.branch xa xl xr) (.branch sbn (.branch sbln sbll sblr) tt_n))) K V D1 vals sz md := h1100
                        have i1101 : tt_i (tt_p Bx (.branch pn (.branch xa xl xr) (.branch sbn (.branch sbln sbll sblr) tt_n))) = L0 := i1100
                        have F1101 := F1100
                        obtain ⟨⟨f1101_pn, ⟨f1101_xa, f1101_xl, f1101_xr⟩, ⟨f1101_sbn, ⟨f1101_sbln, f1101_sbll, f1101_sblr⟩, -⟩⟩, fK1101⟩ := (tt_H_p Bx (.branch pn (.branch xa xl xr) (.branch sbn (.branch sbln sbll sblr) tt_n))).mp h1101.2.1
                        refine ri_callS C km_J19_colorOf q1125 dJ19_fixAfterDeletion_110 (mt_J19_colorOfN htr) rfl rfl ⟨⟨(Nat.le_of_ble_eq_true rfl), (Nat.le_of_ble_eq_true rfl)⟩, (Nat.le_of_ble_eq_true rfl), (Nat.le_of_ble_eq_true rfl), (Nat.le_of_ble_eq_true rfl)⟩ (fun v110 z110 q110 => ?_) (fun _ _ _ h => h.elim)
                        obtain ⟨rfl, rfl⟩ := q110
                        refine ri_iconst C dJ19_fixAfterDeletion_113 kc_i1 ?_
                        refine ri_icmp_ne C 143 dJ19_fixAfterDeletion_114 rfl (fun h114 => ?_) (fun h114 => ?_)
                        · exact absurd rfl h114
                        · refine ri_aload_n C dJ19_fixAfterDeletion_117 rfl ?_
                          refine ri_callS C km_J19_leftOf q1119 dJ19_fixAfterDeletion_118 (mt_J19_leftOfR htr (y := (some sbln)) f1101_sbn) rfl rfl ⟨⟨(Nat.le_of_ble_eq_true rfl), (Nat.le_of_ble_eq_true rfl)⟩, (Nat.le_of_ble_eq_true rfl), (Nat.le_of_ble_eq_true rfl), (Nat.le_of_ble_eq_true rfl)⟩ (fun v118 z118 q118 => ?_) (fun _ _ _ h => h.elim)
                          obtain ⟨rfl, rfl⟩ := q118
                          refine ri_iconst C dJ19_fixAfterDeletion_121 kc_i1 ?_
                          refine ri_callS C km_J19_setColor q1128 dJ19_fixAfterDeletion_122 (mt_J19_setColorT htr h1101 (an := sbln) (by simp [tt_i_p, tt_p, tt_i]) (Or.inr rfl)) rfl rfl ⟨⟨(Nat.le_of_ble_eq_true rfl), (Nat.le_of_ble_eq_true rfl)⟩, (Nat.le_of_ble_eq_true rfl), (Nat.le_of_ble_eq_true rfl), (Nat.le_of_ble_eq_true rfl)⟩ (fun v122 z122 q122 => ?_) (fun _ _ _ h => h.elim)
                          obtain ⟨rfl, h1102, e1102⟩ := q122
                          rw [i1101] at e1102
                          have i1102 := i1101
                          have F1102 := kx_Fr.tr F1101 e1102
                          obtain ⟨⟨f1102_pn, ⟨f1102_xa, f1102_xl, f1102_xr⟩, ⟨f1102_sbn, ⟨f1102_sbln, f1102_sbll, f1102_sblr⟩, -⟩⟩, fK1102⟩ := (tt_H_p Bx (.branch pn (.branch xa xl xr) (.branch sbn (.branch sbln sbll sblr) tt_n))).mp h1102.2.1
                          refine ri_aload_n C dJ19_fixAfterDeletion_125 rfl ?_
                          refine ri_iconst C dJ19_fixAfterDeletion_126 kc_i0 ?_
                          refine ri_callS C km_J19_setColor q1128 dJ19_fixAfterDeletion_127 (mt_J19_setColorT htr h1102 (an := sbn) (by simp [tt_i_p, tt_p, tt_i]) (Or.inl rfl)) rfl rfl ⟨⟨(Nat.le_of_ble_eq_true rfl), (Nat.le_of_ble_eq_true rfl)⟩, (Nat.le_of_ble_eq_true rfl), (Nat.le_of_ble_eq_true rfl), (Nat.le_of_ble_eq_true rfl)⟩ (fun v127 z127 q127 => ?_) (fun _ _ _ h => h.elim)
                          obtain ⟨rfl, h1103, e1103⟩ := q127
                          rw [i1102] at e1103
                          have i1103 := i1102
                          have F1103 := kx_Fr.tr F1102 e1103
                          obtain ⟨⟨f1103_pn, ⟨f1103_xa, f1103_xl, f1103_xr⟩, ⟨f1103_sbn, ⟨f1103_sbln, f1103_sbll, f1103_sblr⟩, -⟩⟩, fK1103⟩ := (tt_H_p Bx (.branch pn (.branch xa xl xr) (.branch sbn (.branch sbln sbll sblr) tt_n))).mp h1103.2.1
                          refine ri_aload_n C dJ19_fixAfterDeletion_130 rfl ?_
                          refine ri_aload_n C dJ19_fixAfterDeletion_131 rfl ?_
                          refine ri_callV C km_J19_rotateRight q1135 qs10 dJ19_fixAfterDeletion_132 (mt_J19_rotateRight htr (Bx := ((false, pn, (.branch xa xl xr)) :: Bx)) (pn := sbn) (rn := sbln) (ta := tt_n) (tb := sblr) (td := sbll) h1103) rfl rfl (kx_rcN C h1103.1 rfl) ⟨⟨(Nat.le_of_ble_eq_true rfl), (Nat.le_of_ble_eq_true rfl)⟩, (Nat.le_of_ble_eq_true rfl), (Nat.le_of_ble_eq_true rfl), (Nat.le_of_ble_eq_true rfl)⟩ (fun v132 z132 q132 => ?_) (fun _ _ _ h => h.elim)
                          obtain ⟨rfl, H1104, e1104⟩ := q132
                          have h1104 : tm_H z132 ct mp (tt_p Bx (.branch pn (.branch xa xl xr) (.branch sbln sbll (.branch sbn sblr tt_n)))) K V (tm_c (tm_c D1 sbln (nI 1)) sbn (nI 0)) vals sz md := H1104
                          have e1104 : kx_Fr (tm_T ct (tt_i (tt_p Bx (.branch pn (.branch xa xl xr) (.branch sbn (.branch sbln sbll sblr) tt_n))))) z127 z132 := e1104
                          rw [i1103] at e1104
                          have i1104 : tt_i (tt_p Bx (.branch pn (.branch xa xl xr) (.branch sbln sbll (.branch sbn sblr tt_n)))) = L0 := (by rw [← i1103]; simp [tt_i_p, tt_p, tt_i])
                          have F1104 := kx_Fr.tr F1103 e1104
                          obtain ⟨⟨f1104_pn, ⟨f1104_xa, f1104_xl, f1104_xr⟩, ⟨f1104_sbln, f1104_sbll, ⟨f1104_sbn, f1104_sblr, -⟩⟩⟩, fK1104⟩ := (tt_H_p Bx (.branch pn (.branch xa xl xr) (.branch sbln sbll (.branch sbn sblr tt_n)))).mp h1104.2.1
                          refine ri_aload_n C dJ19_fixAfterDeletion_135 rfl ?_
                          refine ri_callS C km_J19_parentOf q1116 dJ19_fixAfterDeletion_136 (mt_J19_parentOfR htr (y := (some pn)) f1104_xa) rfl rfl ⟨⟨(Nat.le_of_ble_eq_true rfl), (Nat.le_of_ble_eq_true rfl)⟩, (Nat.le_of_ble_eq_true rfl), (Nat.le_of_ble_eq_true rfl), (Nat.le_of_ble_eq_true rfl)⟩ (fun v136 z136 q136 => ?_) (fun _ _ _ h => h.elim)
                          obtain ⟨rfl, rfl⟩ := q136
                          refine ri_callS C km_J19_rightOf q1122 dJ19_fixAfterDeletion_139 (mt_J19_rightOfR htr (y := (some sbln)) f1104_pn) rfl rfl ⟨⟨(Nat.le_of_ble_eq_true rfl), (Nat.le_of_ble_eq_true rfl)⟩, (Nat.le_of_ble_eq_true rfl), (Nat.le_of_ble_eq_true rfl), (Nat.le_of_ble_eq_true rfl)⟩ (fun v139 z139 q139 => ?_) (fun _ _ _ h => h.elim)
                          obtain ⟨rfl, rfl⟩ := q139
                          refine ri_astore_n (x := sbln) C dJ19_fixAfterDeletion_142 rfl (by decide) ?_
                          refine ri_aload_n C dJ19_fixAfterDeletion_143 rfl ?_
                          refine ri_aload_n C dJ19_fixAfterDeletion_144 rfl ?_
                          refine ri_callS C km_J19_parentOf q1116 dJ19_fixAfterDeletion_145 (mt_J19_parentOfR htr (y := (some pn)) f1104_xa) rfl rfl ⟨⟨(Nat.le_of_ble_eq_true rfl), (Nat.le_of_ble_eq_true rfl)⟩, (Nat.le_of_ble_eq_true rfl), (Nat.le_of_ble_eq_true rfl), (Nat.le_of_ble_eq_true rfl)⟩ (fun v145 z145 q145 => ?_) (fun _ _ _ h => h.elim)
                          obtain ⟨rfl, rfl⟩ := q145
                          refine ri_callS C km_J19_colorOf q1125 dJ19_fixAfterDeletion_148 (mt_J19_colorOfR htr f1104_pn (h1104.2.2.2 pn)) rfl rfl ⟨⟨(Nat.le_of_ble_eq_true rfl), (Nat.le_of_ble_eq_true rfl)⟩, (Nat.le_of_ble_eq_true rfl), (Nat.le_of_ble_eq_true rfl), (Nat.le_of_ble_eq_true rfl)⟩ (fun v148 z148 q148 => ?_) (fun _ _ _ h => h.elim)
                          obtain ⟨rfl, rfl⟩ := q148
                          refine ri_callS C km_J19_setColor q1128 dJ19_fixAfterDeletion_151 (mt_J19_setColorT htr h1104 (an := sbln) (by simp [tt_i_p, tt_p, tt_i]) (h1104.2.2.2 _)) rfl rfl ⟨⟨(Nat.le_of_ble_eq_true rfl), (Nat.le_of_ble_eq_true rfl)⟩, (Nat.le_of_ble_eq_true rfl), (Nat.le_of_ble_eq_true rfl), (Nat.le_of_ble_eq_true rfl)⟩ (fun v151 z151 q151 => ?_) (fun _ _ _ h => h.elim)
                          obtain ⟨rfl, h1105, e1105⟩ := q151
                          rw [i1104] at e1105
                          have i1105 := i1104
                          have F1105 := kx_Fr.tr F1104 e1105
                          obtain ⟨⟨f1105_pn, ⟨f1105_xa, f1105_xl, f1105_xr⟩, ⟨f1105_sbln, f1105_sbll, ⟨f1105_sbn, f1105_sblr, -⟩⟩⟩, fK1105⟩ := (tt_H_p Bx (.branch pn (.branch xa xl xr) (.branch sbln sbll (.branch sbn sblr tt_n)))).mp h1105.2.1
                          refine ri_aload_n C dJ19_fixAfterDeletion_154 rfl ?_
                          refine ri_callS C km_J19_parentOf q1116 dJ19_fixAfterDeletion_155 (mt_J19_parentOfR htr (y := (some pn)) f1105_xa) rfl rfl ⟨⟨(Nat.le_of_ble_eq_true rfl), (Nat.le_of_ble_eq_true rfl)⟩, (Nat.le_of_ble_eq_true rfl), (Nat.le_of_ble_eq_true rfl), (Nat.le_of_ble_eq_true rfl)⟩ (fun v155 z155 q155 => ?_) (fun _ _ _ h => h.elim)
                          obtain ⟨rfl, rfl⟩ := q155
                          refine ri_iconst C dJ19_fixAfterDeletion_158 kc_i1 ?_
                          refine ri_callS C km_J19_setColor q1128 dJ19_fixAfterDeletion_159 (mt_J19_setColorT htr h1105 (an := pn) (by simp [tt_i_p, tt_p, tt_i]) (Or.inr rfl)) rfl rfl ⟨⟨(Nat.le_of_ble_eq_true rfl), (Nat.le_of_ble_eq_true rfl)⟩, (Nat.le_of_ble_eq_true rfl), (Nat.le_of_ble_eq_true rfl), (Nat.le_of_ble_eq_true rfl)⟩ (fun v159 z159 q159 => ?_) (fun _ _ _ h => h.elim)
                          obtain ⟨rfl, h1106, e1106⟩ := q159
                          rw [i1105] at e1106
                          have i1106 := i1105
                          have F1106 := kx_Fr.tr F1105 e1106
                          obtain ⟨⟨f1106_pn, ⟨f1106_xa, f1106_xl, f1106_xr⟩, ⟨f1106_sbln, f1106_sbll, ⟨f1106_sbn, f1106_sblr, -⟩⟩⟩, fK1106⟩ := (tt_H_p Bx (.branch pn (.branch xa xl xr) (.branch sbln sbll (.branch sbn sblr tt_n)))).mp h1106.2.1
                          refine ri_aload_n C dJ19_fixAfterDeletion_162 rfl ?_
                          refine ri_callS C km_J19_rightOf q1122 dJ19_fixAfterDeletion_163 (mt_J19_rightOfR htr (y := (some sbn)) f1106_sbln) rfl rfl ⟨⟨(Nat.le_of_ble_eq_true rfl), (Nat.le_of_ble_eq_true rfl)⟩, (Nat.le_of_ble_eq_true rfl), (Nat.le_of_ble_eq_true rfl), (Nat.le_of_ble_eq_true rfl)⟩ (fun v163 z163 q163 => ?_) (fun _ _ _ h => h.elim)
                          obtain ⟨rfl, rfl⟩ := q163
                          refine ri_iconst C dJ19_fixAfterDeletion_166 kc_i1 ?_
                          refine ri_callS C km_J19_setColor q1128 dJ19_fixAfterDeletion_167 (mt_J19_setColorT htr h1106 (an := sbn) (by simp [tt_i_p, tt_p, tt_i]) (Or.inr rfl)) rfl rfl ⟨⟨(Nat.le_of_ble_eq_true rfl), (Nat.le_of_ble_eq_true rfl)⟩, (Nat.le_of_ble_eq_true rfl), (Nat.le_of_ble_eq_true rfl), (Nat.le_of_ble_eq_true rfl)⟩ (fun v167 z167 q167 => ?_) (fun _ _ _ h => h.elim)
                          obtain ⟨rfl, h1107, e1107⟩ := q167
                          rw [i1106] at e1107
                          have i1107 := i1106
                          have F1107 := kx_Fr.tr F1106 e1107
                          obtain ⟨⟨f1107_pn, ⟨f1107_xa, f1107_xl, f1107_xr⟩, ⟨f1107_sbln, f1107_sbll, ⟨f1107_sbn, f1107_sblr, -⟩⟩⟩, fK1107⟩ := (tt_H_p Bx (.branch pn (.branch xa xl xr) (.branch sbln sbll (.branch sbn sblr tt_n)))).mp h1107.2.1
                          refine ri_aload_n C dJ19_fixAfterDeletion_170 rfl ?_
                          refine ri_aload_n C dJ19_fixAfterDeletion_171 rfl ?_
                          refine ri_callS C km_J19_parentOf q1116 dJ19_fixAfterDeletion_172 (mt_J19_parentOfR htr (y := (some pn)) f1107_xa) rfl rfl ⟨⟨(Nat.le_of_ble_eq_true rfl), (Nat.le_of_ble_eq_true rfl)⟩, (Nat.le_of_ble_eq_true rfl), (Nat.le_of_ble_eq_true rfl), (Nat.le_of_ble_eq_true rfl)⟩ (fun v172 z172 q172 => ?_) (fun _ _ _ h => h.elim)
                          obtain ⟨rfl, rfl⟩ := q172
                          refine ri_callV C km_J19_rotateLeft q1131 qs9 dJ19_fixAfterDeletion_175 (mt_J19_rotateLeft htr (Bx := (Bx)) (pn := pn) (rn := sbln) (ta := (.branch xa xl xr)) (tb := sbll) (td := (.branch sbn sblr tt_n)) h1107) rfl rfl (kx_rcN C h1107.1 rfl) ⟨⟨(Nat.le_of_ble_eq_true rfl), (Nat.le_of_ble_eq_true rfl)⟩, (Nat.le_of_ble_eq_true rfl), (Nat.le_of_ble_eq_true rfl), (Nat.le_of_ble_eq_true rfl)⟩ (fun v175 z175 q175 => ?_) (fun _ _ _ h => h.elim)
                          obtain ⟨rfl, H1108, e1108⟩ := q175
                          have h1108 : tm_H z175 ct mp (tt_p Bx (.branch sbln (.branch pn (.branch xa xl xr) sbll) (.branch sbn sblr tt_n))) K V (tm_c (tm_c (tm_c (tm_c (tm_c D1 sbln (nI 1)) sbn (nI 0)) sbln ((tm_c (tm_c D1 sbln (nI 1)) sbn (nI 0)) pn)) pn (nI 1)) sbn (nI 1)) vals sz md := H1108
                          have e1108 : kx_Fr (tm_T ct (tt_i (tt_p Bx (.branch pn (.branch xa xl xr) (.branch sbln sbll (.branch sbn sblr tt_n)))))) z172 z175 := e1108
                          rw [i1107] at e1108
                          have i1108 : tt_i (tt_p Bx (.branch sbln (.branch pn (.branch xa xl xr) sbll) (.branch sbn sblr tt_n))) = L0 := (by rw [← i1107]; simp [tt_i_p, tt_p, tt_i])
                          have F1108 := kx_Fr.tr F1107 e1108
                          obtain ⟨⟨f1108_sbln, ⟨f1108_pn, ⟨f1108_xa, f1108_xl, f1108_xr⟩, f1108_sbll⟩, ⟨f1108_sbn, f1108_sblr, -⟩⟩, fK1108⟩ := (tt_H_p Bx (.branch sbln (.branch pn (.branch xa xl xr) sbll) (.branch sbn sblr tt_n))).mp h1108.2.1
                          refine ri_aload_n C dJ19_fixAfterDeletion_178 rfl ?_
                          refine ri_getf C dJ19_fixAfterDeletion_179 fr_q577_18 h1108.1 (by rfl) ?_
                          refine ri_astore_nQ (x := (tt_r (tt_p Bx (.branch sbln (.branch pn (.branch xa xl xr) sbll) (.branch sbn sblr tt_n))))) C dJ19_fixAfterDeletion_182 rfl (by decide) ?_
                          refine ri_goto C 0 dJ19_fixAfterDeletion_183 rfl ?_
                          obtain ⟨rn9, rl9, rr9, hr9⟩ : ∃ rn rl rr, (tt_p Bx (.branch sbln (.branch pn (.branch xa xl xr) sbll) (.branch sbn sblr tt_n))) = .branch rn rl rr := tt_rt Bx
                          have hh9 : tm_H z175 ct mp (tt_p [] (.branch rn9 rl9 rr9)) K V (tm_c (tm_c (tm_c (tm_c (tm_c D1 sbln (nI 1)) sbn (nI 0)) sbln ((tm_c (tm_c D1 sbln (nI 1)) sbn (nI 0)) pn)) pn (nI 1)) sbn (nI 1)) vals sz md := (by show tm_H _ _ _ (.branch rn9 rl9 rr9) _ _ _ _ _ _; rw [← hr9]; exact h1108)
                          have ii9 : tt_i (tt_p [] (.branch rn9 rl9 rr9)) = L0 := (by show tt_i (.branch rn9 rl9 rr9) = L0; rw [← hr9]; exact i1108)
                          rw [hr9]
                          refine ri_lv2 (ih (i + 1) [] rn9 rl9 rr9 _ _ (by omega) (by omega) ⟨hh9, ⟨A ++ ((true, pn, sbll) :: (true, sbln, (.branch sbn sblr tt_n)) :: Bx), by rw [tt_p_a, ← hA, ← hr9] <;> rfl⟩, ii9, F1108, ?_⟩) ⟨rfl, rfl, trivial⟩
                          first
                            | exact Or.inl (by simp only [List.length_cons, List.length_nil] at hln ⊢; omega)
                            | exact Or.inr ⟨by simp only [List.length_cons, List.length_nil] at hln; omega, Or.inr rfl⟩
                            | exact Or.inr ⟨by simp only [List.length_cons, List.length_nil] at hln; omega, Or.inl (by simp [tm_c])⟩
                      · have h1109 : tm_H z107 ct mp (tt_p Bx (.branch pn (.branch xa xl xr) (.branch sbn (.branch sbln sbll sblr) (.branch sbrn sbrl sbrr)))) K V D1 vals sz md := h1100
                        have i1109 : tt_i (tt_p Bx (.branch pn (.branch xa xl xr) (.branch sbn (.branch sbln sbll sblr) (.branch sbrn sbrl sbrr)))) = L0 := i1100
                        have F1109 := F1100
                        have nd1109 := h1109.2.2.1
                        obtain ⟨⟨f1109_pn, ⟨f1109_xa, f1109_xl, f1109_xr⟩, ⟨f1109_sbn, ⟨f1109_sbln, f1109_sbll, f1109_sblr⟩, ⟨f1109_sbrn, f1109_sbrl, f1109_sbrr⟩⟩⟩, fK1109⟩ := (tt_H_p Bx (.branch pn (.branch xa xl xr) (.branch sbn (.branch sbln sbll sblr) (.branch sbrn sbrl sbrr)))).mp h1109.2.1
                        refine ri_callS C km_J19_colorOf q1125 dJ19_fixAfterDeletion_110 (mt_J19_colorOfR htr f1109_sbrn (h1109.2.2.2 sbrn)) rfl rfl ⟨⟨(Nat.le_of_ble_eq_true rfl), (Nat.le_of_ble_eq_true rfl)⟩, (Nat.le_of_ble_eq_true rfl), (Nat.le_of_ble_eq_true rfl), (Nat.le_of_ble_eq_true rfl)⟩ (fun v110 z110 q110 => ?_) (fun _ _ _ h => h.elim)
                        obtain ⟨rfl, rfl⟩ := q110
                        refine ri_iconst C dJ19_fixAfterDeletion_113 kc_i1 ?_
                        refine ri_icmp_ne C 143 dJ19_fixAfterDeletion_114 rfl (fun h114 => ?_) (fun h114 => ?_)
                        · refine ri_aload_n C dJ19_fixAfterDeletion_143 rfl ?_
                          refine ri_aload_n C dJ19_fixAfterDeletion_144 rfl ?_
                          refine ri_callS C km_J19_parentOf q1116 dJ19_fixAfterDeletion_145 (mt_J19_parentOfR htr (y := (some pn)) f1109_xa) rfl rfl ⟨⟨(Nat.le_of_ble_eq_true rfl), (Nat.le_of_ble_eq_true rfl)⟩, (Nat.le_of_ble_eq_true rfl), (Nat.le_of_ble_eq_true rfl), (Nat.le_of_ble_eq_true rfl)⟩ (fun v145 z145 q145 => ?_) (fun _ _ _ h => h.elim)
                          obtain ⟨rfl, rfl⟩ := q145
                          refine ri_callS C km_J19_colorOf q1125 dJ19_fixAfterDeletion_148 (mt_J19_colorOfR htr f1109_pn (h1109.2.2.2 pn)) rfl rfl ⟨⟨(Nat.le_of_ble_eq_true rfl), (Nat.le_of_ble_eq_true rfl)⟩, (Nat.le_of_ble_eq_true rfl), (Nat.le_of_ble_eq_true rfl), (Nat.le_of_ble_eq_true rfl)⟩ (fun v148 z148 q148 => ?_) (fun _ _ _ h => h.elim)
                          obtain ⟨rfl, rfl⟩ := q148
                          refine ri_callS C km_J19_setColor q1128 dJ19_fixAfterDeletion_151 (mt_J19_setColorT htr h1109 (an := sbn) (by simp [tt_i_p, tt_p, tt_i]) (h1109.2.2.2 _)) rfl rfl ⟨⟨(Nat.le_of_ble_eq_true rfl), (Nat.le_of_ble_eq_true rfl)⟩, (Nat.le_of_ble_eq_true rfl), (Nat.le_of_ble_eq_true rfl), (Nat.le_of_ble_eq_true rfl)⟩ (fun v151 z151 q151 => ?_) (fun _ _ _ h => h.elim)
                          obtain ⟨rfl, h1110, e1110⟩ := q151
                          rw [i1109] at e1110
                          have i1110 := i1109
                          have F1110 := kx_Fr.tr F1109 e1110
                          obtain ⟨⟨f1110_pn, ⟨f1110_xa, f1110_xl, f1110_xr⟩, ⟨f1110_sbn, ⟨f1110_sbln, f1110_sbll, f1110_sblr⟩, ⟨f1110_sbrn, f1110_sbrl, f1110_sbrr⟩⟩⟩, fK1110⟩ := (tt_H_p Bx (.branch pn (.branch xa xl xr) (.branch sbn (.branch sbln sbll sblr) (.branch sbrn sbrl sbrr)))).mp h1110.2.1
                          refine ri_aload_n C dJ19_fixAfterDeletion_154 rfl ?_
                          refine ri_callS C km_J19_parentOf q1116 dJ19_fixAfterDeletion_155 (mt_J19_parentOfR htr (y := (some pn)) f1110_xa) rfl rfl ⟨⟨(Nat.le_of_ble_eq_true rfl), (Nat.le_of_ble_eq_true rfl)⟩, (Nat.le_of_ble_eq_true rfl), (Nat.le_of_ble_eq_true rfl), (Nat.le_of_ble_eq_true rfl)⟩ (fun v155 z155 q155 => ?_) (fun _ _ _ h => h.elim)
                          obtain ⟨rfl, rfl⟩ := q155
                          refine ri_iconst C dJ19_fixAfterDeletion_158 kc_i1 ?_
                          refine ri_callS C km_J19_setColor q1128 dJ19_fixAfterDeletion_159 (mt_J19_setColorT htr h1110 (an := pn) (by simp [tt_i_p, tt_p, tt_i]) (Or.inr rfl)) rfl rfl ⟨⟨(Nat.le_of_ble_eq_true rfl), (Nat.le_of_ble_eq_true rfl)⟩, (Nat.le_of_ble_eq_true rfl), (Nat.le_of_ble_eq_true rfl), (Nat.le_of_ble_eq_true rfl)⟩ (fun v159 z159 q159 => ?_) (fun _ _ _ h => h.elim)
                          obtain ⟨rfl, h1111, e1111⟩ := q159
                          rw [i1110] at e1111
                          have i1111 := i1110
                          have F1111 := kx_Fr.tr F1110 e1111
                          obtain ⟨⟨f1111_pn, ⟨f1111_xa, f1111_xl, f1111_xr⟩, ⟨f1111_sbn, ⟨f1111_sbln, f1111_sbll, f1111_sblr⟩, ⟨f1111_sbrn, f1111_sbrl, f1111_sbrr⟩⟩⟩, fK1111⟩ := (tt_H_p Bx (.branch pn (.branch xa xl xr) (.branch sbn (.branch sbln sbll sblr) (.branch sbrn sbrl sbrr)))).mp h1111.2.1
                          refine ri_aload_n C dJ19_fixAfterDeletion_162 rfl ?_
                          refine ri_callS C km_J19_rightOf q1122 dJ19_fixAfterDeletion_163 (mt_J19_rightOfR htr (y := (some sbrn)) f1111_sbn) rfl rfl ⟨⟨(Nat.le_of_ble_eq_true rfl), (Nat.le_of_ble_eq_true rfl)⟩, (Nat.le_of_ble_eq_true rfl), (Nat.le_of_ble_eq_true rfl), (Nat.le_of_ble_eq_true rfl)⟩ (fun v163 z163 q163 => ?_) (fun _ _ _ h => h.elim)
                          obtain ⟨rfl, rfl⟩ := q163
                          refine ri_iconst C dJ19_fixAfterDeletion_166 kc_i1 ?_
                          refine ri_callS C km_J19_setColor q1128 dJ19_fixAfterDeletion_167 (mt_J19_setColorT htr h1111 (an := sbrn) (by simp [tt_i_p, tt_p, tt_i]) (Or.inr rfl)) rfl rfl ⟨⟨(Nat.le_of_ble_eq_true rfl), (Nat.le_of_ble_eq_true rfl)⟩, (Nat.le_of_ble_eq_true rfl), (Nat.le_of_ble_eq_true rfl), (Nat.le_of_ble_eq_true rfl)⟩ (fun v167 z167 q167 => ?_) (fun _ _ _ h => h.elim)
                          obtain ⟨rfl, h1112, e1112⟩ := q167
                          rw [i1111] at e1112
                          have i1112 := i1111
                          have F1112 := kx_Fr.tr F1111 e1112
                          obtain ⟨⟨f1112_pn, ⟨f1112_xa, f1112_xl, f1112_xr⟩, ⟨f1112_sbn, ⟨f1112_sbln, f1112_sbll, f1112_sblr⟩, ⟨f1112_sbrn, f1112_sbrl, f1112_sbrr⟩⟩⟩, fK1112⟩ := (tt_H_p Bx (.branch pn (.branch xa xl xr) (.branch sbn (.branch sbln sbll sblr) (.branch sbrn sbrl sbrr)))).mp h1112.2.1
                          refine ri_aload_n C dJ19_fixAfterDeletion_170 rfl ?_
                          refine ri_aload_n C dJ19_fixAfterDeletion_171 rfl ?_
                          refine ri_callS C km_J19_parentOf q1116 dJ19_fixAfterDeletion_172 (mt_J19_parentOfR htr (y := (some pn)) f1112_xa) rfl rfl ⟨⟨(Nat.le_of_ble_eq_true rfl), (Nat.le_of_ble_eq_true rfl)⟩, (Nat.le_of_ble_eq_true rfl), (Nat.le_of_ble_eq_true rfl), (Nat.le_of_ble_eq_true rfl)⟩ (fun v172 z172 q172 => ?_) (fun _ _ _ h => h.elim)
                          obtain ⟨rfl, rfl⟩ := q172
                          refine ri_callV C km_J19_rotateLeft q1131 qs9 dJ19_fixAfterDeletion_175 (mt_J19_rotateLeft htr (Bx := (Bx)) (pn := pn) (rn := sbn) (ta := (.branch xa xl xr)) (tb := (.branch sbln sbll sblr)) (td := (.branch sbrn sbrl sbrr)) h1112) rfl rfl (kx_rcN C h1112.1 rfl) ⟨⟨(Nat.le_of_ble_eq_true rfl), (Nat.le_of_ble_eq_true rfl)⟩, (Nat.le_of_ble_eq_true rfl), (Nat.le_of_ble_eq_true rfl), (Nat.le_of_ble_eq_true rfl)⟩ (fun v175 z175 q175 => ?_) (fun _ _ _ h => h.elim)
                          obtain ⟨rfl, H1113, e1113⟩ := q175
                          have h1113 : tm_H z175 ct mp (tt_p Bx (.branch sbn (.branch pn (.branch xa xl xr) (.branch sbln sbll sblr)) (.branch sbrn sbrl sbrr))) K V (tm_c (tm_c (tm_c D1 sbn (D1 pn)) pn (nI 1)) sbrn (nI 1)) vals sz md := H1113
                          have e1113 : kx_Fr (tm_T ct (tt_i (tt_p Bx (.branch pn (.branch xa xl xr) (.branch sbn (.branch sbln sbll sblr) (.branch sbrn sbrl sbrr)))))) z172 z175 := e1113
                          rw [i1112] at e1113
                          have i1113 : tt_i (tt_p Bx (.branch sbn (.branch pn (.branch xa xl xr) (.branch sbln sbll sblr)) (.branch sbrn sbrl sbrr))) = L0 := (by rw [← i1112]; simp [tt_i_p, tt_p, tt_i])
                          have F1113 := kx_Fr.tr F1112 e1113
                          obtain ⟨⟨f1113_sbn, ⟨f1113_pn, ⟨f1113_xa, f1113_xl, f1113_xr⟩, ⟨f1113_sbln, f1113_sbll, f1113_sblr⟩⟩, ⟨f1113_sbrn, f1113_sbrl, f1113_sbrr⟩⟩, fK1113⟩ := (tt_H_p Bx (.branch sbn (.branch pn (.branch xa xl xr) (.branch sbln sbll sblr)) (.branch sbrn sbrl sbrr))).mp h1113.2.1
                          refine ri_aload_n C dJ19_fixAfterDeletion_178 rfl ?_
                          refine ri_getf C dJ19_fixAfterDeletion_179 fr_q577_18 h1113.1 (by rfl) ?_
                          refine ri_astore_nQ (x := (tt_r (tt_p Bx (.branch sbn (.branch pn (.branch xa xl xr) (.branch sbln sbll sblr)) (.branch sbrn sbrl sbrr))))) C dJ19_fixAfterDeletion_182 rfl (by decide) ?_
                          refine ri_goto C 0 dJ19_fixAfterDeletion_183 rfl ?_
                          obtain ⟨rn9, rl9, rr9, hr9⟩ : ∃ rn rl rr, (tt_p Bx (.branch sbn (.branch pn (.branch xa xl xr) (.branch sbln sbll sblr)) (.branch sbrn sbrl sbrr))) = .branch rn rl rr := tt_rt Bx
                          have hh9 : tm_H z175 ct mp (tt_p [] (.branch rn9 rl9 rr9)) K V (tm_c (tm_c (tm_c D1 sbn (D1 pn)) pn (nI 1)) sbrn (nI 1)) vals sz md := (by show tm_H _ _ _ (.branch rn9 rl9 rr9) _ _ _ _ _ _; rw [← hr9]; exact h1113)
                          have ii9 : tt_i (tt_p [] (.branch rn9 rl9 rr9)) = L0 := (by show tt_i (.branch rn9 rl9 rr9) = L0; rw [← hr9]; exact i1113)
                          rw [hr9]
                          refine ri_lv2 (ih (i + 1) [] rn9 rl9 rr9 _ _ (by omega) (by omega) ⟨hh9, ⟨A ++ ((true, pn, (.branch sbln sbll sblr)) :: (true, sbn, (.branch sbrn sbrl sbrr)) :: Bx), by rw [tt_p_a, ← hA, ← hr9] <;> rfl⟩, ii9, F1113, ?_⟩) ⟨rfl, rfl, trivial⟩
                          first
                            | exact Or.inl (by simp only [List.length_cons, List.length_nil] at hln ⊢; omega)
                            | exact Or.inr ⟨by simp only [List.length_cons, List.length_nil] at hln; omega, Or.inr rfl⟩
                            | exact Or.inr ⟨by simp only [List.length_cons, List.length_nil] at hln; omega, Or.inl (by simp [tm_c])⟩
                        · refine ri_aload_n C dJ19_fixAfterDeletion_117 rfl ?_
                          refine ri_callS C km_J19_leftOf q1119 dJ19_fixAfterDeletion_118 (mt_J19_leftOfR htr (y := (some sbln)) f1109_sbn) rfl rfl ⟨⟨(Nat.le_of_ble_eq_true rfl), (Nat.le_of_ble_eq_true rfl)⟩, (Nat.le_of_ble_eq_true rfl), (Nat.le_of_ble_eq_true rfl), (Nat.le_of_ble_eq_true rfl)⟩ (fun v118 z118 q118 => ?_) (fun _ _ _ h => h.elim)
                          obtain ⟨rfl, rfl⟩ := q118
                          refine ri_iconst C dJ19_fixAfterDeletion_121 kc_i1 ?_
                          refine ri_callS C km_J19_setColor q1128 dJ19_fixAfterDeletion_122 (mt_J19_setColorT htr h1109 (an := sbln) (by simp [tt_i_p, tt_p, tt_i]) (Or.inr rfl)) rfl rfl ⟨⟨(Nat.le_of_ble_eq_true rfl), (Nat.le_of_ble_eq_true rfl)⟩, (Nat.le_of_ble_eq_true rfl), (Nat.le_of_ble_eq_true rfl), (Nat.le_of_ble_eq_true rfl)⟩ (fun v122 z122 q122 => ?_) (fun _ _ _ h => h.elim)
                          obtain ⟨rfl, h1114, e1114⟩ := q122
                          rw [i1109] at e1114
                          have i1114 := i1109
                          have F1114 := kx_Fr.tr F1109 e1114
                          obtain ⟨⟨f1114_pn, ⟨f1114_xa, f1114_xl, f1114_xr⟩, ⟨f1114_sbn, ⟨f1114_sbln, f1114_sbll, f1114_sblr⟩, ⟨f1114_sbrn, f1114_sbrl, f1114_sbrr⟩⟩⟩, fK1114⟩ := (tt_H_p Bx (.branch pn (.branch xa xl xr) (.branch sbn (.branch sbln sbll sblr) (.branch sbrn sbrl sbrr)))).mp h1114.2.1
                          refine ri_aload_n C dJ19_fixAfterDeletion_125 rfl ?_
                          refine ri_iconst C dJ19_fixAfterDeletion_126 kc_i0 ?_
                          refine ri_callS C km_J19_setColor q1128 dJ19_fixAfterDeletion_127 (mt_J19_setColorT htr h1114 (an := sbn) (by simp [tt_i_p, tt_p, tt_i]) (Or.inl rfl)) rfl rfl ⟨⟨(Nat.le_of_ble_eq_true rfl), (Nat.le_of_ble_eq_true rfl)⟩, (Nat.le_of_ble_eq_true rfl), (Nat.le_of_ble_eq_true rfl), (Nat.le_of_ble_eq_true rfl)⟩ (fun v127 z127 q127 => ?_) (fun _ _ _ h => h.elim)
                          obtain ⟨rfl, h1115, e1115⟩ := q127
                          rw [i1114] at e1115
                          have i1115 := i1114
                          have F1115 := kx_Fr.tr F1114 e1115
                          obtain ⟨⟨f1115_pn, ⟨f1115_xa, f1115_xl, f1115_xr⟩, ⟨f1115_sbn, ⟨f1115_sbln, f1115_sbll, f1115_sblr⟩, ⟨f1115_sbrn, f1115_sbrl, f1115_sbrr⟩⟩⟩, fK1115⟩ := (tt_H_p Bx (.branch pn (.branch xa xl xr) (.branch sbn (.branch sbln sbll sblr) (.branch sbrn sbrl sbrr)))).mp h1115.2.1
                          refine ri_aload_n C dJ19_fixAfterDeletion_130 rfl ?_
                          refine ri_aload_n C dJ19_fixAfterDeletion_131 rfl ?_
                          refine ri_callV C km_J19_rotateRight q1135 qs10 dJ19_fixAfterDeletion_132 (mt_J19_rotateRight htr (Bx := ((false, pn, (.branch xa xl xr)) :: Bx)) (pn := sbn) (rn := sbln) (ta := (.branch sbrn sbrl sbrr)) (tb := sblr) (td := sbll) h1115) rfl rfl (kx_rcN C h1115.1 rfl) ⟨⟨(Nat.le_of_ble_eq_true rfl), (Nat.le_of_ble_eq_true rfl)⟩, (Nat.le_of_ble_eq_true rfl), (Nat.le_of_ble_eq_true rfl), (Nat.le_of_ble_eq_true rfl)⟩ (fun v132 z132 q132 => ?_) (fun _ _ _ h => h.elim)
                          obtain ⟨rfl, H1116, e1116⟩ := q132
                          have h1116 : tm_H z132 ct mp (tt_p Bx (.branch pn (.branch xa xl xr) (.branch sbln sbll (.branch sbn sblr (.branch sbrn sbrl sbrr))))) K V (tm_c (tm_c D1 sbln (nI 1)) sbn (nI 0)) vals sz md := H1116
                          have e1116 : kx_Fr (tm_T ct (tt_i (tt_p Bx (.branch pn (.branch xa xl xr) (.branch sbn (.branch sbln sbll sblr) (.branch sbrn sbrl sbrr)))))) z127 z132 := e1116
                          rw [i1115] at e1116
                          have i1116 : tt_i (tt_p Bx (.branch pn (.branch xa xl xr) (.branch sbln sbll (.branch sbn sblr (.branch sbrn sbrl sbrr))))) = L0 := (by rw [← i1115]; simp [tt_i_p, tt_p, tt_i])
                          have F1116 := kx_Fr.tr F1115 e1116
                          obtain ⟨⟨f1116_pn, ⟨f1116_xa, f1116_xl, f1116_xr⟩, ⟨f1116_sbln, f1116_sbll, ⟨f1116_sbn, f1116_sblr, ⟨f1116_sbrn, f1116_sbrl, f1116_sbrr⟩⟩⟩⟩, fK1116⟩ := (tt_H_p Bx (.branch pn (.branch xa xl xr) (.branch sbln sbll (.branch sbn sblr (.branch sbrn sbrl sbrr))))).mp h1116.2.1
                          refine ri_aload_n C dJ19_fixAfterDeletion_135 rfl ?_
                          refine ri_callS C km_J19_parentOf q1116 dJ19_fixAfterDeletion_136 (mt_J19_parentOfR htr (y := (some pn)) f1116_xa) rfl rfl ⟨⟨(Nat.le_of_ble_eq_true rfl), (Nat.le_of_ble_eq_true rfl)⟩, (Nat.le_of_ble_eq_true rfl), (Nat.le_of_ble_eq_true rfl), (Nat.le_of_ble_eq_true rfl)⟩ (fun v136 z136 q136 => ?_) (fun _ _ _ h => h.elim)
                          obtain ⟨rfl, rfl⟩ := q136
                          refine ri_callS C km_J19_rightOf q1122 dJ19_fixAfterDeletion_139 (mt_J19_rightOfR htr (y := (some sbln)) f1116_pn) rfl rfl ⟨⟨(Nat.le_of_ble_eq_true rfl), (Nat.le_of_ble_eq_true rfl)⟩, (Nat.le_of_ble_eq_true rfl), (Nat.le_of_ble_eq_true rfl), (Nat.le_of_ble_eq_true rfl)⟩ (fun v139 z139 q139 => ?_) (fun _ _ _ h => h.elim)
                          obtain ⟨rfl, rfl⟩ := q139
                          refine ri_astore_n (x := sbln) C dJ19_fixAfterDeletion_142 rfl (by decide) ?_
                          refine ri_aload_n C dJ19_fixAfterDeletion_143 rfl ?_
                          refine ri_aload_n C dJ19_fixAfterDeletion_144 rfl ?_
                          refine ri_callS C km_J19_parentOf q1116 dJ19_fixAfterDeletion_145 (mt_J19_parentOfR htr (y := (some pn)) f1116_xa) rfl rfl ⟨⟨(Nat.le_of_ble_eq_true rfl), (Nat.le_of_ble_eq_true rfl)⟩, (Nat.le_of_ble_eq_true rfl), (Nat.le_of_ble_eq_true rfl), (Nat.le_of_ble_eq_true rfl)⟩ (fun v145 z145 q145 => ?_) (fun _ _ _ h => h.elim)
                          obtain ⟨rfl, rfl⟩ := q145
                          refine ri_callS C km_J19_colorOf q1125 dJ19_fixAfterDeletion_148 (mt_J19_colorOfR htr f1116_pn (h1116.2.2.2 pn)) rfl rfl ⟨⟨(Nat.le_of_ble_eq_true rfl), (Nat.le_of_ble_eq_true rfl)⟩, (Nat.le_of_ble_eq_true rfl), (Nat.le_of_ble_eq_true rfl), (Nat.le_of_ble_eq_true rfl)⟩ (fun v148 z148 q148 => ?_) (fun _ _ _ h => h.elim)
                          obtain ⟨rfl, rfl⟩ := q148
                          refine ri_callS C km_J19_setColor q1128 dJ19_fixAfterDeletion_151 (mt_J19_setColorT htr h1116 (an := sbln) (by simp [tt_i_p, tt_p, tt_i]) (h1116.2.2.2 _)) rfl rfl ⟨⟨(Nat.le_of_ble_eq_true rfl), (Nat.le_of_ble_eq_true rfl)⟩, (Nat.le_of_ble_eq_true rfl), (Nat.le_of_ble_eq_true rfl), (Nat.le_of_ble_eq_true rfl)⟩ (fun v151 z151 q151 => ?_) (fun _ _ _ h => h.elim)
                          obtain ⟨rfl, h1117, e1117⟩ := q151
                          rw [i1116] at e1117
                          have i1117 := i1116
                          have F1117 := kx_Fr.tr F1116 e1117
                          obtain ⟨⟨f1117_pn, ⟨f1117_xa, f1117_xl, f1117_xr⟩, ⟨f1117_sbln, f1117_sbll, ⟨f1117_sbn, f1117_sblr, ⟨f1117_sbrn, f1117_sbrl, f1117_sbrr⟩⟩⟩⟩, fK1117⟩ := (tt_H_p Bx (.branch pn (.branch xa xl xr) (.branch sbln sbll (.branch sbn sblr (.branch sbrn sbrl sbrr))))).mp h1117.2.1
                          refine ri_aload_n C dJ19_fixAfterDeletion_154 rfl ?_
                          refine ri_callS C km_J19_parentOf q1116 dJ19_fixAfterDeletion_155 (mt_J19_parentOfR htr (y := (some pn)) f1117_xa) rfl rfl ⟨⟨(Nat.le_of_ble_eq_true rfl), (Nat.le_of_ble_eq_true rfl)⟩, (Nat.le_of_ble_eq_true rfl), (Nat.le_of_ble_eq_true rfl), (Nat.le_of_ble_eq_true rfl)⟩ (fun v155 z155 q155 => ?_) (fun _ _ _ h => h.elim)
                          obtain ⟨rfl, rfl⟩ := q155
                          refine ri_iconst C dJ19_fixAfterDeletion_158 kc_i1 ?_
                          refine ri_callS C km_J19_setColor q1128 dJ19_fixAfterDeletion_159 (mt_J19_setColorT htr h1117 (an := pn) (by simp [tt_i_p, tt_p, tt_i]) (Or.inr rfl)) rfl rfl ⟨⟨(Nat.le_of_ble_eq_true rfl), (Nat.le_of_ble_eq_true rfl)⟩, (Nat.le_of_ble_eq_true rfl), (Nat.le_of_ble_eq_true rfl), (Nat.le_of_ble_eq_true rfl)⟩ (fun v159 z159 q159 => ?_) (fun _ _ _ h => h.elim)
                          obtain ⟨rfl, h1118, e1118⟩ := q159
                          rw [i1117] at e1118
                          have i1118 := i1117
                          have F1118 := kx_Fr.tr F1117 e1118
                          obtain ⟨⟨f1118_pn, ⟨f1118_xa, f1118_xl, f1118_xr⟩, ⟨f1118_sbln, f1118_sbll, ⟨f1118_sbn, f1118_sblr, ⟨f1118_sbrn, f1118_sbrl, f1118_sbrr⟩⟩⟩⟩, fK1118⟩ := (tt_H_p Bx (.branch pn (.branch xa xl xr) (.branch sbln sbll (.branch sbn sblr (.branch sbrn sbrl sbrr))))).mp h1118.2.1
                          refine ri_aload_n C dJ19_fixAfterDeletion_162 rfl ?_
                          refine ri_callS C km_J19_rightOf q1122 dJ19_fixAfterDeletion_163 (mt_J19_rightOfR htr (y := (some sbn)) f1118_sbln) rfl rfl ⟨⟨(Nat.le_of_ble_eq_true rfl), (Nat.le_of_ble_eq_true rfl)⟩, (Nat.le_of_ble_eq_true rfl), (Nat.le_of_ble_eq_true rfl), (Nat.le_of_ble_eq_true rfl)⟩ (fun v163 z163 q163 => ?_) (fun _ _ _ h => h.elim)
                          obtain ⟨rfl, rfl⟩ := q163
                          refine ri_iconst C dJ19_fixAfterDeletion_166 kc_i1 ?_
                          refine ri_callS C km_J19_setColor q1128 dJ19_fixAfterDeletion_167 (mt_J19_setColorT htr h1118 (an := sbn) (by simp [tt_i_p, tt_p, tt_i]) (Or.inr rfl)) rfl rfl ⟨⟨(Nat.le_of_ble_eq_true rfl), (Nat.le_of_ble_eq_true rfl)⟩, (Nat.le_of_ble_eq_true rfl), (Nat.le_of_ble_eq_true rfl), (Nat.le_of_ble_eq_true rfl)⟩ (fun v167 z167 q167 => ?_) (fun _ _ _ h => h.elim)
                          obtain ⟨rfl, h1119, e1119⟩ := q167
                          rw [i1118] at e1119
                          have i1119 := i1118
                          have F1119 := kx_Fr.tr F1118 e1119
                          obtain ⟨⟨f1119_pn, ⟨f1119_xa, f1119_xl, f1119_xr⟩, ⟨f1119_sbln, f1119_sbll, ⟨f1119_sbn, f1119_sblr, ⟨f1119_sbrn, f1119_sbrl, f1119_sbrr⟩⟩⟩⟩, fK1119⟩ := (tt_H_p Bx (.branch pn (.branch xa xl xr) (.branch sbln sbll (.branch sbn sblr (.branch sbrn sbrl sbrr))))).mp h1119.2.1
                          refine ri_aload_n C dJ19_fixAfterDeletion_170 rfl ?_
                          refine ri_aload_n C dJ19_fixAfterDeletion_171 rfl ?_
                          refine ri_callS C km_J19_parentOf q1116 dJ19_fixAfterDeletion_172 (mt_J19_parentOfR htr (y := (some pn)) f1119_xa) rfl rfl ⟨⟨(Nat.le_of_ble_eq_true rfl), (Nat.le_of_ble_eq_true rfl)⟩, (Nat.le_of_ble_eq_true rfl), (Nat.le_of_ble_eq_true rfl), (Nat.le_of_ble_eq_true rfl)⟩ (fun v172 z172 q172 => ?_) (fun _ _ _ h => h.elim)
                          obtain ⟨rfl, rfl⟩ := q172
                          refine ri_callV C km_J19_rotateLeft q1131 qs9 dJ19_fixAfterDeletion_175 (mt_J19_rotateLeft htr (Bx := (Bx)) (pn := pn) (rn := sbln) (ta := (.branch xa xl xr)) (tb := sbll) (td := (.branch sbn sblr (.branch sbrn sbrl sbrr))) h1119) rfl rfl (kx_rcN C h1119.1 rfl) ⟨⟨(Nat.le_of_ble_eq_true rfl), (Nat.le_of_ble_eq_true rfl)⟩, (Nat.le_of_ble_eq_true rfl), (Nat.le_of_ble_eq_true rfl), (Nat.le_of_ble_eq_true rfl)⟩ (fun v175 z175 q175 => ?_) (fun _ _ _ h => h.elim)
                          obtain ⟨rfl, H1120, e1120⟩ := q175
                          have h1120 : tm_H z175 ct mp (tt_p Bx (.branch sbln (.branch pn (.branch xa xl xr) sbll) (.branch sbn sblr (.branch sbrn sbrl sbrr)))) K V (tm_c (tm_c (tm_c (tm_c (tm_c D1 sbln (nI 1)) sbn (nI 0)) sbln ((tm_c (tm_c D1 sbln (nI 1)) sbn (nI 0)) pn)) pn (nI 1)) sbn (nI 1)) vals sz md := H1120
                          have e1120 : kx_Fr (tm_T ct (tt_i (tt_p Bx (.branch pn (.branch xa xl xr) (.branch sbln sbll (.branch sbn sblr (.branch sbrn sbrl sbrr))))))) z172 z175 := e1120
                          rw [i1119] at e1120
                          have i1120 : tt_i (tt_p Bx (.branch sbln (.branch pn (.branch xa xl xr) sbll) (.branch sbn sblr (.branch sbrn sbrl sbrr)))) = L0 := (by rw [← i1119]; simp [tt_i_p, tt_p, tt_i])
                          have F1120 := kx_Fr.tr F1119 e1120
                          obtain ⟨⟨f1120_sbln, ⟨f1120_pn, ⟨f1120_xa, f1120_xl, f1120_xr⟩, f1120_sbll⟩, ⟨f1120_sbn, f1120_sblr, ⟨f1120_sbrn, f1120_sbrl, f1120_sbrr⟩⟩⟩, fK1120⟩ := (tt_H_p Bx (.branch sbln (.branch pn (.branch xa xl xr) sbll) (.branch sbn sblr (.branch sbrn sbrl sbrr)))).mp h1120.2.1
                          refine ri_aload_n C dJ19_fixAfterDeletion_178 rfl ?_
                          refine ri_getf C dJ19_fixAfterDeletion_179 fr_q577_18 h1120.1 (by rfl) ?_
                          refine ri_astore_nQ (x := (tt_r (tt_p Bx (.branch sbln (.branch pn (.branch xa xl xr) sbll) (.branch sbn sblr (.branch sbrn sbrl sbrr)))))) C dJ19_fixAfterDeletion_182 rfl (by decide) ?_
                          refine ri_goto C 0 dJ19_fixAfterDeletion_183 rfl ?_
                          obtain ⟨rn9, rl9, rr9, hr9⟩ : ∃ rn rl rr, (tt_p Bx (.branch sbln (.branch pn (.branch xa xl xr) sbll) (.branch sbn sblr (.branch sbrn sbrl sbrr)))) = .branch rn rl rr := tt_rt Bx
                          have hh9 : tm_H z175 ct mp (tt_p [] (.branch rn9 rl9 rr9)) K V (tm_c (tm_c (tm_c (tm_c (tm_c D1 sbln (nI 1)) sbn (nI 0)) sbln ((tm_c (tm_c D1 sbln (nI 1)) sbn (nI 0)) pn)) pn (nI 1)) sbn (nI 1)) vals sz md := (by show tm_H _ _ _ (.branch rn9 rl9 rr9) _ _ _ _ _ _; rw [← hr9]; exact h1120)
                          have ii9 : tt_i (tt_p [] (.branch rn9 rl9 rr9)) = L0 := (by show tt_i (.branch rn9 rl9 rr9) = L0; rw [← hr9]; exact i1120)
                          rw [hr9]
                          refine ri_lv2 (ih (i + 1) [] rn9 rl9 rr9 _ _ (by omega) (by omega) ⟨hh9, ⟨A ++ ((true, pn, sbll) :: (true, sbln, (.branch sbn sblr (.branch sbrn sbrl sbrr))) :: Bx), by rw [tt_p_a, ← hA, ← hr9] <;> rfl⟩, ii9, F1120, ?_⟩) ⟨rfl, rfl, trivial⟩
                          first
                            | exact Or.inl (by simp only [List.length_cons, List.length_nil] at hln ⊢; omega)
                            | exact Or.inr ⟨by simp only [List.length_cons, List.length_nil] at hln; omega, Or.inr rfl⟩
                            | exact Or.inr ⟨by simp only [List.length_cons, List.length_nil] at hln; omega, Or.inl (by simp [tm_c])⟩
                    · refine ri_aload_n C dJ19_fixAfterDeletion_82 rfl ?_
                      refine ri_callS C km_J19_rightOf q1122 dJ19_fixAfterDeletion_83 (mt_J19_rightOfR htr (y := (tt_r sbr)) f1100_sbn) rfl rfl ⟨⟨(Nat.le_of_ble_eq_true rfl), (Nat.le_of_ble_eq_true rfl)⟩, (Nat.le_of_ble_eq_true rfl), (Nat.le_of_ble_eq_true rfl), (Nat.le_of_ble_eq_true rfl)⟩ (fun v83 z83 q83 => ?_) (fun _ _ _ h => h.elim)
                      obtain ⟨rfl, rfl⟩ := q83
                      rcases sbr with ⟨_⟩ | ⟨sbrn, sbrl, sbrr⟩
                      · have h1121 : tm_H z83 ct mp (tt_p Bx (.branch pn (.branch xa xl xr) (.branch sbn (.branch sbln sbll sblr) tt_n))) K V D1 vals sz md := h1100
                        have i1121 : tt_i (tt_p Bx (.branch pn (.branch xa xl xr) (.branch sbn (.branch sbln sbll sblr) tt_n))) = L0 := i1100
                        have F1121 := F1100
                        obtain ⟨⟨f1121_pn, ⟨f1121_xa, f1121_xl, f1121_xr⟩, ⟨f1121_sbn, ⟨f1121_sbln, f1121_sbll, f1121_sblr⟩, -⟩⟩, fK1121⟩ := (tt_H_p Bx (.branch pn (.branch xa xl xr) (.branch sbn (.branch sbln sbll sblr) tt_n))).mp h1121.2.1
                        refine ri_callS C km_J19_colorOf q1125 dJ19_fixAfterDeletion_86 (mt_J19_colorOfN htr) rfl rfl ⟨⟨(Nat.le_of_ble_eq_true rfl), (Nat.le_of_ble_eq_true rfl)⟩, (Nat.le_of_ble_eq_true rfl), (Nat.le_of_ble_eq_true rfl), (Nat.le_of_ble_eq_true rfl)⟩ (fun v86 z86 q86 => ?_) (fun _ _ _ h => h.elim)
                        obtain ⟨rfl, rfl⟩ := q86
                        refine ri_iconst C dJ19_fixAfterDeletion_89 kc_i1 ?_
                        refine ri_icmp_ne C 106 dJ19_fixAfterDeletion_90 rfl (fun h90 => ?_) (fun h90 => ?_)
                        · exact absurd rfl h90
                        · refine ri_aload_n C dJ19_fixAfterDeletion_93 rfl ?_
                          refine ri_iconst C dJ19_fixAfterDeletion_94 kc_i0 ?_
                          refine ri_callS C km_J19_setColor q1128 dJ19_fixAfterDeletion_95 (mt_J19_setColorT htr h1121 (an := sbn) (by simp [tt_i_p, tt_p, tt_i]) (Or.inl rfl)) rfl rfl ⟨⟨(Nat.le_of_ble_eq_true rfl), (Nat.le_of_ble_eq_true rfl)⟩, (Nat.le_of_ble_eq_true rfl), (Nat.le_of_ble_eq_true rfl), (Nat.le_of_ble_eq_true rfl)⟩ (fun v95 z95 q95 => ?_) (fun _ _ _ h => h.elim)
                          obtain ⟨rfl, h1122, e1122⟩ := q95
                          rw [i1121] at e1122
                          have i1122 := i1121
                          have F1122 := kx_Fr.tr F1121 e1122
                          obtain ⟨⟨f1122_pn, ⟨f1122_xa, f1122_xl, f1122_xr⟩, ⟨f1122_sbn, ⟨f1122_sbln, f1122_sbll, f1122_sblr⟩, -⟩⟩, fK1122⟩ := (tt_H_p Bx (.branch pn (.branch xa xl xr) (.branch sbn (.branch sbln sbll sblr) tt_n))).mp h1122.2.1
                          refine ri_aload_n C dJ19_fixAfterDeletion_98 rfl ?_
                          refine ri_callS C km_J19_parentOf q1116 dJ19_fixAfterDeletion_99 (mt_J19_parentOfR htr (y := (some pn)) f1122_xa) rfl rfl ⟨⟨(Nat.le_of_ble_eq_true rfl), (Nat.le_of_ble_eq_true rfl)⟩, (Nat.le_of_ble_eq_true rfl), (Nat.le_of_ble_eq_true rfl), (Nat.le_of_ble_eq_true rfl)⟩ (fun v99 z99 q99 => ?_) (fun _ _ _ h => h.elim)
                          obtain ⟨rfl, rfl⟩ := q99
                          refine ri_astore_n (x := pn) C dJ19_fixAfterDeletion_102 rfl (by decide) ?_
                          refine ri_goto C 183 dJ19_fixAfterDeletion_103 rfl ?_
                          refine ri_goto C 0 dJ19_fixAfterDeletion_183 rfl ?_
                          refine ri_lv2 (ih (i + 1) (Bx) pn (.branch xa xl xr) (.branch sbn (.branch sbln sbll sblr) tt_n) _ _ (by omega) (by omega) ⟨h1122, ⟨A ++ [(true, pn, (.branch sbn (.branch sbln sbll sblr) tt_n))], by rw [tt_p_a, ← hA] <;> rfl⟩, i1122, F1122, ?_⟩) ⟨rfl, rfl, trivial⟩
                          first
                            | exact Or.inl (by simp only [List.length_cons, List.length_nil] at hln ⊢; omega)
                            | exact Or.inr ⟨by simp only [List.length_cons, List.length_nil] at hln; omega, Or.inr rfl⟩
                            | exact Or.inr ⟨by simp only [List.length_cons, List.length_nil] at hln; omega, Or.inl (by simp [tm_c])⟩
                      · have h1123 : tm_H z83 ct mp (tt_p Bx (.branch pn (.branch xa xl xr) (.branch sbn (.branch sbln sbll sblr) (.branch sbrn sbrl sbrr)))) K V D1 vals sz md := h1100
                        have i1123 : tt_i (tt_p Bx (.branch pn (.branch xa xl xr) (.branch sbn (.branch sbln sbll sblr) (.branch sbrn sbrl sbrr)))) = L0 := i1100
                        have F1123 := F1100
                        have nd1123 := h1123.2.2.1
                        obtain ⟨⟨f1123_pn, ⟨f1123_xa, f1123_xl, f1123_xr⟩, ⟨f1123_sbn, ⟨f1123_sbln, f1123_sbll, f1123_sblr⟩, ⟨f1123_sbrn, f1123_sbrl, f1123_sbrr⟩⟩⟩, fK1123⟩ := (tt_H_p Bx (.branch pn (.branch xa xl xr) (.branch sbn (.branch sbln sbll sblr) (.branch sbrn sbrl sbrr)))).mp h1123.2.1
                        refine ri_callS C km_J19_colorOf q1125 dJ19_fixAfterDeletion_86 (mt_J19_colorOfR htr f1123_sbrn (h1123.2.2.2 sbrn)) rfl rfl ⟨⟨(Nat.le_of_ble_eq_true rfl), (Nat.le_of_ble_eq_true rfl)⟩, (Nat.le_of_ble_eq_true rfl), (Nat.le_of_ble_eq_true rfl), (Nat.le_of_ble_eq_true rfl)⟩ (fun v86 z86 q86 => ?_) (fun _ _ _ h => h.elim)
                        obtain ⟨rfl, rfl⟩ := q86
                        refine ri_iconst C dJ19_fixAfterDeletion_89 kc_i1 ?_
                        refine ri_icmp_ne C 106 dJ19_fixAfterDeletion_90 rfl (fun h90 => ?_) (fun h90 => ?_)
                        · refine ri_aload_n C dJ19_fixAfterDeletion_106 rfl ?_
                          refine ri_callS C km_J19_rightOf q1122 dJ19_fixAfterDeletion_107 (mt_J19_rightOfR htr (y := (some sbrn)) f1123_sbn) rfl rfl ⟨⟨(Nat.le_of_ble_eq_true rfl), (Nat.le_of_ble_eq_true rfl)⟩, (Nat.le_of_ble_eq_true rfl), (Nat.le_of_ble_eq_true rfl), (Nat.le_of_ble_eq_true rfl)⟩ (fun v107 z107 q107 => ?_) (fun _ _ _ h => h.elim)
                          obtain ⟨rfl, rfl⟩ := q107
                          refine ri_callS C km_J19_colorOf q1125 dJ19_fixAfterDeletion_110 (mt_J19_colorOfR htr f1123_sbrn (h1123.2.2.2 sbrn)) rfl rfl ⟨⟨(Nat.le_of_ble_eq_true rfl), (Nat.le_of_ble_eq_true rfl)⟩, (Nat.le_of_ble_eq_true rfl), (Nat.le_of_ble_eq_true rfl), (Nat.le_of_ble_eq_true rfl)⟩ (fun v110 z110 q110 => ?_) (fun _ _ _ h => h.elim)
                          obtain ⟨rfl, rfl⟩ := q110
                          refine ri_iconst C dJ19_fixAfterDeletion_113 kc_i1 ?_
                          refine ri_icmp_ne C 143 dJ19_fixAfterDeletion_114 rfl (fun h114 => ?_) (fun h114 => ?_)
                          · refine ri_aload_n C dJ19_fixAfterDeletion_143 rfl ?_
                            refine ri_aload_n C dJ19_fixAfterDeletion_144 rfl ?_
                            refine ri_callS C km_J19_parentOf q1116 dJ19_fixAfterDeletion_145 (mt_J19_parentOfR htr (y := (some pn)) f1123_xa) rfl rfl ⟨⟨(Nat.le_of_ble_eq_true rfl), (Nat.le_of_ble_eq_true rfl)⟩, (Nat.le_of_ble_eq_true rfl), (Nat.le_of_ble_eq_true rfl), (Nat.le_of_ble_eq_true rfl)⟩ (fun v145 z145 q145 => ?_) (fun _ _ _ h => h.elim)
                            obtain ⟨rfl, rfl⟩ := q145
                            refine ri_callS C km_J19_colorOf q1125 dJ19_fixAfterDeletion_148 (mt_J19_colorOfR htr f1123_pn (h1123.2.2.2 pn)) rfl rfl ⟨⟨(Nat.le_of_ble_eq_true rfl), (Nat.le_of_ble_eq_true rfl)⟩, (Nat.le_of_ble_eq_true rfl), (Nat.le_of_ble_eq_true rfl), (Nat.le_of_ble_eq_true rfl)⟩ (fun v148 z148 q148 => ?_) (fun _ _ _ h => h.elim)
                            obtain ⟨rfl, rfl⟩ := q148
                            refine ri_callS C km_J19_setColor q1128 dJ19_fixAfterDeletion_151 (mt_J19_setColorT htr h1123 (an := sbn) (by simp [tt_i_p, tt_p, tt_i]) (h1123.2.2.2 _)) rfl rfl ⟨⟨(Nat.le_of_ble_eq_true rfl), (Nat.le_of_ble_eq_true rfl)⟩, (Nat.le_of_ble_eq_true rfl), (Nat.le_of_ble_eq_true rfl), (Nat.le_of_ble_eq_true rfl)⟩ (fun v151 z151 q151 => ?_) (fun _ _ _ h => h.elim)
                            obtain ⟨rfl, h1124, e1124⟩ := q151
                            rw [i1123] at e1124
                            have i1124 := i1123
                            have F1124 := kx_Fr.tr F1123 e1124
                            obtain ⟨⟨f1124_pn, ⟨f1124_xa, f1124_xl, f1124_xr⟩, ⟨f1124_sbn, ⟨f1124_sbln, f1124_sbll, f1124_sblr⟩, ⟨f1124_sbrn, f1124_sbrl, f1124_sbrr⟩⟩⟩, fK1124⟩ := (tt_H_p Bx (.branch pn (.branch xa xl xr) (.branch sbn (.branch sbln sbll sblr) (.branch sbrn sbrl sbrr)))).mp h1124.2.1
                            refine ri_aload_n C dJ19_fixAfterDeletion_154 rfl ?_
                            refine ri_callS C km_J19_parentOf q1116 dJ19_fixAfterDeletion_155 (mt_J19_parentOfR htr (y := (some pn)) f1124_xa) rfl rfl ⟨⟨(Nat.le_of_ble_eq_true rfl), (Nat.le_of_ble_eq_true rfl)⟩, (Nat.le_of_ble_eq_true rfl), (Nat.le_of_ble_eq_true rfl), (Nat.le_of_ble_eq_true rfl)⟩ (fun v155 z155 q155 => ?_) (fun _ _ _ h => h.elim)
                            obtain ⟨rfl, rfl⟩ := q155
                            refine ri_iconst C dJ19_fixAfterDeletion_158 kc_i1 ?_
                            refine ri_callS C km_J19_setColor q1128 dJ19_fixAfterDeletion_159 (mt_J19_setColorT htr h1124 (an := pn) (by simp [tt_i_p, tt_p, tt_i]) (Or.inr rfl)) rfl rfl ⟨⟨(Nat.le_of_ble_eq_true rfl), (Nat.le_of_ble_eq_true rfl)⟩, (Nat.le_of_ble_eq_true rfl), (Nat.le_of_ble_eq_true rfl), (Nat.le_of_ble_eq_true rfl)⟩ (fun v159 z159 q159 => ?_) (fun _ _ _ h => h.elim)
                            obtain ⟨rfl, h1125, e1125⟩ := q159
                            rw [i1124] at e1125
                            have i1125 := i1124
                            have F1125 := kx_Fr.tr F1124 e1125
                            obtain ⟨⟨f1125_pn, ⟨f1125_xa, f1125_xl, f1125_xr⟩, ⟨f1125_sbn, ⟨f1125_sbln, f1125_sbll, f1125_sblr⟩, ⟨f1125_sbrn, f1125_sbrl, f1125_sbrr⟩⟩⟩, fK1125⟩ := (tt_H_p Bx (.branch pn (.branch xa xl xr) (.branch sbn (.branch sbln sbll sblr) (.branch sbrn sbrl sbrr)))).mp h1125.2.1
                            refine ri_aload_n C dJ19_fixAfterDeletion_162 rfl ?_
                            refine ri_callS C km_J19_rightOf q1122 dJ19_fixAfterDeletion_163 (mt_J19_rightOfR htr (y := (some sbrn)) f1125_sbn) rfl rfl ⟨⟨(Nat.le_of_ble_eq_true rfl), (Nat.le_of_ble_eq_true rfl)⟩, (Nat.le_of_ble_eq_true rfl), (Nat.le_of_ble_eq_true rfl), (Nat.le_of_ble_eq_true rfl)⟩ (fun v163 z163 q163 => ?_) (fun _ _ _ h => h.elim)
                            obtain ⟨rfl, rfl⟩ := q163
                            refine ri_iconst C dJ19_fixAfterDeletion_166 kc_i1 ?_
                            refine ri_callS C km_J19_setColor q1128 dJ19_fixAfterDeletion_167 (mt_J19_setColorT htr h1125 (an := sbrn) (by simp [tt_i_p, tt_p, tt_i]) (Or.inr rfl)) rfl rfl ⟨⟨(Nat.le_of_ble_eq_true rfl), (Nat.le_of_ble_eq_true rfl)⟩, (Nat.le_of_ble_eq_true rfl), (Nat.le_of_ble_eq_true rfl), (Nat.le_of_ble_eq_true rfl)⟩ (fun v167 z167 q167 => ?_) (fun _ _ _ h => h.elim)
                            obtain ⟨rfl, h1126, e1126⟩ := q167
                            rw [i1125] at e1126
                            have i1126 := i1125
                            have F1126 := kx_Fr.tr F1125 e1126
                            obtain ⟨⟨f1126_pn, ⟨f1126_xa, f1126_xl, f1126_xr⟩, ⟨f1126_sbn, ⟨f1126_sbln, f1126_sbll, f1126_sblr⟩, ⟨f1126_sbrn, f1126_sbrl, f1126_sbrr⟩⟩⟩, fK1126⟩ := (tt_H_p Bx (.branch pn (.branch xa xl xr) (.branch sbn (.branch sbln sbll sblr) (.branch sbrn sbrl sbrr)))).mp h1126.2.1
                            refine ri_aload_n C dJ19_fixAfterDeletion_170 rfl ?_
                            refine ri_aload_n C dJ19_fixAfterDeletion_171 rfl ?_
                            refine ri_callS C km_J19_parentOf q1116 dJ19_fixAfterDeletion_172 (mt_J19_parentOfR htr (y := (some pn)) f1126_xa) rfl rfl ⟨⟨(Nat.le_of_ble_eq_true rfl), (Nat.le_of_ble_eq_true rfl)⟩, (Nat.le_of_ble_eq_true rfl), (Nat.le_of_ble_eq_true rfl), (Nat.le_of_ble_eq_true rfl)⟩ (fun v172 z172 q172 => ?_) (fun _ _ _ h => h.elim)
                            obtain ⟨rfl, rfl⟩ := q172
                            refine ri_callV C km_J19_rotateLeft q1131 qs9 dJ19_fixAfterDeletion_175 (mt_J19_rotateLeft htr (Bx := (Bx)) (pn := pn) (rn := sbn) (ta := (.branch xa xl xr)) (tb := (.branch sbln sbll sblr)) (td := (.branch sbrn sbrl sbrr)) h1126) rfl rfl (kx_rcN C h1126.1 rfl) ⟨⟨(Nat.le_of_ble_eq_true rfl), (Nat.le_of_ble_eq_true rfl)⟩, (Nat.le_of_ble_eq_true rfl), (Nat.le_of_ble_eq_true rfl), (Nat.le_of_ble_eq_true rfl)⟩ (fun v175 z175 q175 => ?_) (fun _ _ _ h => h.elim)
                            obtain ⟨rfl, H1127, e1127⟩ := q175
                            have h1127 : tm_H z175 ct mp (tt_p Bx (.branch sbn (.branch pn (.branch xa xl xr) (.branch sbln sbll sblr)) (.branch sbrn sbrl sbrr))) K V (tm_c (tm_c (tm_c D1 sbn (D1 pn)) pn (nI 1)) sbrn (nI 1)) vals sz md := H1127
                            have e1127 : kx_Fr (tm_T ct (tt_i (tt_p Bx (.branch pn (.branch xa xl xr) (.branch sbn (.branch sbln sbll sblr) (.branch sbrn sbrl sbrr)))))) z172 z175 := e1127
                            rw [i1126] at e1127
                            have i1127 : tt_i (tt_p Bx (.branch sbn (.branch pn (.branch xa xl xr) (.branch sbln sbll sblr)) (.branch sbrn sbrl sbrr))) = L0 := (by rw [← i1126]; simp [tt_i_p, tt_p, tt_i])
                            have F1127 := kx_Fr.tr F1126 e1127
                            obtain ⟨⟨f1127_sbn, ⟨f1127_pn, ⟨f1127_xa, f1127_xl, f1127_xr⟩, ⟨f1127_sbln, f1127_sbll, f1127_sblr⟩⟩, ⟨f1127_sbrn, f1127_sbrl, f1127_sbrr⟩⟩, fK1127⟩ := (tt_H_p Bx (.branch sbn (.branch pn (.branch xa xl xr) (.branch sbln sbll sblr)) (.branch sbrn sbrl sbrr))).mp h1127.2.1
                            refine ri_aload_n C dJ19_fixAfterDeletion_178 rfl ?_
                            refine ri_getf C dJ19_fixAfterDeletion_179 fr_q577_18 h1127.1 (by rfl) ?_
                            refine ri_astore_nQ (x := (tt_r (tt_p Bx (.branch sbn (.branch pn (.branch xa xl xr) (.branch sbln sbll sblr)) (.branch sbrn sbrl sbrr))))) C dJ19_fixAfterDeletion_182 rfl (by decide) ?_
                            refine ri_goto C 0 dJ19_fixAfterDeletion_183 rfl ?_
                            obtain ⟨rn9, rl9, rr9, hr9⟩ : ∃ rn rl rr, (tt_p Bx (.branch sbn (.branch pn (.branch xa xl xr) (.branch sbln sbll sblr)) (.branch sbrn sbrl sbrr))) = .branch rn rl rr := tt_rt Bx
                            have hh9 : tm_H z175 ct mp (tt_p [] (.branch rn9 rl9 rr9)) K V (tm_c (tm_c (tm_c D1 sbn (D1 pn)) pn (nI 1)) sbrn (nI 1)) vals sz md := (by show tm_H _ _ _ (.branch rn9 rl9 rr9) _ _ _ _ _ _; rw [← hr9]; exact h1127)
                            have ii9 : tt_i (tt_p [] (.branch rn9 rl9 rr9)) = L0 := (by show tt_i (.branch rn9 rl9 rr9) = L0; rw [← hr9]; exact i1127)
                            rw [hr9]
                            refine ri_lv2 (ih (i + 1) [] rn9 rl9 rr9 _ _ (by omega) (by omega) ⟨hh9, ⟨A ++ ((true, pn, (.branch sbln sbll sblr)) :: (true, sbn, (.branch sbrn sbrl sbrr)) :: Bx), by rw [tt_p_a, ← hA, ← hr9] <;> rfl⟩, ii9, F1127, ?_⟩) ⟨rfl, rfl, trivial⟩
                            first
                              | exact Or.inl (by simp only [List.length_cons, List.length_nil] at hln ⊢; omega)
                              | exact Or.inr ⟨by simp only [List.length_cons, List.length_nil] at hln; omega, Or.inr rfl⟩
                              | exact Or.inr ⟨by simp only [List.length_cons, List.length_nil] at hln; omega, Or.inl (by simp [tm_c])⟩
                          · exact absurd h114 h90
                        · refine ri_aload_n C dJ19_fixAfterDeletion_93 rfl ?_
                          refine ri_iconst C dJ19_fixAfterDeletion_94 kc_i0 ?_
                          refine ri_callS C km_J19_setColor q1128 dJ19_fixAfterDeletion_95 (mt_J19_setColorT htr h1123 (an := sbn) (by simp [tt_i_p, tt_p, tt_i]) (Or.inl rfl)) rfl rfl ⟨⟨(Nat.le_of_ble_eq_true rfl), (Nat.le_of_ble_eq_true rfl)⟩, (Nat.le_of_ble_eq_true rfl), (Nat.le_of_ble_eq_true rfl), (Nat.le_of_ble_eq_true rfl)⟩ (fun v95 z95 q95 => ?_) (fun _ _ _ h => h.elim)
                          obtain ⟨rfl, h1128, e1128⟩ := q95
                          rw [i1123] at e1128
                          have i1128 := i1123
                          have F1128 := kx_Fr.tr F1123 e1128
                          obtain ⟨⟨f1128_pn, ⟨f1128_xa, f1128_xl, f1128_xr⟩, ⟨f1128_sbn, ⟨f1128_sbln, f1128_sbll, f1128_sblr⟩, ⟨f1128_sbrn, f1128_sbrl, f1128_sbrr⟩⟩⟩, fK1128⟩ := (tt_H_p Bx (.branch pn (.branch xa xl xr) (.branch sbn (.branch sbln sbll sblr) (.branch sbrn sbrl sbrr)))).mp h1128.2.1
                          refine ri_aload_n C dJ19_fixAfterDeletion_98 rfl ?_
                          refine ri_callS C km_J19_parentOf q1116 dJ19_fixAfterDeletion_99 (mt_J19_parentOfR htr (y := (some pn)) f1128_xa) rfl rfl ⟨⟨(Nat.le_of_ble_eq_true rfl), (Nat.le_of_ble_eq_true rfl)⟩, (Nat.le_of_ble_eq_true rfl), (Nat.le_of_ble_eq_true rfl), (Nat.le_of_ble_eq_true rfl)⟩ (fun v99 z99 q99 => ?_) (fun _ _ _ h => h.elim)
                          obtain ⟨rfl, rfl⟩ := q99
                          refine ri_astore_n (x := pn) C dJ19_fixAfterDeletion_102 rfl (by decide) ?_
                          refine ri_goto C 183 dJ19_fixAfterDeletion_103 rfl ?_
                          refine ri_goto C 0 dJ19_fixAfterDeletion_183 rfl ?_
                          refine ri_lv2 (ih (i + 1) (Bx) pn (.branch xa xl xr) (.branch sbn (.branch sbln sbll sblr) (.branch sbrn sbrl sbrr)) _ _ (by omega) (by omega) ⟨h1128, ⟨A ++ [(true, pn, (.branch sbn (.branch sbln sbll sblr) (.branch sbrn sbrl sbrr)))], by rw [tt_p_a, ← hA] <;> rfl⟩, i1128, F1128, ?_⟩) ⟨rfl, rfl, trivial⟩
                          first
                            | exact Or.inl (by simp only [List.length_cons, List.length_nil] at hln ⊢; omega)
                            | exact Or.inr ⟨by simp only [List.length_cons, List.length_nil] at hln; omega, Or.inr rfl⟩
                            | exact Or.inr ⟨by simp only [List.length_cons, List.length_nil] at hln; omega, Or.inl (by simp [tm_c])⟩
                · refine ri_aload_n C dJ19_fixAfterDeletion_42 rfl ?_
                  refine ri_iconst C dJ19_fixAfterDeletion_43 kc_i1 ?_
                  refine ri_callS C km_J19_setColor q1128 dJ19_fixAfterDeletion_44 (mt_J19_setColorT htr h1090 (an := sbn) (by simp [tt_i_p, tt_p, tt_i]) (Or.inr rfl)) rfl rfl ⟨⟨(Nat.le_of_ble_eq_true rfl), (Nat.le_of_ble_eq_true rfl)⟩, (Nat.le_of_ble_eq_true rfl), (Nat.le_of_ble_eq_true rfl), (Nat.le_of_ble_eq_true rfl)⟩ (fun v44 z44 q44 => ?_) (fun _ _ _ h => h.elim)
                  obtain ⟨rfl, h1129, e1129⟩ := q44
                  rw [i1090] at e1129
                  have i1129 := i1090
                  have F1129 := kx_Fr.tr F1090 e1129
                  obtain ⟨⟨f1129_pn, ⟨f1129_xa, f1129_xl, f1129_xr⟩, ⟨f1129_sbn, f1129_sbl, f1129_sbr⟩⟩, fK1129⟩ := (tt_H_p Bx (.branch pn (.branch xa xl xr) (.branch sbn sbl sbr))).mp h1129.2.1
                  refine ri_aload_n C dJ19_fixAfterDeletion_47 rfl ?_
                  refine ri_callS C km_J19_parentOf q1116 dJ19_fixAfterDeletion_48 (mt_J19_parentOfR htr (y := (some pn)) f1129_xa) rfl rfl ⟨⟨(Nat.le_of_ble_eq_true rfl), (Nat.le_of_ble_eq_true rfl)⟩, (Nat.le_of_ble_eq_true rfl), (Nat.le_of_ble_eq_true rfl), (Nat.le_of_ble_eq_true rfl)⟩ (fun v48 z48 q48 => ?_) (fun _ _ _ h => h.elim)
                  obtain ⟨rfl, rfl⟩ := q48
                  refine ri_iconst C dJ19_fixAfterDeletion_51 kc_i0 ?_
                  refine ri_callS C km_J19_setColor q1128 dJ19_fixAfterDeletion_52 (mt_J19_setColorT htr h1129 (an := pn) (by simp [tt_i_p, tt_p, tt_i]) (Or.inl rfl)) rfl rfl ⟨⟨(Nat.le_of_ble_eq_true rfl), (Nat.le_of_ble_eq_true rfl)⟩, (Nat.le_of_ble_eq_true rfl), (Nat.le_of_ble_eq_true rfl), (Nat.le_of_ble_eq_true rfl)⟩ (fun v52 z52 q52 => ?_) (fun _ _ _ h => h.elim)
                  obtain ⟨rfl, h1130, e1130⟩ := q52
                  rw [i1129] at e1130
                  have i1130 := i1129
                  have F1130 := kx_Fr.tr F1129 e1130
                  obtain ⟨⟨f1130_pn, ⟨f1130_xa, f1130_xl, f1130_xr⟩, ⟨f1130_sbn, f1130_sbl, f1130_sbr⟩⟩, fK1130⟩ := (tt_H_p Bx (.branch pn (.branch xa xl xr) (.branch sbn sbl sbr))).mp h1130.2.1
                  refine ri_aload_n C dJ19_fixAfterDeletion_55 rfl ?_
                  refine ri_aload_n C dJ19_fixAfterDeletion_56 rfl ?_
                  refine ri_callS C km_J19_parentOf q1116 dJ19_fixAfterDeletion_57 (mt_J19_parentOfR htr (y := (some pn)) f1130_xa) rfl rfl ⟨⟨(Nat.le_of_ble_eq_true rfl), (Nat.le_of_ble_eq_true rfl)⟩, (Nat.le_of_ble_eq_true rfl), (Nat.le_of_ble_eq_true rfl), (Nat.le_of_ble_eq_true rfl)⟩ (fun v57 z57 q57 => ?_) (fun _ _ _ h => h.elim)
                  obtain ⟨rfl, rfl⟩ := q57
                  refine ri_callV C km_J19_rotateLeft q1131 qs9 dJ19_fixAfterDeletion_60 (mt_J19_rotateLeft htr (Bx := (Bx)) (pn := pn) (rn := sbn) (ta := (.branch xa xl xr)) (tb := sbl) (td := sbr) h1130) rfl rfl (kx_rcN C h1130.1 rfl) ⟨⟨(Nat.le_of_ble_eq_true rfl), (Nat.le_of_ble_eq_true rfl)⟩, (Nat.le_of_ble_eq_true rfl), (Nat.le_of_ble_eq_true rfl), (Nat.le_of_ble_eq_true rfl)⟩ (fun v60 z60 q60 => ?_) (fun _ _ _ h => h.elim)
                  obtain ⟨rfl, H1131, e1131⟩ := q60
                  have h1131 : tm_H z60 ct mp (tt_p Bx (.branch sbn (.branch pn (.branch xa xl xr) sbl) sbr)) K V (tm_c (tm_c D1 sbn (nI 1)) pn (nI 0)) vals sz md := H1131
                  have e1131 : kx_Fr (tm_T ct (tt_i (tt_p Bx (.branch pn (.branch xa xl xr) (.branch sbn sbl sbr))))) z57 z60 := e1131
                  rw [i1130] at e1131
                  have i1131 : tt_i (tt_p Bx (.branch sbn (.branch pn (.branch xa xl xr) sbl) sbr)) = L0 := (by rw [← i1130]; simp [tt_i_p, tt_p, tt_i])
                  have F1131 := kx_Fr.tr F1130 e1131
                  obtain ⟨⟨f1131_sbn, ⟨f1131_pn, ⟨f1131_xa, f1131_xl, f1131_xr⟩, f1131_sbl⟩, f1131_sbr⟩, fK1131⟩ := (tt_H_p Bx (.branch sbn (.branch pn (.branch xa xl xr) sbl) sbr)).mp h1131.2.1
                  refine ri_aload_n C dJ19_fixAfterDeletion_63 rfl ?_
                  refine ri_callS C km_J19_parentOf q1116 dJ19_fixAfterDeletion_64 (mt_J19_parentOfR htr (y := (some pn)) f1131_xa) rfl rfl ⟨⟨(Nat.le_of_ble_eq_true rfl), (Nat.le_of_ble_eq_true rfl)⟩, (Nat.le_of_ble_eq_true rfl), (Nat.le_of_ble_eq_true rfl), (Nat.le_of_ble_eq_true rfl)⟩ (fun v64 z64 q64 => ?_) (fun _ _ _ h => h.elim)
                  obtain ⟨rfl, rfl⟩ := q64
                  refine ri_callS C km_J19_rightOf q1122 dJ19_fixAfterDeletion_67 (mt_J19_rightOfR htr (y := (tt_r sbl)) f1131_pn) rfl rfl ⟨⟨(Nat.le_of_ble_eq_true rfl), (Nat.le_of_ble_eq_true rfl)⟩, (Nat.le_of_ble_eq_true rfl), (Nat.le_of_ble_eq_true rfl), (Nat.le_of_ble_eq_true rfl)⟩ (fun v67 z67 q67 => ?_) (fun _ _ _ h => h.elim)
                  obtain ⟨rfl, rfl⟩ := q67
                  refine ri_astore_nQ (x := (tt_r sbl)) C dJ19_fixAfterDeletion_70 rfl (by decide) ?_
                  refine ri_aload_nQ (x := (tt_r sbl)) C dJ19_fixAfterDeletion_71 rfl ?_
                  rcases sbl with ⟨_⟩ | ⟨sbln, sbll, sblr⟩
                  · have h1132 : tm_H z67 ct mp (tt_p Bx (.branch sbn (.branch pn (.branch xa xl xr) tt_n) sbr)) K V (tm_c (tm_c D1 sbn (nI 1)) pn (nI 0)) vals sz md := h1131
                    have i1132 : tt_i (tt_p Bx (.branch sbn (.branch pn (.branch xa xl xr) tt_n) sbr)) = L0 := i1131
                    have F1132 := F1131
                    obtain ⟨⟨f1132_sbn, ⟨f1132_pn, ⟨f1132_xa, f1132_xl, f1132_xr⟩, -⟩, f1132_sbr⟩, fK1132⟩ := (tt_H_p Bx (.branch sbn (.branch pn (.branch xa xl xr) tt_n) sbr)).mp h1132.2.1
                    refine ri_callS C km_J19_leftOf q1119 dJ19_fixAfterDeletion_72 (mt_J19_leftOfN htr) rfl rfl ⟨⟨(Nat.le_of_ble_eq_true rfl), (Nat.le_of_ble_eq_true rfl)⟩, (Nat.le_of_ble_eq_true rfl), (Nat.le_of_ble_eq_true rfl), (Nat.le_of_ble_eq_true rfl)⟩ (fun v72 z72 q72 => ?_) (fun _ _ _ h => h.elim)
                    obtain ⟨rfl, rfl⟩ := q72
                    refine ri_callS C km_J19_colorOf q1125 dJ19_fixAfterDeletion_75 (mt_J19_colorOfN htr) rfl rfl ⟨⟨(Nat.le_of_ble_eq_true rfl), (Nat.le_of_ble_eq_true rfl)⟩, (Nat.le_of_ble_eq_true rfl), (Nat.le_of_ble_eq_true rfl), (Nat.le_of_ble_eq_true rfl)⟩ (fun v75 z75 q75 => ?_) (fun _ _ _ h => h.elim)
                    obtain ⟨rfl, rfl⟩ := q75
                    refine ri_iconst C dJ19_fixAfterDeletion_78 kc_i1 ?_
                    refine ri_icmp_ne C 106 dJ19_fixAfterDeletion_79 rfl (fun h79 => ?_) (fun h79 => ?_)
                    · exact absurd rfl h79
                    · refine ri_aload_nN C dJ19_fixAfterDeletion_82 rfl ?_
                      refine ri_callS C km_J19_rightOf q1122 dJ19_fixAfterDeletion_83 (mt_J19_rightOfN htr) rfl rfl ⟨⟨(Nat.le_of_ble_eq_true rfl), (Nat.le_of_ble_eq_true rfl)⟩, (Nat.le_of_ble_eq_true rfl), (Nat.le_of_ble_eq_true rfl), (Nat.le_of_ble_eq_true rfl)⟩ (fun v83 z83 q83 => ?_) (fun _ _ _ h => h.elim)
                      obtain ⟨rfl, rfl⟩ := q83
                      refine ri_callS C km_J19_colorOf q1125 dJ19_fixAfterDeletion_86 (mt_J19_colorOfN htr) rfl rfl ⟨⟨(Nat.le_of_ble_eq_true rfl), (Nat.le_of_ble_eq_true rfl)⟩, (Nat.le_of_ble_eq_true rfl), (Nat.le_of_ble_eq_true rfl), (Nat.le_of_ble_eq_true rfl)⟩ (fun v86 z86 q86 => ?_) (fun _ _ _ h => h.elim)
                      obtain ⟨rfl, rfl⟩ := q86
                      refine ri_iconst C dJ19_fixAfterDeletion_89 kc_i1 ?_
                      refine ri_icmp_ne C 106 dJ19_fixAfterDeletion_90 rfl (fun h90 => ?_) (fun h90 => ?_)
                      · exact absurd rfl h90
                      · refine ri_aload_nN C dJ19_fixAfterDeletion_93 rfl ?_
                        refine ri_iconst C dJ19_fixAfterDeletion_94 kc_i0 ?_
                        refine ri_callS C km_J19_setColor q1128 dJ19_fixAfterDeletion_95 (mt_J19_setColorN htr) rfl rfl ⟨⟨(Nat.le_of_ble_eq_true rfl), (Nat.le_of_ble_eq_true rfl)⟩, (Nat.le_of_ble_eq_true rfl), (Nat.le_of_ble_eq_true rfl), (Nat.le_of_ble_eq_true rfl)⟩ (fun v95 z95 q95 => ?_) (fun _ _ _ h => h.elim)
                        obtain ⟨rfl, rfl⟩ := q95
                        refine ri_aload_n C dJ19_fixAfterDeletion_98 rfl ?_
                        refine ri_callS C km_J19_parentOf q1116 dJ19_fixAfterDeletion_99 (mt_J19_parentOfR htr (y := (some pn)) f1132_xa) rfl rfl ⟨⟨(Nat.le_of_ble_eq_true rfl), (Nat.le_of_ble_eq_true rfl)⟩, (Nat.le_of_ble_eq_true rfl), (Nat.le_of_ble_eq_true rfl), (Nat.le_of_ble_eq_true rfl)⟩ (fun v99 z99 q99 => ?_) (fun _ _ _ h => h.elim)
                        obtain ⟨rfl, rfl⟩ := q99
                        refine ri_astore_n (x := pn) C dJ19_fixAfterDeletion_102 rfl (by decide) ?_
                        refine ri_goto C 183 dJ19_fixAfterDeletion_103 rfl ?_
                        refine ri_goto C 0 dJ19_fixAfterDeletion_183 rfl ?_
                        refine ri_lv2 (ih (i + 1) ((true, sbn, sbr) :: Bx) pn (.branch xa xl xr) tt_n _ _ (by omega) (by omega) ⟨h1132, ⟨A ++ [(true, pn, tt_n)], by rw [tt_p_a, ← hA] <;> rfl⟩, i1132, F1132, ?_⟩) ⟨rfl, rfl, trivial⟩
                        first
                          | exact Or.inl (by simp only [List.length_cons, List.length_nil] at hln ⊢; omega)
                          | exact Or.inr ⟨by simp only [List.length_cons, List.length_nil] at hln; omega, Or.inr rfl⟩
                          | exact Or.inr ⟨by simp only [List.length_cons, List.length_nil] at hln; omega, Or.inl (by simp [tm_c])⟩
                  · have h1133 : tm_H z67 ct mp (tt_p Bx (.branch sbn (.branch pn (.branch xa xl xr) (.branch sbln sbll sblr)) sbr)) K V (tm_c (tm_c D1 sbn (nI 1)) pn (nI 0)) vals sz md := h1131
                    have i1133 : tt_i (tt_p Bx (.branch sbn (.branch pn (.branch xa xl xr) (.branch sbln sbll sblr)) sbr)) = L0 := i1131
                    have F1133 := F1131
                    have nd1133 := h1133.2.2.1
                    obtain ⟨⟨f1133_sbn, ⟨f1133_pn, ⟨f1133_xa, f1133_xl, f1133_xr⟩, ⟨f1133_sbln, f1133_sbll, f1133_sblr⟩⟩, f1133_sbr⟩, fK1133⟩ := (tt_H_p Bx (.branch sbn (.branch pn (.branch xa xl xr) (.branch sbln sbll sblr)) sbr)).mp h1133.2.1
                    refine ri_callS C km_J19_leftOf q1119 dJ19_fixAfterDeletion_72 (mt_J19_leftOfR htr (y := (tt_r sbll)) f1133_sbln) rfl rfl ⟨⟨(Nat.le_of_ble_eq_true rfl), (Nat.le_of_ble_eq_true rfl)⟩, (Nat.le_of_ble_eq_true rfl), (Nat.le_of_ble_eq_true rfl), (Nat.le_of_ble_eq_true rfl)⟩ (fun v72 z72 q72 => ?_) (fun _ _ _ h => h.elim)
                    obtain ⟨rfl, rfl⟩ := q72
                    rcases sbll with ⟨_⟩ | ⟨sblln, sblll, sbllr⟩
                    · have h1134 : tm_H z72 ct mp (tt_p Bx (.branch sbn (.branch pn (.branch xa xl xr) (.branch sbln tt_n sblr)) sbr)) K V (tm_c (tm_c D1 sbn (nI 1)) pn (nI 0)) vals sz md := h1133
                      have i1134 : tt_i (tt_p Bx (.branch sbn (.branch pn (.branch xa xl xr) (.branch sbln tt_n sblr)) sbr)) = L0 := i1133
                      have F1134 := F1133
                      obtain ⟨⟨f1134_sbn, ⟨f1134_pn, ⟨f1134_xa, f1134_xl, f1134_xr⟩, ⟨f1134_sbln, -, f1134_sblr⟩⟩, f1134_sbr⟩, fK1134⟩ := (tt_H_p Bx (.branch sbn (.branch pn (.branch xa xl xr) (.branch sbln tt_n sblr)) sbr)).mp h1134.2.1
                      refine ri_callS C km_J19_colorOf q1125 dJ19_fixAfterDeletion_75 (mt_J19_colorOfN htr) rfl rfl ⟨⟨(Nat.le_of_ble_eq_true rfl), (Nat.le_of_ble_eq_true rfl)⟩, (Nat.le_of_ble_eq_true rfl), (Nat.le_of_ble_eq_true rfl), (Nat.le_of_ble_eq_true rfl)⟩ (fun v75 z75 q75 => ?_) (fun _ _ _ h => h.elim)
                      obtain ⟨rfl, rfl⟩ := q75
                      refine ri_iconst C dJ19_fixAfterDeletion_78 kc_i1 ?_
                      refine ri_icmp_ne C 106 dJ19_fixAfterDeletion_79 rfl (fun h79 => ?_) (fun h79 => ?_)
                      · exact absurd rfl h79
                      · refine ri_aload_n C dJ19_fixAfterDeletion_82 rfl ?_
                        refine ri_callS C km_J19_rightOf q1122 dJ19_fixAfterDeletion_83 (mt_J19_rightOfR htr (y := (tt_r sblr)) f1134_sbln) rfl rfl ⟨⟨(Nat.le_of_ble_eq_true rfl), (Nat.le_of_ble_eq_true rfl)⟩, (Nat.le_of_ble_eq_true rfl), (Nat.le_of_ble_eq_true rfl), (Nat.le_of_ble_eq_true rfl)⟩ (fun v83 z83 q83 => ?_) (fun _ _ _ h => h.elim)
                        obtain ⟨rfl, rfl⟩ := q83
                        rcases sblr with ⟨_⟩ | ⟨sblrn, sblrl, sblrr⟩
                        · have h1135 : tm_H z83 ct mp (tt_p Bx (.branch sbn (.branch pn (.branch xa xl xr) (.branch sbln tt_n tt_n)) sbr)) K V (tm_c (tm_c D1 sbn (nI 1)) pn (nI 0)) vals sz md := h1134
                          have i1135 : tt_i (tt_p Bx (.branch sbn (.branch pn (.branch xa xl xr) (.branch sbln tt_n tt_n)) sbr)) = L0 := i1134
                          have F1135 := F1134
                          obtain ⟨⟨f1135_sbn, ⟨f1135_pn, ⟨f1135_xa, f1135_xl, f1135_xr⟩, ⟨f1135_sbln, -, -⟩⟩, f1135_sbr⟩, fK1135⟩ := (tt_H_p Bx (.branch sbn (.branch pn (.branch xa xl xr) (.branch sbln tt_n tt_n)) sbr)).mp h1135.2.1
                          refine ri_callS C km_J19_colorOf q1125 dJ19_fixAfterDeletion_86 (mt_J19_colorOfN htr) rfl rfl ⟨⟨(Nat.le_of_ble_eq_true rfl), (Nat.le_of_ble_eq_true rfl)⟩, (Nat.le_of_ble_eq_true rfl), (Nat.le_of_ble_eq_true rfl), (Nat.le_of_ble_eq_true rfl)⟩ (fun v86 z86 q86 => ?_) (fun _ _ _ h => h.elim)
                          obtain ⟨rfl, rfl⟩ := q86
                          refine ri_iconst C dJ19_fixAfterDeletion_89 kc_i1 ?_
                          refine ri_icmp_ne C 106 dJ19_fixAfterDeletion_90 rfl (fun h90 => ?_) (fun h90 => ?_)
                          · exact absurd rfl h90
                          · refine ri_aload_n C dJ19_fixAfterDeletion_93 rfl ?_
                            refine ri_iconst C dJ19_fixAfterDeletion_94 kc_i0 ?_
                            refine ri_callS C km_J19_setColor q1128 dJ19_fixAfterDeletion_95 (mt_J19_setColorT htr h1135 (an := sbln) (by simp [tt_i_p, tt_p, tt_i]) (Or.inl rfl)) rfl rfl ⟨⟨(Nat.le_of_ble_eq_true rfl), (Nat.le_of_ble_eq_true rfl)⟩, (Nat.le_of_ble_eq_true rfl), (Nat.le_of_ble_eq_true rfl), (Nat.le_of_ble_eq_true rfl)⟩ (fun v95 z95 q95 => ?_) (fun _ _ _ h => h.elim)
                            obtain ⟨rfl, h1136, e1136⟩ := q95
                            rw [i1135] at e1136
                            have i1136 := i1135
                            have F1136 := kx_Fr.tr F1135 e1136
                            obtain ⟨⟨f1136_sbn, ⟨f1136_pn, ⟨f1136_xa, f1136_xl, f1136_xr⟩, ⟨f1136_sbln, -, -⟩⟩, f1136_sbr⟩, fK1136⟩ := (tt_H_p Bx (.branch sbn (.branch pn (.branch xa xl xr) (.branch sbln tt_n tt_n)) sbr)).mp h1136.2.1
                            refine ri_aload_n C dJ19_fixAfterDeletion_98 rfl ?_
                            refine ri_callS C km_J19_parentOf q1116 dJ19_fixAfterDeletion_99 (mt_J19_parentOfR htr (y := (some pn)) f1136_xa) rfl rfl ⟨⟨(Nat.le_of_ble_eq_true rfl), (Nat.le_of_ble_eq_true rfl)⟩, (Nat.le_of_ble_eq_true rfl), (Nat.le_of_ble_eq_true rfl), (Nat.le_of_ble_eq_true rfl)⟩ (fun v99 z99 q99 => ?_) (fun _ _ _ h => h.elim)
                            obtain ⟨rfl, rfl⟩ := q99
                            refine ri_astore_n (x := pn) C dJ19_fixAfterDeletion_102 rfl (by decide) ?_
                            refine ri_goto C 183 dJ19_fixAfterDeletion_103 rfl ?_
                            refine ri_goto C 0 dJ19_fixAfterDeletion_183 rfl ?_
                            refine ri_lv2 (ih (i + 1) ((true, sbn, sbr) :: Bx) pn (.branch xa xl xr) (.branch sbln tt_n tt_n) _ _ (by omega) (by omega) ⟨h1136, ⟨A ++ [(true, pn, (.branch sbln tt_n tt_n))], by rw [tt_p_a, ← hA] <;> rfl⟩, i1136, F1136, ?_⟩) ⟨rfl, rfl, trivial⟩
                            first
                              | exact Or.inl (by simp only [List.length_cons, List.length_nil] at hln ⊢; omega)
                              | exact Or.inr ⟨by simp only [List.length_cons, List.length_nil] at hln; omega, Or.inr rfl⟩
                              | exact Or.inr ⟨by simp only [List.length_cons, List.length_nil] at hln; omega, Or.inl (by simp [tm_c])⟩
                        · have h1137 : tm_H z83 ct mp (tt_p Bx (.branch sbn (.branch pn (.branch xa xl xr) (.branch sbln tt_n (.branch sblrn sblrl sblrr))) sbr)) K V (tm_c (tm_c D1 sbn (nI 1)) pn (nI 0)) vals sz md := h1134
                          have i1137 : tt_i (tt_p Bx (.branch sbn (.branch pn (.branch xa xl xr) (.branch sbln tt_n (.branch sblrn sblrl sblrr))) sbr)) = L0 := i1134
                          have F1137 := F1134
                          have nd1137 := h1137.2.2.1
                          obtain ⟨⟨f1137_sbn, ⟨f1137_pn, ⟨f1137_xa, f1137_xl, f1137_xr⟩, ⟨f1137_sbln, -, ⟨f1137_sblrn, f1137_sblrl, f1137_sblrr⟩⟩⟩, f1137_sbr⟩, fK1137⟩ := (tt_H_p Bx (.branch sbn (.branch pn (.branch xa xl xr) (.branch sbln tt_n (.branch sblrn sblrl sblrr))) sbr)).mp h1137.2.1
                          refine ri_callS C km_J19_colorOf q1125 dJ19_fixAfterDeletion_86 (mt_J19_colorOfR htr f1137_sblrn (h1137.2.2.2 sblrn)) rfl rfl ⟨⟨(Nat.le_of_ble_eq_true rfl), (Nat.le_of_ble_eq_true rfl)⟩, (Nat.le_of_ble_eq_true rfl), (Nat.le_of_ble_eq_true rfl), (Nat.le_of_ble_eq_true rfl)⟩ (fun v86 z86 q86 => ?_) (fun _ _ _ h => h.elim)
                          obtain ⟨rfl, rfl⟩ := q86
                          refine ri_iconst C dJ19_fixAfterDeletion_89 kc_i1 ?_
                          refine ri_icmp_ne C 106 dJ19_fixAfterDeletion_90 rfl (fun h90 => ?_) (fun h90 => ?_)
                          · refine ri_aload_n C dJ19_fixAfterDeletion_106 rfl ?_
                            refine ri_callS C km_J19_rightOf q1122 dJ19_fixAfterDeletion_107 (mt_J19_rightOfR htr (y := (some sblrn)) f1137_sbln) rfl rfl ⟨⟨(Nat.le_of_ble_eq_true rfl), (Nat.le_of_ble_eq_true rfl)⟩, (Nat.le_of_ble_eq_true rfl), (Nat.le_of_ble_eq_true rfl), (Nat.le_of_ble_eq_true rfl)⟩ (fun v107 z107 q107 => ?_) (fun _ _ _ h => h.elim)
                            obtain ⟨rfl, rfl⟩ := q107
                            refine ri_callS C km_J19_colorOf q1125 dJ19_fixAfterDeletion_110 (mt_J19_colorOfR htr f1137_sblrn (h1137.2.2.2 sblrn)) rfl rfl ⟨⟨(Nat.le_of_ble_eq_true rfl), (Nat.le_of_ble_eq_true rfl)⟩, (Nat.le_of_ble_eq_true rfl), (Nat.le_of_ble_eq_true rfl), (Nat.le_of_ble_eq_true rfl)⟩ (fun v110 z110 q110 => ?_) (fun _ _ _ h => h.elim)
                            obtain ⟨rfl, rfl⟩ := q110
                            refine ri_iconst C dJ19_fixAfterDeletion_113 kc_i1 ?_
                            refine ri_icmp_ne C 143 dJ19_fixAfterDeletion_114 rfl (fun h114 => ?_) (fun h114 => ?_)
                            · refine ri_aload_n C dJ19_fixAfterDeletion_143 rfl ?_
                              refine ri_aload_n C dJ19_fixAfterDeletion_144 rfl ?_
                              refine ri_callS C km_J19_parentOf q1116 dJ19_fixAfterDeletion_145 (mt_J19_parentOfR htr (y := (some pn)) f1137_xa) rfl rfl ⟨⟨(Nat.le_of_ble_eq_true rfl), (Nat.le_of_ble_eq_true rfl)⟩, (Nat.le_of_ble_eq_true rfl), (Nat.le_of_ble_eq_true rfl), (Nat.le_of_ble_eq_true rfl)⟩ (fun v145 z145 q145 => ?_) (fun _ _ _ h => h.elim)
                              obtain ⟨rfl, rfl⟩ := q145
                              refine ri_callS C km_J19_colorOf q1125 dJ19_fixAfterDeletion_148 (mt_J19_colorOfR htr f1137_pn (h1137.2.2.2 pn)) rfl rfl ⟨⟨(Nat.le_of_ble_eq_true rfl), (Nat.le_of_ble_eq_true rfl)⟩, (Nat.le_of_ble_eq_true rfl), (Nat.le_of_ble_eq_true rfl), (Nat.le_of_ble_eq_true rfl)⟩ (fun v148 z148 q148 => ?_) (fun _ _ _ h => h.elim)
                              obtain ⟨rfl, rfl⟩ := q148
                              refine ri_callS C km_J19_setColor q1128 dJ19_fixAfterDeletion_151 (mt_J19_setColorT htr h1137 (an := sbln) (by simp [tt_i_p, tt_p, tt_i]) (h1137.2.2.2 _)) rfl rfl ⟨⟨(Nat.le_of_ble_eq_true rfl), (Nat.le_of_ble_eq_true rfl)⟩, (Nat.le_of_ble_eq_true rfl), (Nat.le_of_ble_eq_true rfl), (Nat.le_of_ble_eq_true rfl)⟩ (fun v151 z151 q151 => ?_) (fun _ _ _ h => h.elim)
                              obtain ⟨rfl, h1138, e1138⟩ := q151
                              rw [i1137] at e1138
                              have i1138 := i1137
                              have F1138 := kx_Fr.tr F1137 e1138
                              obtain ⟨⟨f1138_sbn, ⟨f1138_pn, ⟨f1138_xa, f1138_xl, f1138_xr⟩, ⟨f1138_sbln, -, ⟨f1138_sblrn, f1138_sblrl, f1138_sblrr⟩⟩⟩, f1138_sbr⟩, fK1138⟩ := (tt_H_p Bx (.branch sbn (.branch pn (.branch xa xl xr) (.branch sbln tt_n (.branch sblrn sblrl sblrr))) sbr)).mp h1138.2.1
                              refine ri_aload_n C dJ19_fixAfterDeletion_154 rfl ?_
                              refine ri_callS C km_J19_parentOf q1116 dJ19_fixAfterDeletion_155 (mt_J19_parentOfR htr (y := (some pn)) f1138_xa) rfl rfl ⟨⟨(Nat.le_of_ble_eq_true rfl), (Nat.le_of_ble_eq_true rfl)⟩, (Nat.le_of_ble_eq_true rfl), (Nat.le_of_ble_eq_true rfl), (Nat.le_of_ble_eq_true rfl)⟩ (fun v155 z155 q155 => ?_) (fun _ _ _ h => h.elim)
                              obtain ⟨rfl, rfl⟩ := q155
                              refine ri_iconst C dJ19_fixAfterDeletion_158 kc_i1 ?_
                              refine ri_callS C km_J19_setColor q1128 dJ19_fixAfterDeletion_159 (mt_J19_setColorT htr h1138 (an := pn) (by simp [tt_i_p, tt_p, tt_i]) (Or.inr rfl)) rfl rfl ⟨⟨(Nat.le_of_ble_eq_true rfl), (Nat.le_of_ble_eq_true rfl)⟩, (Nat.le_of_ble_eq_true rfl), (Nat.le_of_ble_eq_true rfl), (Nat.le_of_ble_eq_true rfl)⟩ (fun v159 z159 q159 => ?_) (fun _ _ _ h => h.elim)
                              obtain ⟨rfl, h1139, e1139⟩ := q159
                              rw [i1138] at e1139
                              have i1139 := i1138
                              have F1139 := kx_Fr.tr F1138 e1139
                              obtain ⟨⟨f1139_sbn, ⟨f1139_pn, ⟨f1139_xa, f1139_xl, f1139_xr⟩, ⟨f1139_sbln, -, ⟨f1139_sblrn, f1139_sblrl, f1139_sblrr⟩⟩⟩, f1139_sbr⟩, fK1139⟩ := (tt_H_p Bx (.branch sbn (.branch pn (.branch xa xl xr) (.branch sbln tt_n (.branch sblrn sblrl sblrr))) sbr)).mp h1139.2.1
                              refine ri_aload_n C dJ19_fixAfterDeletion_162 rfl ?_
                              refine ri_callS C km_J19_rightOf q1122 dJ19_fixAfterDeletion_163 (mt_J19_rightOfR htr (y := (some sblrn)) f1139_sbln) rfl rfl ⟨⟨(Nat.le_of_ble_eq_true rfl), (Nat.le_of_ble_eq_true rfl)⟩, (Nat.le_of_ble_eq_true rfl), (Nat.le_of_ble_eq_true rfl), (Nat.le_of_ble_eq_true rfl)⟩ (fun v163 z163 q163 => ?_) (fun _ _ _ h => h.elim)
                              obtain ⟨rfl, rfl⟩ := q163
                              refine ri_iconst C dJ19_fixAfterDeletion_166 kc_i1 ?_
                              refine ri_callS C km_J19_setColor q1128 dJ19_fixAfterDeletion_167 (mt_J19_setColorT htr h1139 (an := sblrn) (by simp [tt_i_p, tt_p, tt_i]) (Or.inr rfl)) rfl rfl ⟨⟨(Nat.le_of_ble_eq_true rfl), (Nat.le_of_ble_eq_true rfl)⟩, (Nat.le_of_ble_eq_true rfl), (Nat.le_of_ble_eq_true rfl), (Nat.le_of_ble_eq_true rfl)⟩ (fun v167 z167 q167 => ?_) (fun _ _ _ h => h.elim)
                              obtain ⟨rfl, h1140, e1140⟩ := q167
                              rw [i1139] at e1140
                              have i1140 := i1139
                              have F1140 := kx_Fr.tr F1139 e1140
                              obtain ⟨⟨f1140_sbn, ⟨f1140_pn, ⟨f1140_xa, f1140_xl, f1140_xr⟩, ⟨f1140_sbln, -, ⟨f1140_sblrn, f1140_sblrl, f1140_sblrr⟩⟩⟩, f1140_sbr⟩, fK1140⟩ := (tt_H_p Bx (.branch sbn (.branch pn (.branch xa xl xr) (.branch sbln tt_n (.branch sblrn sblrl sblrr))) sbr)).mp h1140.2.1
                              refine ri_aload_n C dJ19_fixAfterDeletion_170 rfl ?_
                              refine ri_aload_n C dJ19_fixAfterDeletion_171 rfl ?_
                              refine ri_callS C km_J19_parentOf q1116 dJ19_fixAfterDeletion_172 (mt_J19_parentOfR htr (y := (some pn)) f1140_xa) rfl rfl ⟨⟨(Nat.le_of_ble_eq_true rfl), (Nat.le_of_ble_eq_true rfl)⟩, (Nat.le_of_ble_eq_true rfl), (Nat.le_of_ble_eq_true rfl), (Nat.le_of_ble_eq_true rfl)⟩ (fun v172 z172 q172 => ?_) (fun _ _ _ h => h.elim)
                              obtain ⟨rfl, rfl⟩ := q172
                              refine ri_callV C km_J19_rotateLeft q1131 qs9 dJ19_fixAfterDeletion_175 (mt_J19_rotateLeft htr (Bx := ((true, sbn, sbr) :: Bx)) (pn := pn) (rn := sbln) (ta := (.branch xa xl xr)) (tb := tt_n) (td := (.branch sblrn sblrl sblrr)) h1140) rfl rfl (kx_rcN C h1140.1 rfl) ⟨⟨(Nat.le_of_ble_eq_true rfl), (Nat.le_of_ble_eq_true rfl)⟩, (Nat.le_of_ble_eq_true rfl), (Nat.le_of_ble_eq_true rfl), (Nat.le_of_ble_eq_true rfl)⟩ (fun v175 z175 q175 => ?_) (fun _ _ _ h => h.elim)
                              obtain ⟨rfl, H1141, e1141⟩ := q175
                              have h1141 : tm_H z175 ct mp (tt_p Bx (.branch sbn (.branch sbln (.branch pn (.branch xa xl xr) tt_n) (.branch sblrn sblrl sblrr)) sbr)) K V (tm_c (tm_c (tm_c (tm_c (tm_c D1 sbn (nI 1)) pn (nI 0)) sbln ((tm_c (tm_c D1 sbn (nI 1)) pn (nI 0)) pn)) pn (nI 1)) sblrn (nI 1)) vals sz md := H1141
                              have e1141 : kx_Fr (tm_T ct (tt_i (tt_p Bx (.branch sbn (.branch pn (.branch xa xl xr) (.branch sbln tt_n (.branch sblrn sblrl sblrr))) sbr)))) z172 z175 := e1141
                              rw [i1140] at e1141
                              have i1141 : tt_i (tt_p Bx (.branch sbn (.branch sbln (.branch pn (.branch xa xl xr) tt_n) (.branch sblrn sblrl sblrr)) sbr)) = L0 := (by rw [← i1140]; simp [tt_i_p, tt_p, tt_i])
                              have F1141 := kx_Fr.tr F1140 e1141
                              obtain ⟨⟨f1141_sbn, ⟨f1141_sbln, ⟨f1141_pn, ⟨f1141_xa, f1141_xl, f1141_xr⟩, -⟩, ⟨f1141_sblrn, f1141_sblrl, f1141_sblrr⟩⟩, f1141_sbr⟩, fK1141⟩ := (tt_H_p Bx (.branch sbn (.branch sbln (.branch pn (.branch xa xl xr) tt_n) (.branch sblrn sblrl sblrr)) sbr)).mp h1141.2.1
                              refine ri_aload_n C dJ19_fixAfterDeletion_178 rfl ?_
                              refine ri_getf C dJ19_fixAfterDeletion_179 fr_q577_18 h1141.1 (by rfl) ?_
                              refine ri_astore_nQ (x := (tt_r (tt_p Bx (.branch sbn (.branch sbln (.branch pn (.branch xa xl xr) tt_n) (.branch sblrn sblrl sblrr)) sbr)))) C dJ19_fixAfterDeletion_182 rfl (by decide) ?_
                              refine ri_goto C 0 dJ19_fixAfterDeletion_183 rfl ?_
                              obtain ⟨rn9, rl9, rr9, hr9⟩ : ∃ rn rl rr, (tt_p Bx (.branch sbn (.branch sbln (.branch pn (.branch xa xl xr) tt_n) (.branch sblrn sblrl sblrr)) sbr)) = .branch rn rl rr := tt_rt Bx
                              have hh9 : tm_H z175 ct mp (tt_p [] (.branch rn9 rl9 rr9)) K V (tm_c (tm_c (tm_c (tm_c (tm_c D1 sbn (nI 1)) pn (nI 0)) sbln ((tm_c (tm_c D1 sbn (nI 1)) pn (nI 0)) pn)) pn (nI 1)) sblrn (nI 1)) vals sz md := (by show tm_H _ _ _ (.branch rn9 rl9 rr9) _ _ _ _ _ _; rw [← hr9]; exact h1141)
                              have ii9 : tt_i (tt_p [] (.branch rn9 rl9 rr9)) = L0 := (by show tt_i (.branch rn9 rl9 rr9) = L0; rw [← hr9]; exact i1141)
                              rw [hr9]
                              refine ri_lv2 (ih (i + 1) [] rn9 rl9 rr9 _ _ (by omega) (by omega) ⟨hh9, ⟨A ++ ((true, pn, tt_n) :: (true, sbln, (.branch sblrn sblrl sblrr)) :: (true, sbn, sbr) :: Bx), by rw [tt_p_a, ← hA, ← hr9] <;> rfl⟩, ii9, F1141, ?_⟩) ⟨rfl, rfl, trivial⟩
                              first
                                | exact Or.inl (by simp only [List.length_cons, List.length_nil] at hln ⊢; omega)
                                | exact Or.inr ⟨by simp only [List.length_cons, List.length_nil] at hln; omega, Or.inr rfl⟩
                                | exact Or.inr ⟨by simp only [List.length_cons, List.length_nil] at hln; omega, Or.inl (by simp [tm_c])⟩
                            · exact absurd h114 h90
                          · refine ri_aload_n C dJ19_fixAfterDeletion_93 rfl ?_
                            refine ri_iconst C dJ19_fixAfterDeletion_94 kc_i0 ?_
                            refine ri_callS C km_J19_setColor q1128 dJ19_fixAfterDeletion_95 (mt_J19_setColorT htr h1137 (an := sbln) (by simp [tt_i_p, tt_p, tt_i]) (Or.inl rfl)) rfl rfl ⟨⟨(Nat.le_of_ble_eq_true rfl), (Nat.le_of_ble_eq_true rfl)⟩, (Nat.le_of_ble_eq_true rfl), (Nat.le_of_ble_eq_true rfl), (Nat.le_of_ble_eq_true rfl)⟩ (fun v95 z95 q95 => ?_) (fun _ _ _ h => h.elim)
                            obtain ⟨rfl, h1142, e1142⟩ := q95
                            rw [i1137] at e1142
                            have i1142 := i1137
                            have F1142 := kx_Fr.tr F1137 e1142
                            obtain ⟨⟨f1142_sbn, ⟨f1142_pn, ⟨f1142_xa, f1142_xl, f1142_xr⟩, ⟨f1142_sbln, -, ⟨f1142_sblrn, f1142_sblrl, f1142_sblrr⟩⟩⟩, f1142_sbr⟩, fK1142⟩ := (tt_H_p Bx (.branch sbn (.branch pn (.branch xa xl xr) (.branch sbln tt_n (.branch sblrn sblrl sblrr))) sbr)).mp h1142.2.1
                            refine ri_aload_n C dJ19_fixAfterDeletion_98 rfl ?_
                            refine ri_callS C km_J19_parentOf q1116 dJ19_fixAfterDeletion_99 (mt_J19_parentOfR htr (y := (some pn)) f1142_xa) rfl rfl ⟨⟨(Nat.le_of_ble_eq_true rfl), (Nat.le_of_ble_eq_true rfl)⟩, (Nat.le_of_ble_eq_true rfl), (Nat.le_of_ble_eq_true rfl), (Nat.le_of_ble_eq_true rfl)⟩ (fun v99 z99 q99 => ?_) (fun _ _ _ h => h.elim)
                            obtain ⟨rfl, rfl⟩ := q99
                            refine ri_astore_n (x := pn) C dJ19_fixAfterDeletion_102 rfl (by decide) ?_
                            refine ri_goto C 183 dJ19_fixAfterDeletion_103 rfl ?_
                            refine ri_goto C 0 dJ19_fixAfterDeletion_183 rfl ?_
                            refine ri_lv2 (ih (i + 1) ((true, sbn, sbr) :: Bx) pn (.branch xa xl xr) (.branch sbln tt_n (.branch sblrn sblrl sblrr)) _ _ (by omega) (by omega) ⟨h1142, ⟨A ++ [(true, pn, (.branch sbln tt_n (.branch sblrn sblrl sblrr)))], by rw [tt_p_a, ← hA] <;> rfl⟩, i1142, F1142, ?_⟩) ⟨rfl, rfl, trivial⟩
                            first
                              | exact Or.inl (by simp only [List.length_cons, List.length_nil] at hln ⊢; omega)
                              | exact Or.inr ⟨by simp only [List.length_cons, List.length_nil] at hln; omega, Or.inr rfl⟩
                              | exact Or.inr ⟨by simp only [List.length_cons, List.length_nil] at hln; omega, Or.inl (by simp [tm_c])⟩
                    · have h1143 : tm_H z72 ct mp (tt_p Bx (.branch sbn (.branch pn (.branch xa xl xr) (.branch sbln (.branch sblln sblll sbllr) sblr)) sbr)) K V (tm_c (tm_c D1 sbn (nI 1)) pn (nI 0)) vals sz md := h1133
                      have i1143 : tt_i (tt_p Bx (.branch sbn (.branch pn (.branch xa xl xr) (.branch sbln (.branch sblln sblll sbllr) sblr)) sbr)) = L0 := i1133
                      have F1143 := F1133
                      have nd1143 := h1143.2.2.1
                      obtain ⟨⟨f1143_sbn, ⟨f1143_pn, ⟨f1143_xa, f1143_xl, f1143_xr⟩, ⟨f1143_sbln, ⟨f1143_sblln, f1143_sblll, f1143_sbllr⟩, f1143_sblr⟩⟩, f1143_sbr⟩, fK1143⟩ := (tt_H_p Bx (.branch sbn (.branch pn (.branch xa xl xr) (.branch sbln (.branch sblln sblll sbllr) sblr)) sbr)).mp h1143.2.1
                      refine ri_callS C km_J19_colorOf q1125 dJ19_fixAfterDeletion_75 (mt_J19_colorOfR htr f1143_sblln (h1143.2.2.2 sblln)) rfl rfl ⟨⟨(Nat.le_of_ble_eq_true rfl), (Nat.le_of_ble_eq_true rfl)⟩, (Nat.le_of_ble_eq_true rfl), (Nat.le_of_ble_eq_true rfl), (Nat.le_of_ble_eq_true rfl)⟩ (fun v75 z75 q75 => ?_) (fun _ _ _ h => h.elim)
                      obtain ⟨rfl, rfl⟩ := q75
                      refine ri_iconst C dJ19_fixAfterDeletion_78 kc_i1 ?_
                      refine ri_icmp_ne C 106 dJ19_fixAfterDeletion_79 rfl (fun h79 => ?_) (fun h79 => ?_)
                      · refine ri_aload_n C dJ19_fixAfterDeletion_106 rfl ?_
                        refine ri_callS C km_J19_rightOf q1122 dJ19_fixAfterDeletion_107 (mt_J19_rightOfR htr (y := (tt_r sblr)) f1143_sbln) rfl rfl ⟨⟨(Nat.le_of_ble_eq_true rfl), (Nat.le_of_ble_eq_true rfl)⟩, (Nat.le_of_ble_eq_true rfl), (Nat.le_of_ble_eq_true rfl), (Nat.le_of_ble_eq_true rfl)⟩ (fun v107 z107 q107 => ?_) (fun _ _ _ h => h.elim)
                        obtain ⟨rfl, rfl⟩ := q107
                        rcases sblr with ⟨_⟩ | ⟨sblrn, sblrl, sblrr⟩
                        · have h1144 : tm_H z107 ct mp (tt_p Bx (.branch sbn (.branch pn (.branch xa xl xr) (.branch sbln (.branch sblln sblll sbllr) tt_n)) sbr)) K V (tm_c (tm_c D1 sbn (nI 1)) pn (nI 0)) vals sz md := h1143
                          have i1144 : tt_i (tt_p Bx (.branch sbn (.branch pn (.branch xa xl xr) (.branch sbln (.branch sblln sblll sbllr) tt_n)) sbr)) = L0 := i1143
                          have F1144 := F1143
                          obtain ⟨⟨f1144_sbn, ⟨f1144_pn, ⟨f1144_xa, f1144_xl, f1144_xr⟩, ⟨f1144_sbln, ⟨f1144_sblln, f1144_sblll, f1144_sbllr⟩, -⟩⟩, f1144_sbr⟩, fK1144⟩ := (tt_H_p Bx (.branch sbn (.branch pn (.branch xa xl xr) (.branch sbln (.branch sblln sblll sbllr) tt_n)) sbr)).mp h1144.2.1
                          refine ri_callS C km_J19_colorOf q1125 dJ19_fixAfterDeletion_110 (mt_J19_colorOfN htr) rfl rfl ⟨⟨(Nat.le_of_ble_eq_true rfl), (Nat.le_of_ble_eq_true rfl)⟩, (Nat.le_of_ble_eq_true rfl), (Nat.le_of_ble_eq_true rfl), (Nat.le_of_ble_eq_true rfl)⟩ (fun v110 z110 q110 => ?_) (fun _ _ _ h => h.elim)
                          obtain ⟨rfl, rfl⟩ := q110
                          refine ri_iconst C dJ19_fixAfterDeletion_113 kc_i1 ?_
                          refine ri_icmp_ne C 143 dJ19_fixAfterDeletion_114 rfl (fun h114 => ?_) (fun h114 => ?_)
                          · exact absurd rfl h114
                          · refine ri_aload_n C dJ19_fixAfterDeletion_117 rfl ?_
                            refine ri_callS C km_J19_leftOf q1119 dJ19_fixAfterDeletion_118 (mt_J19_leftOfR htr (y := (some sblln)) f1144_sbln) rfl rfl ⟨⟨(Nat.le_of_ble_eq_true rfl), (Nat.le_of_ble_eq_true rfl)⟩, (Nat.le_of_ble_eq_true rfl), (Nat.le_of_ble_eq_true rfl), (Nat.le_of_ble_eq_true rfl)⟩ (fun v118 z118 q118 => ?_) (fun _ _ _ h => h.elim)
                            obtain ⟨rfl, rfl⟩ := q118
                            refine ri_iconst C dJ19_fixAfterDeletion_121 kc_i1 ?_
                            refine ri_callS C km_J19_setColor q1128 dJ19_fixAfterDeletion_122 (mt_J19_setColorT htr h1144 (an := sblln) (by simp [tt_i_p, tt_p, tt_i]) (Or.inr rfl)) rfl rfl ⟨⟨(Nat.le_of_ble_eq_true rfl), (Nat.le_of_ble_eq_true rfl)⟩, (Nat.le_of_ble_eq_true rfl), (Nat.le_of_ble_eq_true rfl), (Nat.le_of_ble_eq_true rfl)⟩ (fun v122 z122 q122 => ?_) (fun _ _ _ h => h.elim)
                            obtain ⟨rfl, h1145, e1145⟩ := q122
                            rw [i1144] at e1145
                            have i1145 := i1144
                            have F1145 := kx_Fr.tr F1144 e1145
                            obtain ⟨⟨f1145_sbn, ⟨f1145_pn, ⟨f1145_xa, f1145_xl, f1145_xr⟩, ⟨f1145_sbln, ⟨f1145_sblln, f1145_sblll, f1145_sbllr⟩, -⟩⟩, f1145_sbr⟩, fK1145⟩ := (tt_H_p Bx (.branch sbn (.branch pn (.branch xa xl xr) (.branch sbln (.branch sblln sblll sbllr) tt_n)) sbr)).mp h1145.2.1
                            refine ri_aload_n C dJ19_fixAfterDeletion_125 rfl ?_
                            refine ri_iconst C dJ19_fixAfterDeletion_126 kc_i0 ?_
                            refine ri_callS C km_J19_setColor q1128 dJ19_fixAfterDeletion_127 (mt_J19_setColorT htr h1145 (an := sbln) (by simp [tt_i_p, tt_p, tt_i]) (Or.inl rfl)) rfl rfl ⟨⟨(Nat.le_of_ble_eq_true rfl), (Nat.le_of_ble_eq_true rfl)⟩, (Nat.le_of_ble_eq_true rfl), (Nat.le_of_ble_eq_true rfl), (Nat.le_of_ble_eq_true rfl)⟩ (fun v127 z127 q127 => ?_) (fun _ _ _ h => h.elim)
                            obtain ⟨rfl, h1146, e1146⟩ := q127
                            rw [i1145] at e1146
                            have i1146 := i1145
                            have F1146 := kx_Fr.tr F1145 e1146
                            obtain ⟨⟨f1146_sbn, ⟨f1146_pn, ⟨f1146_xa, f1146_xl, f1146_xr⟩, ⟨f1146_sbln, ⟨f1146_sblln, f1146_sblll, f1146_sbllr⟩, -⟩⟩, f1146_sbr⟩, fK1146⟩ := (tt_H_p Bx (.branch sbn (.branch pn (.branch xa xl xr) (.branch sbln (.branch sblln sblll sbllr) tt_n)) sbr)).mp h1146.2.1
                            refine ri_aload_n C dJ19_fixAfterDeletion_130 rfl ?_
                            refine ri_aload_n C dJ19_fixAfterDeletion_131 rfl ?_
                            refine ri_callV C km_J19_rotateRight q1135 qs10 dJ19_fixAfterDeletion_132 (mt_J19_rotateRight htr (Bx := ((false, pn, (.branch xa xl xr)) :: (true, sbn, sbr) :: Bx)) (pn := sbln) (rn := sblln) (ta := tt_n) (tb := sbllr) (td := sblll) h1146) rfl rfl (kx_rcN C h1146.1 rfl) ⟨⟨(Nat.le_of_ble_eq_true rfl), (Nat.le_of_ble_eq_true rfl)⟩, (Nat.le_of_ble_eq_true rfl), (Nat.le_of_ble_eq_true rfl), (Nat.le_of_ble_eq_true rfl)⟩ (fun v132 z132 q132 => ?_) (fun _ _ _ h => h.elim)
                            obtain ⟨rfl, H1147, e1147⟩ := q132
                            have h1147 : tm_H z132 ct mp (tt_p Bx (.branch sbn (.branch pn (.branch xa xl xr) (.branch sblln sblll (.branch sbln sbllr tt_n))) sbr)) K V (tm_c (tm_c (tm_c (tm_c D1 sbn (nI 1)) pn (nI 0)) sblln (nI 1)) sbln (nI 0)) vals sz md := H1147
                            have e1147 : kx_Fr (tm_T ct (tt_i (tt_p Bx (.branch sbn (.branch pn (.branch xa xl xr) (.branch sbln (.branch sblln sblll sbllr) tt_n)) sbr)))) z127 z132 := e1147
                            rw [i1146] at e1147
                            have i1147 : tt_i (tt_p Bx (.branch sbn (.branch pn (.branch xa xl xr) (.branch sblln sblll (.branch sbln sbllr tt_n))) sbr)) = L0 := (by rw [← i1146]; simp [tt_i_p, tt_p, tt_i])
                            have F1147 := kx_Fr.tr F1146 e1147
                            obtain ⟨⟨f1147_sbn, ⟨f1147_pn, ⟨f1147_xa, f1147_xl, f1147_xr⟩, ⟨f1147_sblln, f1147_sblll, ⟨f1147_sbln, f1147_sbllr, -⟩⟩⟩, f1147_sbr⟩, fK1147⟩ := (tt_H_p Bx (.branch sbn (.branch pn (.branch xa xl xr) (.branch sblln sblll (.branch sbln sbllr tt_n))) sbr)).mp h1147.2.1
                            refine ri_aload_n C dJ19_fixAfterDeletion_135 rfl ?_
                            refine ri_callS C km_J19_parentOf q1116 dJ19_fixAfterDeletion_136 (mt_J19_parentOfR htr (y := (some pn)) f1147_xa) rfl rfl ⟨⟨(Nat.le_of_ble_eq_true rfl), (Nat.le_of_ble_eq_true rfl)⟩, (Nat.le_of_ble_eq_true rfl), (Nat.le_of_ble_eq_true rfl), (Nat.le_of_ble_eq_true rfl)⟩ (fun v136 z136 q136 => ?_) (fun _ _ _ h => h.elim)
                            obtain ⟨rfl, rfl⟩ := q136
                            refine ri_callS C km_J19_rightOf q1122 dJ19_fixAfterDeletion_139 (mt_J19_rightOfR htr (y := (some sblln)) f1147_pn) rfl rfl ⟨⟨(Nat.le_of_ble_eq_true rfl), (Nat.le_of_ble_eq_true rfl)⟩, (Nat.le_of_ble_eq_true rfl), (Nat.le_of_ble_eq_true rfl), (Nat.le_of_ble_eq_true rfl)⟩ (fun v139 z139 q139 => ?_) (fun _ _ _ h => h.elim)
                            obtain ⟨rfl, rfl⟩ := q139
                            refine ri_astore_n (x := sblln) C dJ19_fixAfterDeletion_142 rfl (by decide) ?_
                            refine ri_aload_n C dJ19_fixAfterDeletion_143 rfl ?_
                            refine ri_aload_n C dJ19_fixAfterDeletion_144 rfl ?_
                            refine ri_callS C km_J19_parentOf q1116 dJ19_fixAfterDeletion_145 (mt_J19_parentOfR htr (y := (some pn)) f1147_xa) rfl rfl ⟨⟨(Nat.le_of_ble_eq_true rfl), (Nat.le_of_ble_eq_true rfl)⟩, (Nat.le_of_ble_eq_true rfl), (Nat.le_of_ble_eq_true rfl), (Nat.le_of_ble_eq_true rfl)⟩ (fun v145 z145 q145 => ?_) (fun _ _ _ h => h.elim)
                            obtain ⟨rfl, rfl⟩ := q145
                            refine ri_callS C km_J19_colorOf q1125 dJ19_fixAfterDeletion_148 (mt_J19_colorOfR htr f1147_pn (h1147.2.2.2 pn)) rfl rfl ⟨⟨(Nat.le_of_ble_eq_true rfl), (Nat.le_of_ble_eq_true rfl)⟩, (Nat.le_of_ble_eq_true rfl), (Nat.le_of_ble_eq_true rfl), (Nat.le_of_ble_eq_true rfl)⟩ (fun v148 z148 q148 => ?_) (fun _ _ _ h => h.elim)
                            obtain ⟨rfl, rfl⟩ := q148
                            refine ri_callS C km_J19_setColor q1128 dJ19_fixAfterDeletion_151 (mt_J19_setColorT htr h1147 (an := sblln) (by simp [tt_i_p, tt_p, tt_i]) (h1147.2.2.2 _)) rfl rfl ⟨⟨(Nat.le_of_ble_eq_true rfl), (Nat.le_of_ble_eq_true rfl)⟩, (Nat.le_of_ble_eq_true rfl), (Nat.le_of_ble_eq_true rfl), (Nat.le_of_ble_eq_true rfl)⟩ (fun v151 z151 q151 => ?_) (fun _ _ _ h => h.elim)
                            obtain ⟨rfl, h1148, e1148⟩ := q151
                            rw [i1147] at e1148
                            have i1148 := i1147
                            have F1148 := kx_Fr.tr F1147 e1148
                            obtain ⟨⟨f1148_sbn, ⟨f1148_pn, ⟨f1148_xa, f1148_xl, f1148_xr⟩, ⟨f1148_sblln, f1148_sblll, ⟨f1148_sbln, f1148_sbllr, -⟩⟩⟩, f1148_sbr⟩, fK1148⟩ := (tt_H_p Bx (.branch sbn (.branch pn (.branch xa xl xr) (.branch sblln sblll (.branch sbln sbllr tt_n))) sbr)).mp h1148.2.1
                            refine ri_aload_n C dJ19_fixAfterDeletion_154 rfl ?_
                            refine ri_callS C km_J19_parentOf q1116 dJ19_fixAfterDeletion_155 (mt_J19_parentOfR htr (y := (some pn)) f1148_xa) rfl rfl ⟨⟨(Nat.le_of_ble_eq_true rfl), (Nat.le_of_ble_eq_true rfl)⟩, (Nat.le_of_ble_eq_true rfl), (Nat.le_of_ble_eq_true rfl), (Nat.le_of_ble_eq_true rfl)⟩ (fun v155 z155 q155 => ?_) (fun _ _ _ h => h.elim)
                            obtain ⟨rfl, rfl⟩ := q155
                            refine ri_iconst C dJ19_fixAfterDeletion_158 kc_i1 ?_
                            refine ri_callS C km_J19_setColor q1128 dJ19_fixAfterDeletion_159 (mt_J19_setColorT htr h1148 (an := pn) (by simp [tt_i_p, tt_p, tt_i]) (Or.inr rfl)) rfl rfl ⟨⟨(Nat.le_of_ble_eq_true rfl), (Nat.le_of_ble_eq_true rfl)⟩, (Nat.le_of_ble_eq_true rfl), (Nat.le_of_ble_eq_true rfl), (Nat.le_of_ble_eq_true rfl)⟩ (fun v159 z159 q159 => ?_) (fun _ _ _ h => h.elim)
                            obtain ⟨rfl, h1149, e1149⟩ := q159
                            rw [i1148] at e1149
                            have i1149 := i1148
                            have F1149 := kx_Fr.tr F1148 e1149
                            obtain ⟨⟨f1149_sbn, ⟨f1149_pn, ⟨f1149_xa, f1149_xl, f1149_xr⟩, ⟨f1149_sblln, f1149_sblll, ⟨f1149_sbln, f1149_sbllr, -⟩⟩⟩, f1149_sbr⟩, fK1149⟩ := (tt_H_p Bx (.branch sbn (.branch pn (.branch xa xl xr) (.branch sblln sblll (.branch sbln sbllr tt_n))) sbr)).mp h1149.2.1
                            refine ri_aload_n C dJ19_fixAfterDeletion_162 rfl ?_
                            refine ri_callS C km_J19_rightOf q1122 dJ19_fixAfterDeletion_163 (mt_J19_rightOfR htr (y := (some sbln)) f1149_sblln) rfl rfl ⟨⟨(Nat.le_of_ble_eq_true rfl), (Nat.le_of_ble_eq_true rfl)⟩, (Nat.le_of_ble_eq_true rfl), (Nat.le_of_ble_eq_true rfl), (Nat.le_of_ble_eq_true rfl)⟩ (fun v163 z163 q163 => ?_) (fun _ _ _ h => h.elim)
                            obtain ⟨rfl, rfl⟩ := q163
                            refine ri_iconst C dJ19_fixAfterDeletion_166 kc_i1 ?_
                            refine ri_callS C km_J19_setColor q1128 dJ19_fixAfterDeletion_167 (mt_J19_setColorT htr h1149 (an := sbln) (by simp [tt_i_p, tt_p, tt_i]) (Or.inr rfl)) rfl rfl ⟨⟨(Nat.le_of_ble_eq_true rfl), (Nat.le_of_ble_eq_true rfl)⟩, (Nat.le_of_ble_eq_true rfl), (Nat.le_of_ble_eq_true rfl), (Nat.le_of_ble_eq_true rfl)⟩ (fun v167 z167 q167 => ?_) (fun _ _ _ h => h.elim)
                            obtain ⟨rfl, h1150, e1150⟩ := q167
                            rw [i1149] at e1150
                            have i1150 := i1149
                            have F1150 := kx_Fr.tr F1149 e1150
                            obtain ⟨⟨f1150_sbn, ⟨f1150_pn, ⟨f1150_xa, f1150_xl, f1150_xr⟩, ⟨f1150_sblln, f1150_sblll, ⟨f1150_sbln, f1150_sbllr, -⟩⟩⟩, f1150_sbr⟩, fK1150⟩ := (tt_H_p Bx (.branch sbn (.branch pn (.branch xa xl xr) (.branch sblln sblll (.branch sbln sbllr tt_n))) sbr)).mp h1150.2.1
                            refine ri_aload_n C dJ19_fixAfterDeletion_170 rfl ?_
                            refine ri_aload_n C dJ19_fixAfterDeletion_171 rfl ?_
                            refine ri_callS C km_J19_parentOf q1116 dJ19_fixAfterDeletion_172 (mt_J19_parentOfR htr (y := (some pn)) f1150_xa) rfl rfl ⟨⟨(Nat.le_of_ble_eq_true rfl), (Nat.le_of_ble_eq_true rfl)⟩, (Nat.le_of_ble_eq_true rfl), (Nat.le_of_ble_eq_true rfl), (Nat.le_of_ble_eq_true rfl)⟩ (fun v172 z172 q172 => ?_) (fun _ _ _ h => h.elim)
                            obtain ⟨rfl, rfl⟩ := q172
                            refine ri_callV C km_J19_rotateLeft q1131 qs9 dJ19_fixAfterDeletion_175 (mt_J19_rotateLeft htr (Bx := ((true, sbn, sbr) :: Bx)) (pn := pn) (rn := sblln) (ta := (.branch xa xl xr)) (tb := sblll) (td := (.branch sbln sbllr tt_n)) h1150) rfl rfl (kx_rcN C h1150.1 rfl) ⟨⟨(Nat.le_of_ble_eq_true rfl), (Nat.le_of_ble_eq_true rfl)⟩, (Nat.le_of_ble_eq_true rfl), (Nat.le_of_ble_eq_true rfl), (Nat.le_of_ble_eq_true rfl)⟩ (fun v175 z175 q175 => ?_) (fun _ _ _ h => h.elim)
                            obtain ⟨rfl, H1151, e1151⟩ := q175
                            have h1151 : tm_H z175 ct mp (tt_p Bx (.branch sbn (.branch sblln (.branch pn (.branch xa xl xr) sblll) (.branch sbln sbllr tt_n)) sbr)) K V (tm_c (tm_c (tm_c (tm_c (tm_c (tm_c (tm_c D1 sbn (nI 1)) pn (nI 0)) sblln (nI 1)) sbln (nI 0)) sblln ((tm_c (tm_c (tm_c (tm_c D1 sbn (nI 1)) pn (nI 0)) sblln (nI 1)) sbln (nI 0)) pn)) pn (nI 1)) sbln (nI 1)) vals sz md := H1151
                            have e1151 : kx_Fr (tm_T ct (tt_i (tt_p Bx (.branch sbn (.branch pn (.branch xa xl xr) (.branch sblln sblll (.branch sbln sbllr tt_n))) sbr)))) z172 z175 := e1151
                            rw [i1150] at e1151
                            have i1151 : tt_i (tt_p Bx (.branch sbn (.branch sblln (.branch pn (.branch xa xl xr) sblll) (.branch sbln sbllr tt_n)) sbr)) = L0 := (by rw [← i1150]; simp [tt_i_p, tt_p, tt_i])
                            have F1151 := kx_Fr.tr F1150 e1151
                            obtain ⟨⟨f1151_sbn, ⟨f1151_sblln, ⟨f1151_pn, ⟨f1151_xa, f1151_xl, f1151_xr⟩, f1151_sblll⟩, ⟨f1151_sbln, f1151_sbllr, -⟩⟩, f1151_sbr⟩, fK1151⟩ := (tt_H_p Bx (.branch sbn (.branch sblln (.branch pn (.branch xa xl xr) sblll) (.branch sbln sbllr tt_n)) sbr)).mp h1151.2.1
                            refine ri_aload_n C dJ19_fixAfterDeletion_178 rfl ?_
                            refine ri_getf C dJ19_fixAfterDeletion_179 fr_q577_18 h1151.1 (by rfl) ?_
                            refine ri_astore_nQ (x := (tt_r (tt_p Bx (.branch sbn (.branch sblln (.branch pn (.branch xa xl xr) sblll) (.branch sbln sbllr tt_n)) sbr)))) C dJ19_fixAfterDeletion_182 rfl (by decide) ?_
                            refine ri_goto C 0 dJ19_fixAfterDeletion_183 rfl ?_
                            obtain ⟨rn9, rl9, rr9, hr9⟩ : ∃ rn rl rr, (tt_p Bx (.branch sbn (.branch sblln (.branch pn (.branch xa xl xr) sblll) (.branch sbln sbllr tt_n)) sbr)) = .branch rn rl rr := tt_rt Bx
                            have hh9 : tm_H z175 ct mp (tt_p [] (.branch rn9 rl9 rr9)) K V (tm_c (tm_c (tm_c (tm_c (tm_c (tm_c (tm_c D1 sbn (nI 1)) pn (nI 0)) sblln (nI 1)) sbln (nI 0)) sblln ((tm_c (tm_c (tm_c (tm_c D1 sbn (nI 1)) pn (nI 0)) sblln (nI 1)) sbln (nI 0)) pn)) pn (nI 1)) sbln (nI 1)) vals sz md := (by show tm_H _ _ _ (.branch rn9 rl9 rr9) _ _ _ _ _ _; rw [← hr9]; exact h1151)
                            have ii9 : tt_i (tt_p [] (.branch rn9 rl9 rr9)) = L0 := (by show tt_i (.branch rn9 rl9 rr9) = L0; rw [← hr9]; exact i1151)
                            rw [hr9]
                            refine ri_lv2 (ih (i + 1) [] rn9 rl9 rr9 _ _ (by omega) (by omega) ⟨hh9, ⟨A ++ ((true, pn, sblll) :: (true, sblln, (.branch sbln sbllr tt_n)) :: (true, sbn, sbr) :: Bx), by rw [tt_p_a, ← hA, ← hr9] <;> rfl⟩, ii9, F1151, ?_⟩) ⟨rfl, rfl, trivial⟩
                            first
                              | exact Or.inl (by simp only [List.length_cons, List.length_nil] at hln ⊢; omega)
                              | exact Or.inr ⟨by simp only [List.length_cons, List.length_nil] at hln; omega, Or.inr rfl⟩
                              | exact Or.inr ⟨by simp only [List.length_cons, List.length_nil] at hln; omega, Or.inl (by simp [tm_c])⟩
                        · have h1152 : tm_H z107 ct mp (tt_p Bx (.branch sbn (.branch pn (.branch xa xl xr) (.branch sbln (.branch sblln sblll sbllr) (.branch sblrn sblrl sblrr))) sbr)) K V (tm_c (tm_c D1 sbn (nI 1)) pn (nI 0)) vals sz md := h1143
                          have i1152 : tt_i (tt_p Bx (.branch sbn (.branch pn (.branch xa xl xr) (.branch sbln (.branch sblln sblll sbllr) (.branch sblrn sblrl sblrr))) sbr)) = L0 := i1143
                          have F1152 := F1143
                          have nd1152 := h1152.2.2.1
                          obtain ⟨⟨f1152_sbn, ⟨f1152_pn, ⟨f1152_xa, f1152_xl, f1152_xr⟩, ⟨f1152_sbln, ⟨f1152_sblln, f1152_sblll, f1152_sbllr⟩, ⟨f1152_sblrn, f1152_sblrl, f1152_sblrr⟩⟩⟩, f1152_sbr⟩, fK1152⟩ := (tt_H_p Bx (.branch sbn (.branch pn (.branch xa xl xr) (.branch sbln (.branch sblln sblll sbllr) (.branch sblrn sblrl sblrr))) sbr)).mp h1152.2.1
                          refine ri_callS C km_J19_colorOf q1125 dJ19_fixAfterDeletion_110 (mt_J19_colorOfR htr f1152_sblrn (h1152.2.2.2 sblrn)) rfl rfl ⟨⟨(Nat.le_of_ble_eq_true rfl), (Nat.le_of_ble_eq_true rfl)⟩, (Nat.le_of_ble_eq_true rfl), (Nat.le_of_ble_eq_true rfl), (Nat.le_of_ble_eq_true rfl)⟩ (fun v110 z110 q110 => ?_) (fun _ _ _ h => h.elim)
                          obtain ⟨rfl, rfl⟩ := q110
                          refine ri_iconst C dJ19_fixAfterDeletion_113 kc_i1 ?_
                          refine ri_icmp_ne C 143 dJ19_fixAfterDeletion_114 rfl (fun h114 => ?_) (fun h114 => ?_)
                          · refine ri_aload_n C dJ19_fixAfterDeletion_143 rfl ?_
                            refine ri_aload_n C dJ19_fixAfterDeletion_144 rfl ?_
                            refine ri_callS C km_J19_parentOf q1116 dJ19_fixAfterDeletion_145 (mt_J19_parentOfR htr (y := (some pn)) f1152_xa) rfl rfl ⟨⟨(Nat.le_of_ble_eq_true rfl), (Nat.le_of_ble_eq_true rfl)⟩, (Nat.le_of_ble_eq_true rfl), (Nat.le_of_ble_eq_true rfl), (Nat.le_of_ble_eq_true rfl)⟩ (fun v145 z145 q145 => ?_) (fun _ _ _ h => h.elim)
                            obtain ⟨rfl, rfl⟩ := q145
                            refine ri_callS C km_J19_colorOf q1125 dJ19_fixAfterDeletion_148 (mt_J19_colorOfR htr f1152_pn (h1152.2.2.2 pn)) rfl rfl ⟨⟨(Nat.le_of_ble_eq_true rfl), (Nat.le_of_ble_eq_true rfl)⟩, (Nat.le_of_ble_eq_true rfl), (Nat.le_of_ble_eq_true rfl), (Nat.le_of_ble_eq_true rfl)⟩ (fun v148 z148 q148 => ?_) (fun _ _ _ h => h.elim)
                            obtain ⟨rfl, rfl⟩ := q148
                            refine ri_callS C km_J19_setColor q1128 dJ19_fixAfterDeletion_151 (mt_J19_setColorT htr h1152 (an := sbln) (by simp [tt_i_p, tt_p, tt_i]) (h1152.2.2.2 _)) rfl rfl ⟨⟨(Nat.le_of_ble_eq_true rfl), (Nat.le_of_ble_eq_true rfl)⟩, (Nat.le_of_ble_eq_true rfl), (Nat.le_of_ble_eq_true rfl), (Nat.le_of_ble_eq_true rfl)⟩ (fun v151 z151 q151 => ?_) (fun _ _ _ h => h.elim)
                            obtain ⟨rfl, h1153, e1153⟩ := q151
                            rw [i1152] at e1153
                            have i1153 := i1152
                            have F1153 := kx_Fr.tr F1152 e1153
                            obtain ⟨⟨f1153_sbn, ⟨f1153_pn, ⟨f1153_xa, f1153_xl, f1153_xr⟩, ⟨f1153_sbln, ⟨f1153_sblln, f1153_sblll, f1153_sbllr⟩, ⟨f1153_sblrn, f1153_sblrl, f1153_sblrr⟩⟩⟩, f1153_sbr⟩, fK1153⟩ := (tt_H_p Bx (.branch sbn (.branch pn (.branch xa xl xr) (.branch sbln (.branch sblln sblll sbllr) (.branch sblrn sblrl sblrr))) sbr)).mp h1153.2.1
                            refine ri_aload_n C dJ19_fixAfterDeletion_154 rfl ?_
                            refine ri_callS C km_J19_parentOf q1116 dJ19_fixAfterDeletion_155 (mt_J19_parentOfR htr (y := (some pn)) f1153_xa) rfl rfl ⟨⟨(Nat.le_of_ble_eq_true rfl), (Nat.le_of_ble_eq_true rfl)⟩, (Nat.le_of_ble_eq_true rfl), (Nat.le_of_ble_eq_true rfl), (Nat.le_of_ble_eq_true rfl)⟩ (fun v155 z155 q155 => ?_) (fun _ _ _ h => h.elim)
                            obtain ⟨rfl, rfl⟩ := q155
                            refine ri_iconst C dJ19_fixAfterDeletion_158 kc_i1 ?_
                            refine ri_callS C km_J19_setColor q1128 dJ19_fixAfterDeletion_159 (mt_J19_setColorT htr h1153 (an := pn) (by simp [tt_i_p, tt_p, tt_i]) (Or.inr rfl)) rfl rfl ⟨⟨(Nat.le_of_ble_eq_true rfl), (Nat.le_of_ble_eq_true rfl)⟩, (Nat.le_of_ble_eq_true rfl), (Nat.le_of_ble_eq_true rfl), (Nat.le_of_ble_eq_true rfl)⟩ (fun v159 z159 q159 => ?_) (fun _ _ _ h => h.elim)
                            obtain ⟨rfl, h1154, e1154⟩ := q159
                            rw [i1153] at e1154
                            have i1154 := i1153
                            have F1154 := kx_Fr.tr F1153 e1154
                            obtain ⟨⟨f1154_sbn, ⟨f1154_pn, ⟨f1154_xa, f1154_xl, f1154_xr⟩, ⟨f1154_sbln, ⟨f1154_sblln, f1154_sblll, f1154_sbllr⟩, ⟨f1154_sblrn, f1154_sblrl, f1154_sblrr⟩⟩⟩, f1154_sbr⟩, fK1154⟩ := (tt_H_p Bx (.branch sbn (.branch pn (.branch xa xl xr) (.branch sbln (.branch sblln sblll sbllr) (.branch sblrn sblrl sblrr))) sbr)).mp h1154.2.1
                            refine ri_aload_n C dJ19_fixAfterDeletion_162 rfl ?_
                            refine ri_callS C km_J19_rightOf q1122 dJ19_fixAfterDeletion_163 (mt_J19_rightOfR htr (y := (some sblrn)) f1154_sbln) rfl rfl ⟨⟨(Nat.le_of_ble_eq_true rfl), (Nat.le_of_ble_eq_true rfl)⟩, (Nat.le_of_ble_eq_true rfl), (Nat.le_of_ble_eq_true rfl), (Nat.le_of_ble_eq_true rfl)⟩ (fun v163 z163 q163 => ?_) (fun _ _ _ h => h.elim)
                            obtain ⟨rfl, rfl⟩ := q163
                            refine ri_iconst C dJ19_fixAfterDeletion_166 kc_i1 ?_
                            refine ri_callS C km_J19_setColor q1128 dJ19_fixAfterDeletion_167 (mt_J19_setColorT htr h1154 (an := sblrn) (by simp [tt_i_p, tt_p, tt_i]) (Or.inr rfl)) rfl rfl ⟨⟨(Nat.le_of_ble_eq_true rfl), (Nat.le_of_ble_eq_true rfl)⟩, (Nat.le_of_ble_eq_true rfl), (Nat.le_of_ble_eq_true rfl), (Nat.le_of_ble_eq_true rfl)⟩ (fun v167 z167 q167 => ?_) (fun _ _ _ h => h.elim)
                            obtain ⟨rfl, h1155, e1155⟩ := q167
                            rw [i1154] at e1155
                            have i1155 := i1154
                            have F1155 := kx_Fr.tr F1154 e1155
                            obtain ⟨⟨f1155_sbn, ⟨f1155_pn, ⟨f1155_xa, f1155_xl, f1155_xr⟩, ⟨f1155_sbln, ⟨f1155_sblln, f1155_sblll, f1155_sbllr⟩, ⟨f1155_sblrn, f1155_sblrl, f1155_sblrr⟩⟩⟩, f1155_sbr⟩, fK1155⟩ := (tt_H_p Bx (.branch sbn (.branch pn (.branch xa xl xr) (.branch sbln (.branch sblln sblll sbllr) (.branch sblrn sblrl sblrr))) sbr)).mp h1155.2.1
                            refine ri_aload_n C dJ19_fixAfterDeletion_170 rfl ?_
                            refine ri_aload_n C dJ19_fixAfterDeletion_171 rfl ?_
                            refine ri_callS C km_J19_parentOf q1116 dJ19_fixAfterDeletion_172 (mt_J19_parentOfR htr (y := (some pn)) f1155_xa) rfl rfl ⟨⟨(Nat.le_of_ble_eq_true rfl), (Nat.le_of_ble_eq_true rfl)⟩, (Nat.le_of_ble_eq_true rfl), (Nat.le_of_ble_eq_true rfl), (Nat.le_of_ble_eq_true rfl)⟩ (fun v172 z172 q172 => ?_) (fun _ _ _ h => h.elim)
                            obtain ⟨rfl, rfl⟩ := q172
                            refine ri_callV C km_J19_rotateLeft q1131 qs9 dJ19_fixAfterDeletion_175 (mt_J19_rotateLeft htr (Bx := ((true, sbn, sbr) :: Bx)) (pn := pn) (rn := sbln) (ta := (.branch xa xl xr)) (tb := (.branch sblln sblll sbllr)) (td := (.branch sblrn sblrl sblrr)) h1155) rfl rfl (kx_rcN C h1155.1 rfl) ⟨⟨(Nat.le_of_ble_eq_true rfl), (Nat.le_of_ble_eq_true rfl)⟩, (Nat.le_of_ble_eq_true rfl), (Nat.le_of_ble_eq_true rfl), (Nat.le_of_ble_eq_true rfl)⟩ (fun v175 z175 q175 => ?_) (fun _ _ _ h => h.elim)
                            obtain ⟨rfl, H1156, e1156⟩ := q175
                            have h1156 : tm_H z175 ct mp (tt_p Bx (.branch sbn (.branch sbln (.branch pn (.branch xa xl xr) (.branch sblln sblll sbllr)) (.branch sblrn sblrl sblrr)) sbr)) K V (tm_c (tm_c (tm_c (tm_c (tm_c D1 sbn (nI 1)) pn (nI 0)) sbln ((tm_c (tm_c D1 sbn (nI 1)) pn (nI 0)) pn)) pn (nI 1)) sblrn (nI 1)) vals sz md := H1156
                            have e1156 : kx_Fr (tm_T ct (tt_i (tt_p Bx (.branch sbn (.branch pn (.branch xa xl xr) (.branch sbln (.branch sblln sblll sbllr) (.branch sblrn sblrl sblrr))) sbr)))) z172 z175 := e1156
                            rw [i1155] at e1156
                            have i1156 : tt_i (tt_p Bx (.branch sbn (.branch sbln (.branch pn (.branch xa xl xr) (.branch sblln sblll sbllr)) (.branch sblrn sblrl sblrr)) sbr)) = L0 := (by rw [← i1155]; simp [tt_i_p, tt_p, tt_i])
                            have F1156 := kx_Fr.tr F1155 e1156
                            obtain ⟨⟨f1156_sbn, ⟨f1156_sbln, ⟨f1156_pn, ⟨f1156_xa, f1156_xl, f1156_xr⟩, ⟨f1156_sblln, f1156_sblll, f1156_sbllr⟩⟩, ⟨f1156_sblrn, f1156_sblrl, f1156_sblrr⟩⟩, f1156_sbr⟩, fK1156⟩ := (tt_H_p Bx (.branch sbn (.branch sbln (.branch pn (.branch xa xl xr) (.branch sblln sblll sbllr)) (.branch sblrn sblrl sblrr)) sbr)).mp h1156.2.1
                            refine ri_aload_n C dJ19_fixAfterDeletion_178 rfl ?_
                            refine ri_getf C dJ19_fixAfterDeletion_179 fr_q577_18 h1156.1 (by rfl) ?_
                            refine ri_astore_nQ (x := (tt_r (tt_p Bx (.branch sbn (.branch sbln (.branch pn (.branch xa xl xr) (.branch sblln sblll sbllr)) (.branch sblrn sblrl sblrr)) sbr)))) C dJ19_fixAfterDeletion_182 rfl (by decide) ?_
                            refine ri_goto C 0 dJ19_fixAfterDeletion_183 rfl ?_
                            obtain ⟨rn9, rl9, rr9, hr9⟩ : ∃ rn rl rr, (tt_p Bx (.branch sbn (.branch sbln (.branch pn (.branch xa xl xr) (.branch sblln sblll sbllr)) (.branch sblrn sblrl sblrr)) sbr)) = .branch rn rl rr := tt_rt Bx
                            have hh9 : tm_H z175 ct mp (tt_p [] (.branch rn9 rl9 rr9)) K V (tm_c (tm_c (tm_c (tm_c (tm_c D1 sbn (nI 1)) pn (nI 0)) sbln ((tm_c (tm_c D1 sbn (nI 1)) pn (nI 0)) pn)) pn (nI 1)) sblrn (nI 1)) vals sz md := (by show tm_H _ _ _ (.branch rn9 rl9 rr9) _ _ _ _ _ _; rw [← hr9]; exact h1156)
                            have ii9 : tt_i (tt_p [] (.branch rn9 rl9 rr9)) = L0 := (by show tt_i (.branch rn9 rl9 rr9) = L0; rw [← hr9]; exact i1156)
                            rw [hr9]
                            refine ri_lv2 (ih (i + 1) [] rn9 rl9 rr9 _ _ (by omega) (by omega) ⟨hh9, ⟨A ++ ((true, pn, (.branch sblln sblll sbllr)) :: (true, sbln, (.branch sblrn sblrl sblrr)) :: (true, sbn, sbr) :: Bx), by rw [tt_p_a, ← hA, ← hr9] <;> rfl⟩, ii9, F1156, ?_⟩) ⟨rfl, rfl, trivial⟩
                            first
                              | exact Or.inl (by simp only [List.length_cons, List.length_nil] at hln ⊢; omega)
                              | exact Or.inr ⟨by simp only [List.length_cons, List.length_nil] at hln; omega, Or.inr rfl⟩
                              | exact Or.inr ⟨by simp only [List.length_cons, List.length_nil] at hln; omega, Or.inl (by simp [tm_c])⟩
                          · refine ri_aload_n C dJ19_fixAfterDeletion_117 rfl ?_
                            refine ri_callS C km_J19_leftOf q1119 dJ19_fixAfterDeletion_118 (mt_J19_leftOfR htr (y := (some sblln)) f1152_sbln) rfl rfl ⟨⟨(Nat.le_of_ble_eq_true rfl), (Nat.le_of_ble_eq_true rfl)⟩, (Nat.le_of_ble_eq_true rfl), (Nat.le_of_ble_eq_true rfl), (Nat.le_of_ble_eq_true rfl)⟩ (fun v118 z118 q118 => ?_) (fun _ _ _ h => h.elim)
                            obtain ⟨rfl, rfl⟩ := q118
                            refine ri_iconst C dJ19_fixAfterDeletion_121 kc_i1 ?_
                            refine ri_callS C km_J19_setColor q1128 dJ19_fixAfterDeletion_122 (mt_J19_setColorT htr h1152 (an := sblln) (by simp [tt_i_p, tt_p, tt_i]) (Or.inr rfl)) rfl rfl ⟨⟨(Nat.le_of_ble_eq_true rfl), (Nat.le_of_ble_eq_true rfl)⟩, (Nat.le_of_ble_eq_true rfl), (Nat.le_of_ble_eq_true rfl), (Nat.le_of_ble_eq_true rfl)⟩ (fun v122 z122 q122 => ?_) (fun _ _ _ h => h.elim)
                            obtain ⟨rfl, h1157, e1157⟩ := q122
                            rw [i1152] at e1157
                            have i1157 := i1152
                            have F1157 := kx_Fr.tr F1152 e1157
                            obtain ⟨⟨f1157_sbn, ⟨f1157_pn, ⟨f1157_xa, f1157_xl, f1157_xr⟩, ⟨f1157_sbln, ⟨f1157_sblln, f1157_sblll, f1157_sbllr⟩, ⟨f1157_sblrn, f1157_sblrl, f1157_sblrr⟩⟩⟩, f1157_sbr⟩, fK1157⟩ := (tt_H_p Bx (.branch sbn (.branch pn (.branch xa xl xr) (.branch sbln (.branch sblln sblll sbllr) (.branch sblrn sblrl sblrr))) sbr)).mp h1157.2.1
                            refine ri_aload_n C dJ19_fixAfterDeletion_125 rfl ?_
                            refine ri_iconst C dJ19_fixAfterDeletion_126 kc_i0 ?_
                            refine ri_callS C km_J19_setColor q1128 dJ19_fixAfterDeletion_127 (mt_J19_setColorT htr h1157 (an := sbln) (by simp [tt_i_p, tt_p, tt_i]) (Or.inl rfl)) rfl rfl ⟨⟨(Nat.le_of_ble_eq_true rfl), (Nat.le_of_ble_eq_true rfl)⟩, (Nat.le_of_ble_eq_true rfl), (Nat.le_of_ble_eq_true rfl), (Nat.le_of_ble_eq_true rfl)⟩ (fun v127 z127 q127 => ?_) (fun _ _ _ h => h.elim)
                            obtain ⟨rfl, h1158, e1158⟩ := q127
                            rw [i1157] at e1158
                            have i1158 := i1157
                            have F1158 := kx_Fr.tr F1157 e1158
                            obtain ⟨⟨f1158_sbn, ⟨f1158_pn, ⟨f1158_xa, f1158_xl, f1158_xr⟩, ⟨f1158_sbln, ⟨f1158_sblln, f1158_sblll, f1158_sbllr⟩, ⟨f1158_sblrn, f1158_sblrl, f1158_sblrr⟩⟩⟩, f1158_sbr⟩, fK1158⟩ := (tt_H_p Bx (.branch sbn (.branch pn (.branch xa xl xr) (.branch sbln (.branch sblln sblll sbllr) (.branch sblrn sblrl sblrr))) sbr)).mp h1158.2.1
                            refine ri_aload_n C dJ19_fixAfterDeletion_130 rfl ?_
                            refine ri_aload_n C dJ19_fixAfterDeletion_131 rfl ?_
                            refine ri_callV C km_J19_rotateRight q1135 qs10 dJ19_fixAfterDeletion_132 (mt_J19_rotateRight htr (Bx := ((false, pn, (.branch xa xl xr)) :: (true, sbn, sbr) :: Bx)) (pn := sbln) (rn := sblln) (ta := (.branch sblrn sblrl sblrr)) (tb := sbllr) (td := sblll) h1158) rfl rfl (kx_rcN C h1158.1 rfl) ⟨⟨(Nat.le_of_ble_eq_true rfl), (Nat.le_of_ble_eq_true rfl)⟩, (Nat.le_of_ble_eq_true rfl), (Nat.le_of_ble_eq_true rfl), (Nat.le_of_ble_eq_true rfl)⟩ (fun v132 z132 q132 => ?_) (fun _ _ _ h => h.elim)
                            obtain ⟨rfl, H1159, e1159⟩ := q132
                            have h1159 : tm_H z132 ct mp (tt_p Bx (.branch sbn (.branch pn (.branch xa xl xr) (.branch sblln sblll (.branch sbln sbllr (.branch sblrn sblrl sblrr)))) sbr)) K V (tm_c (tm_c (tm_c (tm_c D1 sbn (nI 1)) pn (nI 0)) sblln (nI 1)) sbln (nI 0)) vals sz md := H1159
                            have e1159 : kx_Fr (tm_T ct (tt_i (tt_p Bx (.branch sbn (.branch pn (.branch xa xl xr) (.branch sbln (.branch sblln sblll sbllr) (.branch sblrn sblrl sblrr))) sbr)))) z127 z132 := e1159
                            rw [i1158] at e1159
                            have i1159 : tt_i (tt_p Bx (.branch sbn (.branch pn (.branch xa xl xr) (.branch sblln sblll (.branch sbln sbllr (.branch sblrn sblrl sblrr)))) sbr)) = L0 := (by rw [← i1158]; simp [tt_i_p, tt_p, tt_i])
                            have F1159 := kx_Fr.tr F1158 e1159
                            obtain ⟨⟨f1159_sbn, ⟨f1159_pn, ⟨f1159_xa, f1159_xl, f1159_xr⟩, ⟨f1159_sblln, f1159_sblll, ⟨f1159_sbln, f1159_sbllr, ⟨f1159_sblrn, f1159_sblrl, f1159_sblrr⟩⟩⟩⟩, f1159_sbr⟩, fK1159⟩ := (tt_H_p Bx (.branch sbn (.branch pn (.branch xa xl xr) (.branch sblln sblll (.branch sbln sbllr (.branch sblrn sblrl sblrr)))) sbr)).mp h1159.2.1
                            refine ri_aload_n C dJ19_fixAfterDeletion_135 rfl ?_
                            refine ri_callS C km_J19_parentOf q1116 dJ19_fixAfterDeletion_136 (mt_J19_parentOfR htr (y := (some pn)) f1159_xa) rfl rfl ⟨⟨(Nat.le_of_ble_eq_true rfl), (Nat.le_of_ble_eq_true rfl)⟩, (Nat.le_of_ble_eq_true rfl), (Nat.le_of_ble_eq_true rfl), (Nat.le_of_ble_eq_true rfl)⟩ (fun v136 z136 q136 => ?_) (fun _ _ _ h => h.elim)
                            obtain ⟨rfl, rfl⟩ := q136
                            refine ri_callS C km_J19_rightOf q1122 dJ19_fixAfterDeletion_139 (mt_J19_rightOfR htr (y := (some sblln)) f1159_pn) rfl rfl ⟨⟨(Nat.le_of_ble_eq_true rfl), (Nat.le_of_ble_eq_true rfl)⟩, (Nat.le_of_ble_eq_true rfl), (Nat.le_of_ble_eq_true rfl), (Nat.le_of_ble_eq_true rfl)⟩ (fun v139 z139 q139 => ?_) (fun _ _ _ h => h.elim)
                            obtain ⟨rfl, rfl⟩ := q139
                            refine ri_astore_n (x := sblln) C dJ19_fixAfterDeletion_142 rfl (by decide) ?_
                            refine ri_aload_n C dJ19_fixAfterDeletion_143 rfl ?_
                            refine ri_aload_n C dJ19_fixAfterDeletion_144 rfl ?_
                            refine ri_callS C km_J19_parentOf q1116 dJ19_fixAfterDeletion_145 (mt_J19_parentOfR htr (y := (some pn)) f1159_xa) rfl rfl ⟨⟨(Nat.le_of_ble_eq_true rfl), (Nat.le_of_ble_eq_true rfl)⟩, (Nat.le_of_ble_eq_true rfl), (Nat.le_of_ble_eq_true rfl), (Nat.le_of_ble_eq_true rfl)⟩ (fun v145 z145 q145 => ?_) (fun _ _ _ h => h.elim)
                            obtain ⟨rfl, rfl⟩ := q145
                            refine ri_callS C km_J19_colorOf q1125 dJ19_fixAfterDeletion_148 (mt_J19_colorOfR htr f1159_pn (h1159.2.2.2 pn)) rfl rfl ⟨⟨(Nat.le_of_ble_eq_true rfl), (Nat.le_of_ble_eq_true rfl)⟩, (Nat.le_of_ble_eq_true rfl), (Nat.le_of_ble_eq_true rfl), (Nat.le_of_ble_eq_true rfl)⟩ (fun v148 z148 q148 => ?_) (fun _ _ _ h => h.elim)
                            obtain ⟨rfl, rfl⟩ := q148
                            refine ri_callS C km_J19_setColor q1128 dJ19_fixAfterDeletion_151 (mt_J19_setColorT htr h1159 (an := sblln) (by simp [tt_i_p, tt_p, tt_i]) (h1159.2.2.2 _)) rfl rfl ⟨⟨(Nat.le_of_ble_eq_true rfl), (Nat.le_of_ble_eq_true rfl)⟩, (Nat.le_of_ble_eq_true rfl), (Nat.le_of_ble_eq_true rfl), (Nat.le_of_ble_eq_true rfl)⟩ (fun v151 z151 q151 => ?_) (fun _ _ _ h => h.elim)
                            obtain ⟨rfl, h1160, e1160⟩ := q151
                            rw [i1159] at e1160
                            have i1160 := i1159
                            have F1160 := kx_Fr.tr F1159 e1160
                            obtain ⟨⟨f1160_sbn, ⟨f1160_pn, ⟨f1160_xa, f1160_xl, f1160_xr⟩, ⟨f1160_sblln, f1160_sblll, ⟨f1160_sbln, f1160_sbllr, ⟨f1160_sblrn, f1160_sblrl, f1160_sblrr⟩⟩⟩⟩, f1160_sbr⟩, fK1160⟩ := (tt_H_p Bx (.branch sbn (.branch pn (.branch xa xl xr) (.branch sblln sblll (.branch sbln sbllr (.branch sblrn sblrl sblrr)))) sbr)).mp h1160.2.1
                            refine ri_aload_n C dJ19_fixAfterDeletion_154 rfl ?_
                            refine ri_callS C km_J19_parentOf q1116 dJ19_fixAfterDeletion_155 (mt_J19_parentOfR htr (y := (some pn)) f1160_xa) rfl rfl ⟨⟨(Nat.le_of_ble_eq_true rfl), (Nat.le_of_ble_eq_true rfl)⟩, (Nat.le_of_ble_eq_true rfl), (Nat.le_of_ble_eq_true rfl), (Nat.le_of_ble_eq_true rfl)⟩ (fun v155 z155 q155 => ?_) (fun _ _ _ h => h.elim)
                            obtain ⟨rfl, rfl⟩ := q155
                            refine ri_iconst C dJ19_fixAfterDeletion_158 kc_i1 ?_
                            refine ri_callS C km_J19_setColor q1128 dJ19_fixAfterDeletion_159 (mt_J19_setColorT htr h1160 (an := pn) (by simp [tt_i_p, tt_p, tt_i]) (Or.inr rfl)) rfl rfl ⟨⟨(Nat.le_of_ble_eq_true rfl), (Nat.le_of_ble_eq_true rfl)⟩, (Nat.le_of_ble_eq_true rfl), (Nat.le_of_ble_eq_true rfl), (Nat.le_of_ble_eq_true rfl)⟩ (fun v159 z159 q159 => ?_) (fun _ _ _ h => h.elim)
                            obtain ⟨rfl, h1161, e1161⟩ := q159
                            rw [i1160] at e1161
                            have i1161 := i1160
                            have F1161 := kx_Fr.tr F1160 e1161
                            obtain ⟨⟨f1161_sbn, ⟨f1161_pn, ⟨f1161_xa, f1161_xl, f1161_xr⟩, ⟨f1161_sblln, f1161_sblll, ⟨f1161_sbln, f1161_sbllr, ⟨f1161_sblrn, f1161_sblrl, f1161_sblrr⟩⟩⟩⟩, f1161_sbr⟩, fK1161⟩ := (tt_H_p Bx (.branch sbn (.branch pn (.branch xa xl xr) (.branch sblln sblll (.branch sbln sbllr (.branch sblrn sblrl sblrr)))) sbr)).mp h1161.2.1
                            refine ri_aload_n C dJ19_fixAfterDeletion_162 rfl ?_
                            refine ri_callS C km_J19_rightOf q1122 dJ19_fixAfterDeletion_163 (mt_J19_rightOfR htr (y := (some sbln)) f1161_sblln) rfl rfl ⟨⟨(Nat.le_of_ble_eq_true rfl), (Nat.le_of_ble_eq_true rfl)⟩, (Nat.le_of_ble_eq_true rfl), (Nat.le_of_ble_eq_true rfl), (Nat.le_of_ble_eq_true rfl)⟩ (fun v163 z163 q163 => ?_) (fun _ _ _ h => h.elim)
                            obtain ⟨rfl, rfl⟩ := q163
                            refine ri_iconst C dJ19_fixAfterDeletion_166 kc_i1 ?_
                            refine ri_callS C km_J19_setColor q1128 dJ19_fixAfterDeletion_167 (mt_J19_setColorT htr h1161 (an := sbln) (by simp [tt_i_p, tt_p, tt_i]) (Or.inr rfl)) rfl rfl ⟨⟨(Nat.le_of_ble_eq_true rfl), (Nat.le_of_ble_eq_true rfl)⟩, (Nat.le_of_ble_eq_true rfl), (Nat.le_of_ble_eq_true rfl), (Nat.le_of_ble_eq_true rfl)⟩ (fun v167 z167 q167 => ?_) (fun _ _ _ h => h.elim)
                            obtain ⟨rfl, h1162, e1162⟩ := q167
                            rw [i1161] at e1162
                            have i1162 := i1161
                            have F1162 := kx_Fr.tr F1161 e1162
                            obtain ⟨⟨f1162_sbn, ⟨f1162_pn, ⟨f1162_xa, f1162_xl, f1162_xr⟩, ⟨f1162_sblln, f1162_sblll, ⟨f1162_sbln, f1162_sbllr, ⟨f1162_sblrn, f1162_sblrl, f1162_sblrr⟩⟩⟩⟩, f1162_sbr⟩, fK1162⟩ := (tt_H_p Bx (.branch sbn (.branch pn (.branch xa xl xr) (.branch sblln sblll (.branch sbln sbllr (.branch sblrn sblrl sblrr)))) sbr)).mp h1162.2.1
                            refine ri_aload_n C dJ19_fixAfterDeletion_170 rfl ?_
                            refine ri_aload_n C dJ19_fixAfterDeletion_171 rfl ?_
                            refine ri_callS C km_J19_parentOf q1116 dJ19_fixAfterDeletion_172 (mt_J19_parentOfR htr (y := (some pn)) f1162_xa) rfl rfl ⟨⟨(Nat.le_of_ble_eq_true rfl), (Nat.le_of_ble_eq_true rfl)⟩, (Nat.le_of_ble_eq_true rfl), (Nat.le_of_ble_eq_true rfl), (Nat.le_of_ble_eq_true rfl)⟩ (fun v172 z172 q172 => ?_) (fun _ _ _ h => h.elim)
                            obtain ⟨rfl, rfl⟩ := q172
                            refine ri_callV C km_J19_rotateLeft q1131 qs9 dJ19_fixAfterDeletion_175 (mt_J19_rotateLeft htr (Bx := ((true, sbn, sbr) :: Bx)) (pn := pn) (rn := sblln) (ta := (.branch xa xl xr)) (tb := sblll) (td := (.branch sbln sbllr (.branch sblrn sblrl sblrr))) h1162) rfl rfl (kx_rcN C h1162.1 rfl) ⟨⟨(Nat.le_of_ble_eq_true rfl), (Nat.le_of_ble_eq_true rfl)⟩, (Nat.le_of_ble_eq_true rfl), (Nat.le_of_ble_eq_true rfl), (Nat.le_of_ble_eq_true rfl)⟩ (fun v175 z175 q175 => ?_) (fun _ _ _ h => h.elim)
                            obtain ⟨rfl, H1163, e1163⟩ := q175
                            have h1163 : tm_H z175 ct mp (tt_p Bx (.branch sbn (.branch sblln (.branch pn (.branch xa xl xr) sblll) (.branch sbln sbllr (.branch sblrn sblrl sblrr))) sbr)) K V (tm_c (tm_c (tm_c (tm_c (tm_c (tm_c (tm_c D1 sbn (nI 1)) pn (nI 0)) sblln (nI 1)) sbln (nI 0)) sblln ((tm_c (tm_c (tm_c (tm_c D1 sbn (nI 1)) pn (nI 0)) sblln (nI 1)) sbln (nI 0)) pn)) pn (nI 1)) sbln (nI 1)) vals sz md := H1163
                            have e1163 : kx_Fr (tm_T ct (tt_i (tt_p Bx (.branch sbn (.branch pn (.branch xa xl xr) (.branch sblln sblll (.branch sbln sbllr (.branch sblrn sblrl sblrr)))) sbr)))) z172 z175 := e1163
                            rw [i1162] at e1163
                            have i1163 : tt_i (tt_p Bx (.branch sbn (.branch sblln (.branch pn (.branch xa xl xr) sblll) (.branch sbln sbllr (.branch sblrn sblrl sblrr))) sbr)) = L0 := (by rw [← i1162]; simp [tt_i_p, tt_p, tt_i])
                            have F1163 := kx_Fr.tr F1162 e1163
                            obtain ⟨⟨f1163_sbn, ⟨f1163_sblln, ⟨f1163_pn, ⟨f1163_xa, f1163_xl, f1163_xr⟩, f1163_sblll⟩, ⟨f1163_sbln, f1163_sbllr, ⟨f1163_sblrn, f1163_sblrl, f1163_sblrr⟩⟩⟩, f1163_sbr⟩, fK1163⟩ := (tt_H_p Bx (.branch sbn (.branch sblln (.branch pn (.branch xa xl xr) sblll) (.branch sbln sbllr (.branch sblrn sblrl sblrr))) sbr)).mp h1163.2.1
                            refine ri_aload_n C dJ19_fixAfterDeletion_178 rfl ?_
                            refine ri_getf C dJ19_fixAfterDeletion_179 fr_q577_18 h1163.1 (by rfl) ?_
                            refine ri_astore_nQ (x := (tt_r (tt_p Bx (.branch sbn (.branch sblln (.branch pn (.branch xa xl xr) sblll) (.branch sbln sbllr (.branch sblrn sblrl sblrr))) sbr)))) C dJ19_fixAfterDeletion_182 rfl (by decide) ?_
                            refine ri_goto C 0 dJ19_fixAfterDeletion_183 rfl ?_
                            obtain ⟨rn9, rl9, rr9, hr9⟩ : ∃ rn rl rr, (tt_p Bx (.branch sbn (.branch sblln (.branch pn (.branch xa xl xr) sblll) (.branch sbln sbllr (.branch sblrn sblrl sblrr))) sbr)) = .branch rn rl rr := tt_rt Bx
                            have hh9 : tm_H z175 ct mp (tt_p [] (.branch rn9 rl9 rr9)) K V (tm_c (tm_c (tm_c (tm_c (tm_c (tm_c (tm_c D1 sbn (nI 1)) pn (nI 0)) sblln (nI 1)) sbln (nI 0)) sblln ((tm_c (tm_c (tm_c (tm_c D1 sbn (nI 1)) pn (nI 0)) sblln (nI 1)) sbln (nI 0)) pn)) pn (nI 1)) sbln (nI 1)) vals sz md := (by show tm_H _ _ _ (.branch rn9 rl9 rr9) _ _ _ _ _ _; rw [← hr9]; exact h1163)
                            have ii9 : tt_i (tt_p [] (.branch rn9 rl9 rr9)) = L0 := (by show tt_i (.branch rn9 rl9 rr9) = L0; rw [← hr9]; exact i1163)
                            rw [hr9]
                            refine ri_lv2 (ih (i + 1) [] rn9 rl9 rr9 _ _ (by omega) (by omega) ⟨hh9, ⟨A ++ ((true, pn, sblll) :: (true, sblln, (.branch sbln sbllr (.branch sblrn sblrl sblrr))) :: (true, sbn, sbr) :: Bx), by rw [tt_p_a, ← hA, ← hr9] <;> rfl⟩, ii9, F1163, ?_⟩) ⟨rfl, rfl, trivial⟩
                            first
                              | exact Or.inl (by simp only [List.length_cons, List.length_nil] at hln ⊢; omega)
                              | exact Or.inr ⟨by simp only [List.length_cons, List.length_nil] at hln; omega, Or.inr rfl⟩
                              | exact Or.inr ⟨by simp only [List.length_cons, List.length_nil] at hln; omega, Or.inl (by simp [tm_c])⟩
                      · refine ri_aload_n C dJ19_fixAfterDeletion_82 rfl ?_
                        refine ri_callS C km_J19_rightOf q1122 dJ19_fixAfterDeletion_83 (mt_J19_rightOfR htr (y := (tt_r sblr)) f1143_sbln) rfl rfl ⟨⟨(Nat.le_of_ble_eq_true rfl), (Nat.le_of_ble_eq_true rfl)⟩, (Nat.le_of_ble_eq_true rfl), (Nat.le_of_ble_eq_true rfl), (Nat.le_of_ble_eq_true rfl)⟩ (fun v83 z83 q83 => ?_) (fun _ _ _ h => h.elim)
                        obtain ⟨rfl, rfl⟩ := q83
                        rcases sblr with ⟨_⟩ | ⟨sblrn, sblrl, sblrr⟩
                        · have h1164 : tm_H z83 ct mp (tt_p Bx (.branch sbn (.branch pn (.branch xa xl xr) (.branch sbln (.branch sblln sblll sbllr) tt_n)) sbr)) K V (tm_c (tm_c D1 sbn (nI 1)) pn (nI 0)) vals sz md := h1143
                          have i1164 : tt_i (tt_p Bx (.branch sbn (.branch pn (.branch xa xl xr) (.branch sbln (.branch sblln sblll sbllr) tt_n)) sbr)) = L0 := i1143
                          have F1164 := F1143
                          obtain ⟨⟨f1164_sbn, ⟨f1164_pn, ⟨f1164_xa, f1164_xl, f1164_xr⟩, ⟨f1164_sbln, ⟨f1164_sblln, f1164_sblll, f1164_sbllr⟩, -⟩⟩, f1164_sbr⟩, fK1164⟩ := (tt_H_p Bx (.branch sbn (.branch pn (.branch xa xl xr) (.branch sbln (.branch sblln sblll sbllr) tt_n)) sbr)).mp h1164.2.1
                          refine ri_callS C km_J19_colorOf q1125 dJ19_fixAfterDeletion_86 (mt_J19_colorOfN htr) rfl rfl ⟨⟨(Nat.le_of_ble_eq_true rfl), (Nat.le_of_ble_eq_true rfl)⟩, (Nat.le_of_ble_eq_true rfl), (Nat.le_of_ble_eq_true rfl), (Nat.le_of_ble_eq_true rfl)⟩ (fun v86 z86 q86 => ?_) (fun _ _ _ h => h.elim)
                          obtain ⟨rfl, rfl⟩ := q86
                          refine ri_iconst C dJ19_fixAfterDeletion_89 kc_i1 ?_
                          refine ri_icmp_ne C 106 dJ19_fixAfterDeletion_90 rfl (fun h90 => ?_) (fun h90 => ?_)
                          · exact absurd rfl h90
                          · refine ri_aload_n C dJ19_fixAfterDeletion_93 rfl ?_
                            refine ri_iconst C dJ19_fixAfterDeletion_94 kc_i0 ?_
                            refine ri_callS C km_J19_setColor q1128 dJ19_fixAfterDeletion_95 (mt_J19_setColorT htr h1164 (an := sbln) (by simp [tt_i_p, tt_p, tt_i]) (Or.inl rfl)) rfl rfl ⟨⟨(Nat.le_of_ble_eq_true rfl), (Nat.le_of_ble_eq_true rfl)⟩, (Nat.le_of_ble_eq_true rfl), (Nat.le_of_ble_eq_true rfl), (Nat.le_of_ble_eq_true rfl)⟩ (fun v95 z95 q95 => ?_) (fun _ _ _ h => h.elim)
                            obtain ⟨rfl, h1165, e1165⟩ := q95
                            rw [i1164] at e1165
                            have i1165 := i1164
                            have F1165 := kx_Fr.tr F1164 e1165
                            obtain ⟨⟨f1165_sbn, ⟨f1165_pn, ⟨f1165_xa, f1165_xl, f1165_xr⟩, ⟨f1165_sbln, ⟨f1165_sblln, f1165_sblll, f1165_sbllr⟩, -⟩⟩, f1165_sbr⟩, fK1165⟩ := (tt_H_p Bx (.branch sbn (.branch pn (.branch xa xl xr) (.branch sbln (.branch sblln sblll sbllr) tt_n)) sbr)).mp h1165.2.1
                            refine ri_aload_n C dJ19_fixAfterDeletion_98 rfl ?_
                            refine ri_callS C km_J19_parentOf q1116 dJ19_fixAfterDeletion_99 (mt_J19_parentOfR htr (y := (some pn)) f1165_xa) rfl rfl ⟨⟨(Nat.le_of_ble_eq_true rfl), (Nat.le_of_ble_eq_true rfl)⟩, (Nat.le_of_ble_eq_true rfl), (Nat.le_of_ble_eq_true rfl), (Nat.le_of_ble_eq_true rfl)⟩ (fun v99 z99 q99 => ?_) (fun _ _ _ h => h.elim)
                            obtain ⟨rfl, rfl⟩ := q99
                            refine ri_astore_n (x := pn) C dJ19_fixAfterDeletion_102 rfl (by decide) ?_
                            refine ri_goto C 183 dJ19_fixAfterDeletion_103 rfl ?_
                            refine ri_goto C 0 dJ19_fixAfterDeletion_183 rfl ?_
                            refine ri_lv2 (ih (i + 1) ((true, sbn, sbr) :: Bx) pn (.branch xa xl xr) (.branch sbln (.branch sblln sblll sbllr) tt_n) _ _ (by omega) (by omega) ⟨h1165, ⟨A ++ [(true, pn, (.branch sbln (.branch sblln sblll sbllr) tt_n))], by rw [tt_p_a, ← hA] <;> rfl⟩, i1165, F1165, ?_⟩) ⟨rfl, rfl, trivial⟩
                            first
                              | exact Or.inl (by simp only [List.length_cons, List.length_nil] at hln ⊢; omega)
                              | exact Or.inr ⟨by simp only [List.length_cons, List.length_nil] at hln; omega, Or.inr rfl⟩
                              | exact Or.inr ⟨by simp only [List.length_cons, List.length_nil] at hln; omega, Or.inl (by simp [tm_c])⟩
                        · have h1166 : tm_H z83 ct mp (tt_p Bx (.branch sbn (.branch pn (.branch xa xl xr) (.branch sbln (.branch sblln sblll sbllr) (.branch sblrn sblrl sblrr))) sbr)) K V (tm_c (tm_c D1 sbn (nI 1)) pn (nI 0)) vals sz md := h1143
                          have i1166 : tt_i (tt_p Bx (.branch sbn (.branch pn (.branch xa xl xr) (.branch sbln (.branch sblln sblll sbllr) (.branch sblrn sblrl sblrr))) sbr)) = L0 := i1143
                          have F1166 := F1143
                          have nd1166 := h1166.2.2.1
                          obtain ⟨⟨f1166_sbn, ⟨f1166_pn, ⟨f1166_xa, f1166_xl, f1166_xr⟩, ⟨f1166_sbln, ⟨f1166_sblln, f1166_sblll, f1166_sbllr⟩, ⟨f1166_sblrn, f1166_sblrl, f1166_sblrr⟩⟩⟩, f1166_sbr⟩, fK1166⟩ := (tt_H_p Bx (.branch sbn (.branch pn (.branch xa xl xr) (.branch sbln (.branch sblln sblll sbllr) (.branch sblrn sblrl sblrr))) sbr)).mp h1166.2.1
                          refine ri_callS C km_J19_colorOf q1125 dJ19_fixAfterDeletion_86 (mt_J19_colorOfR htr f1166_sblrn (h1166.2.2.2 sblrn)) rfl rfl ⟨⟨(Nat.le_of_ble_eq_true rfl), (Nat.le_of_ble_eq_true rfl)⟩, (Nat.le_of_ble_eq_true rfl), (Nat.le_of_ble_eq_true rfl), (Nat.le_of_ble_eq_true rfl)⟩ (fun v86 z86 q86 => ?_) (fun _ _ _ h => h.elim)
                          obtain ⟨rfl, rfl⟩ := q86
                          refine ri_iconst C dJ19_fixAfterDeletion_89 kc_i1 ?_
                          refine ri_icmp_ne C 106 dJ19_fixAfterDeletion_90 rfl (fun h90 => ?_) (fun h90 => ?_)
                          · refine ri_aload_n C dJ19_fixAfterDeletion_106 rfl ?_
                            refine ri_callS C km_J19_rightOf q1122 dJ19_fixAfterDeletion_107 (mt_J19_rightOfR htr (y := (some sblrn)) f1166_sbln) rfl rfl ⟨⟨(Nat.le_of_ble_eq_true rfl), (Nat.le_of_ble_eq_true rfl)⟩, (Nat.le_of_ble_eq_true rfl), (Nat.le_of_ble_eq_true rfl), (Nat.le_of_ble_eq_true rfl)⟩ (fun v107 z107 q107 => ?_) (fun _ _ _ h => h.elim)
                            obtain ⟨rfl, rfl⟩ := q107
                            refine ri_callS C km_J19_colorOf q1125 dJ19_fixAfterDeletion_110 (mt_J19_colorOfR htr f1166_sblrn (h1166.2.2.2 sblrn)) rfl rfl ⟨⟨(Nat.le_of_ble_eq_true rfl), (Nat.le_of_ble_eq_true rfl)⟩, (Nat.le_of_ble_eq_true rfl), (Nat.le_of_ble_eq_true rfl), (Nat.le_of_ble_eq_true rfl)⟩ (fun v110 z110 q110 => ?_) (fun _ _ _ h => h.elim)
                            obtain ⟨rfl, rfl⟩ := q110
                            refine ri_iconst C dJ19_fixAfterDeletion_113 kc_i1 ?_
                            refine ri_icmp_ne C 143 dJ19_fixAfterDeletion_114 rfl (fun h114 => ?_) (fun h114 => ?_)
                            · refine ri_aload_n C dJ19_fixAfterDeletion_143 rfl ?_
                              refine ri_aload_n C dJ19_fixAfterDeletion_144 rfl ?_
                              refine ri_callS C km_J19_parentOf q1116 dJ19_fixAfterDeletion_145 (mt_J19_parentOfR htr (y := (some pn)) f1166_xa) rfl rfl ⟨⟨(Nat.le_of_ble_eq_true rfl), (Nat.le_of_ble_eq_true rfl)⟩, (Nat.le_of_ble_eq_true rfl), (Nat.le_of_ble_eq_true rfl), (Nat.le_of_ble_eq_true rfl)⟩ (fun v145 z145 q145 => ?_) (fun _ _ _ h => h.elim)
                              obtain ⟨rfl, rfl⟩ := q145
                              refine ri_callS C km_J19_colorOf q1125 dJ19_fixAfterDeletion_148 (mt_J19_colorOfR htr f1166_pn (h1166.2.2.2 pn)) rfl rfl ⟨⟨(Nat.le_of_ble_eq_true rfl), (Nat.le_of_ble_eq_true rfl)⟩, (Nat.le_of_ble_eq_true rfl), (Nat.le_of_ble_eq_true rfl), (Nat.le_of_ble_eq_true rfl)⟩ (fun v148 z148 q148 => ?_) (fun _ _ _ h => h.elim)
                              obtain ⟨rfl, rfl⟩ := q148
                              refine ri_callS C km_J19_setColor q1128 dJ19_fixAfterDeletion_151 (mt_J19_setColorT htr h1166 (an := sbln) (by simp [tt_i_p, tt_p, tt_i]) (h1166.2.2.2 _)) rfl rfl ⟨⟨(Nat.le_of_ble_eq_true rfl), (Nat.le_of_ble_eq_true rfl)⟩, (Nat.le_of_ble_eq_true rfl), (Nat.le_of_ble_eq_true rfl), (Nat.le_of_ble_eq_true rfl)⟩ (fun v151 z151 q151 => ?_) (fun _ _ _ h => h.elim)
                              obtain ⟨rfl, h1167, e1167⟩ := q151
                              rw [i1166] at e1167
                              have i1167 := i1166
                              have F1167 := kx_Fr.tr F1166 e1167
                              obtain ⟨⟨f1167_sbn, ⟨f1167_pn, ⟨f1167_xa, f1167_xl, f1167_xr⟩, ⟨f1167_sbln, ⟨f1167_sblln, f1167_sblll, f1167_sbllr⟩, ⟨f1167_sblrn, f1167_sblrl, f1167_sblrr⟩⟩⟩, f1167_sbr⟩, fK1167⟩ := (tt_H_p Bx (.branch sbn (.branch pn (.branch xa xl xr) (.branch sbln (.branch sblln sblll sbllr) (.branch sblrn sblrl sblrr))) sbr)).mp h1167.2.1
                              refine ri_aload_n C dJ19_fixAfterDeletion_154 rfl ?_
                              refine ri_callS C km_J19_parentOf q1116 dJ19_fixAfterDeletion_155 (mt_J19_parentOfR htr (y := (some pn)) f1167_xa) rfl rfl ⟨⟨(Nat.le_of_ble_eq_true rfl), (Nat.le_of_ble_eq_true rfl)⟩, (Nat.le_of_ble_eq_true rfl), (Nat.le_of_ble_eq_true rfl), (Nat.le_of_ble_eq_true rfl)⟩ (fun v155 z155 q155 => ?_) (fun _ _ _ h => h.elim)
                              obtain ⟨rfl, rfl⟩ := q155
                              refine ri_iconst C dJ19_fixAfterDeletion_158 kc_i1 ?_
                              refine ri_callS C km_J19_setColor q1128 dJ19_fixAfterDeletion_159 (mt_J19_setColorT htr h1167 (an := pn) (by simp [tt_i_p, tt_p, tt_i]) (Or.inr rfl)) rfl rfl ⟨⟨(Nat.le_of_ble_eq_true rfl), (Nat.le_of_ble_eq_true rfl)⟩, (Nat.le_of_ble_eq_true rfl), (Nat.le_of_ble_eq_true rfl), (Nat.le_of_ble_eq_true rfl)⟩ (fun v159 z159 q159 => ?_) (fun _ _ _ h => h.elim)
                              obtain ⟨rfl, h1168, e1168⟩ := q159
                              rw [i1167] at e1168
                              have i1168 := i1167
                              have F1168 := kx_Fr.tr F1167 e1168
                              obtain ⟨⟨f1168_sbn, ⟨f1168_pn, ⟨f1168_xa, f1168_xl, f1168_xr⟩, ⟨f1168_sbln, ⟨f1168_sblln, f1168_sblll, f1168_sbllr⟩, ⟨f1168_sblrn, f1168_sblrl, f1168_sblrr⟩⟩⟩, f1168_sbr⟩, fK1168⟩ := (tt_H_p Bx (.branch sbn (.branch pn (.branch xa xl xr) (.branch sbln (.branch sblln sblll sbllr) (.branch sblrn sblrl sblrr))) sbr)).mp h1168.2.1
                              refine ri_aload_n C dJ19_fixAfterDeletion_162 rfl ?_
                              refine ri_callS C km_J19_rightOf q1122 dJ19_fixAfterDeletion_163 (mt_J19_rightOfR htr (y := (some sblrn)) f1168_sbln) rfl rfl ⟨⟨(Nat.le_of_ble_eq_true rfl), (Nat.le_of_ble_eq_true rfl)⟩, (Nat.le_of_ble_eq_true rfl), (Nat.le_of_ble_eq_true rfl), (Nat.le_of_ble_eq_true rfl)⟩ (fun v163 z163 q163 => ?_) (fun _ _ _ h => h.elim)
                              obtain ⟨rfl, rfl⟩ := q163
                              refine ri_iconst C dJ19_fixAfterDeletion_166 kc_i1 ?_
                              refine ri_callS C km_J19_setColor q1128 dJ19_fixAfterDeletion_167 (mt_J19_setColorT htr h1168 (an := sblrn) (by simp [tt_i_p, tt_p, tt_i]) (Or.inr rfl)) rfl rfl ⟨⟨(Nat.le_of_ble_eq_true rfl), (Nat.le_of_ble_eq_true rfl)⟩, (Nat.le_of_ble_eq_true rfl), (Nat.le_of_ble_eq_true rfl), (Nat.le_of_ble_eq_true rfl)⟩ (fun v167 z167 q167 => ?_) (fun _ _ _ h => h.elim)
                              obtain ⟨rfl, h1169, e1169⟩ := q167
                              rw [i1168] at e1169
                              have i1169 := i1168
                              have F1169 := kx_Fr.tr F1168 e1169
                              obtain ⟨⟨f1169_sbn, ⟨f1169_pn, ⟨f1169_xa, f1169_xl, f1169_xr⟩, ⟨f1169_sbln, ⟨f1169_sblln, f1169_sblll, f1169_sbllr⟩, ⟨f1169_sblrn, f1169_sblrl, f1169_sblrr⟩⟩⟩, f1169_sbr⟩, fK1169⟩ := (tt_H_p Bx (.branch sbn (.branch pn (.branch xa xl xr) (.branch sbln (.branch sblln sblll sbllr) (.branch sblrn sblrl sblrr))) sbr)).mp h1169.2.1
                              refine ri_aload_n C dJ19_fixAfterDeletion_170 rfl ?_
                              refine ri_aload_n C dJ19_fixAfterDeletion_171 rfl ?_
                              refine ri_callS C km_J19_parentOf q1116 dJ19_fixAfterDeletion_172 (mt_J19_parentOfR htr (y := (some pn)) f1169_xa) rfl rfl ⟨⟨(Nat.le_of_ble_eq_true rfl), (Nat.le_of_ble_eq_true rfl)⟩, (Nat.le_of_ble_eq_true rfl), (Nat.le_of_ble_eq_true rfl), (Nat.le_of_ble_eq_true rfl)⟩ (fun v172 z172 q172 => ?_) (fun _ _ _ h => h.elim)
                              obtain ⟨rfl, rfl⟩ := q172
                              refine ri_callV C km_J19_rotateLeft q1131 qs9 dJ19_fixAfterDeletion_175 (mt_J19_rotateLeft htr (Bx := ((true, sbn, sbr) :: Bx)) (pn := pn) (rn := sbln) (ta := (.branch xa xl xr)) (tb := (.branch sblln sblll sbllr)) (td := (.branch sblrn sblrl sblrr)) h1169) rfl rfl (kx_rcN C h1169.1 rfl) ⟨⟨(Nat.le_of_ble_eq_true rfl), (Nat.le_of_ble_eq_true rfl)⟩, (Nat.le_of_ble_eq_true rfl), (Nat.le_of_ble_eq_true rfl), (Nat.le_of_ble_eq_true rfl)⟩ (fun v175 z175 q175 => ?_) (fun _ _ _ h => h.elim)
                              obtain ⟨rfl, H1170, e1170⟩ := q175
                              have h1170 : tm_H z175 ct mp (tt_p Bx (.branch sbn (.branch sbln (.branch pn (.branch xa xl xr) (.branch sblln sblll sbllr)) (.branch sblrn sblrl sblrr)) sbr)) K V (tm_c (tm_c (tm_c (tm_c (tm_c D1 sbn (nI 1)) pn (nI 0)) sbln ((tm_c (tm_c D1 sbn (nI 1)) pn (nI 0)) pn)) pn (nI 1)) sblrn (nI 1)) vals sz md := H1170
                              have e1170 : kx_Fr (tm_T ct (tt_i (tt_p Bx (.branch sbn (.branch pn (.branch xa xl xr) (.branch sbln (.branch sblln sblll sbllr) (.branch sblrn sblrl sblrr))) sbr)))) z172 z175 := e1170
                              rw [i1169] at e1170
                              have i1170 : tt_i (tt_p Bx (.branch sbn (.branch sbln (.branch pn (.branch xa xl xr) (.branch sblln sblll sbllr)) (.branch sblrn sblrl sblrr)) sbr)) = L0 := (by rw [← i1169]; simp [tt_i_p, tt_p, tt_i])
                              have F1170 := kx_Fr.tr F1169 e1170
                              obtain ⟨⟨f1170_sbn, ⟨f1170_sbln, ⟨f1170_pn, ⟨f1170_xa, f1170_xl, f1170_xr⟩, ⟨f1170_sblln, f1170_sblll, f1170_sbllr⟩⟩, ⟨f1170_sblrn, f1170_sblrl, f1170_sblrr⟩⟩, f1170_sbr⟩, fK1170⟩ := (tt_H_p Bx (.branch sbn (.branch sbln (.branch pn (.branch xa xl xr) (.branch sblln sblll sbllr)) (.branch sblrn sblrl sblrr)) sbr)).mp h1170.2.1
                              refine ri_aload_n C dJ19_fixAfterDeletion_178 rfl ?_
                              refine ri_getf C dJ19_fixAfterDeletion_179 fr_q577_18 h1170.1 (by rfl) ?_
                              refine ri_astore_nQ (x := (tt_r (tt_p Bx (.branch sbn (.branch sbln (.branch pn (.branch xa xl xr) (.branch sblln sblll sbllr)) (.branch sblrn sblrl sblrr)) sbr)))) C dJ19_fixAfterDeletion_182 rfl (by decide) ?_
                              refine ri_goto C 0 dJ19_fixAfterDeletion_183 rfl ?_
                              obtain ⟨rn9, rl9, rr9, hr9⟩ : ∃ rn rl rr, (tt_p Bx (.branch sbn (.branch sbln (.branch pn (.branch xa xl xr) (.branch sblln sblll sbllr)) (.branch sblrn sblrl sblrr)) sbr)) = .branch rn rl rr := tt_rt Bx
                              have hh9 : tm_H z175 ct mp (tt_p [] (.branch rn9 rl9 rr9)) K V (tm_c (tm_c (tm_c (tm_c (tm_c D1 sbn (nI 1)) pn (nI 0)) sbln ((tm_c (tm_c D1 sbn (nI 1)) pn (nI 0)) pn)) pn (nI 1)) sblrn (nI 1)) vals sz md := (by show tm_H _ _ _ (.branch rn9 rl9 rr9) _ _ _ _ _ _; rw [← hr9]; exact h1170)
                              have ii9 : tt_i (tt_p [] (.branch rn9 rl9 rr9)) = L0 := (by show tt_i (.branch rn9 rl9 rr9) = L0; rw [← hr9]; exact i1170)
                              rw [hr9]
                              refine ri_lv2 (ih (i + 1) [] rn9 rl9 rr9 _ _ (by omega) (by omega) ⟨hh9, ⟨A ++ ((true, pn, (.branch sblln sblll sbllr)) :: (true, sbln, (.branch sblrn sblrl sblrr)) :: (true, sbn, sbr) :: Bx), by rw [tt_p_a, ← hA, ← hr9] <;> rfl⟩, ii9, F1170, ?_⟩) ⟨rfl, rfl, trivial⟩
                              first
                                | exact Or.inl (by simp only [List.length_cons, List.length_nil] at hln ⊢; omega)
                                | exact Or.inr ⟨by simp only [List.length_cons, List.length_nil] at hln; omega, Or.inr rfl⟩
                                | exact Or.inr ⟨by simp only [List.length_cons, List.length_nil] at hln; omega, Or.inl (by simp [tm_c])⟩
                            · exact absurd h114 h90
                          · refine ri_aload_n C dJ19_fixAfterDeletion_93 rfl ?_
                            refine ri_iconst C dJ19_fixAfterDeletion_94 kc_i0 ?_
                            refine ri_callS C km_J19_setColor q1128 dJ19_fixAfterDeletion_95 (mt_J19_setColorT htr h1166 (an := sbln) (by simp [tt_i_p, tt_p, tt_i]) (Or.inl rfl)) rfl rfl ⟨⟨(Nat.le_of_ble_eq_true rfl), (Nat.le_of_ble_eq_true rfl)⟩, (Nat.le_of_ble_eq_true rfl), (Nat.le_of_ble_eq_true rfl), (Nat.le_of_ble_eq_true rfl)⟩ (fun v95 z95 q95 => ?_) (fun _ _ _ h => h.elim)
                            obtain ⟨rfl, h1171, e1171⟩ := q95
                            rw [i1166] at e1171
                            have i1171 := i1166
                            have F1171 := kx_Fr.tr F1166 e1171
                            obtain ⟨⟨f1171_sbn, ⟨f1171_pn, ⟨f1171_xa, f1171_xl, f1171_xr⟩, ⟨f1171_sbln, ⟨f1171_sblln, f1171_sblll, f1171_sbllr⟩, ⟨f1171_sblrn, f1171_sblrl, f1171_sblrr⟩⟩⟩, f1171_sbr⟩, fK1171⟩ := (tt_H_p Bx (.branch sbn (.branch pn (.branch xa xl xr) (.branch sbln (.branch sblln sblll sbllr) (.branch sblrn sblrl sblrr))) sbr)).mp h1171.2.1
                            refine ri_aload_n C dJ19_fixAfterDeletion_98 rfl ?_
                            refine ri_callS C km_J19_parentOf q1116 dJ19_fixAfterDeletion_99 (mt_J19_parentOfR htr (y := (some pn)) f1171_xa) rfl rfl ⟨⟨(Nat.le_of_ble_eq_true rfl), (Nat.le_of_ble_eq_true rfl)⟩, (Nat.le_of_ble_eq_true rfl), (Nat.le_of_ble_eq_true rfl), (Nat.le_of_ble_eq_true rfl)⟩ (fun v99 z99 q99 => ?_) (fun _ _ _ h => h.elim)
                            obtain ⟨rfl, rfl⟩ := q99
                            refine ri_astore_n (x := pn) C dJ19_fixAfterDeletion_102 rfl (by decide) ?_
                            refine ri_goto C 183 dJ19_fixAfterDeletion_103 rfl ?_
                            refine ri_goto C 0 dJ19_fixAfterDeletion_183 rfl ?_
                            refine ri_lv2 (ih (i + 1) ((true, sbn, sbr) :: Bx) pn (.branch xa xl xr) (.branch sbln (.branch sblln sblll sbllr) (.branch sblrn sblrl sblrr)) _ _ (by omega) (by omega) ⟨h1171, ⟨A ++ [(true, pn, (.branch sbln (.branch sblln sblll sbllr) (.branch sblrn sblrl sblrr)))], by rw [tt_p_a, ← hA] <;> rfl⟩, i1171, F1171, ?_⟩) ⟨rfl, rfl, trivial⟩
                            first
                              | exact Or.inl (by simp only [List.length_cons, List.length_nil] at hln ⊢; omega)
                              | exact Or.inr ⟨by simp only [List.length_cons, List.length_nil] at hln; omega, Or.inr rfl⟩
                              | exact Or.inr ⟨by simp only [List.length_cons, List.length_nil] at hln; omega, Or.inl (by simp [tm_c])⟩
  exact LP (L0.length + 6) 0 Bx xa xl xr D _ (by omega) (by omega) ⟨h, ⟨[], hP0.symm⟩, hL0.symm, kx_Fr.rf, Or.inl (by omega)⟩
